section
-- ===== PART A: goes FIRST, ahead of the names: the tables' words, and 'selects' of the private methods out of them =====
/-- a private method of a class that the tables say can be made, by its rows of tables_1 -/
def lw_okq (q : MethodName × Nat) : Prop := (q.1.cls ≠ "java/lang/invoke/MethodHandle" ∧ q.1.cls ≠ "java/lang/invoke/VarHandle") ∧ Cond.instantiable q.1.cls q.2 ∈ tables_1 ∧ Cond.privateMethod q.1 ∈ tables_1 ∧ Cond.instanceMethod q.1 ∈ tables_1
set_option maxRecDepth 100000
theorem lw_t1 {w : Cond} (h : w ∈ tables_1_1) : w ∈ tables_1 := List.mem_append_left _ h
theorem lw_t2 {w : Cond} (h : w ∈ tables_1_2) : w ∈ tables_1 := List.mem_append_right _ h
theorem lw_p0 : lw_okq (⟨"PersistentHeap", "isRegister", "(I)Z"⟩, 16) := ⟨⟨by decide +kernel, by decide +kernel⟩, lw_t1 (List.mem_of_getElem? (i := 4) rfl), lw_t1 (List.mem_of_getElem? (i := 68) rfl), lw_t1 (List.mem_of_getElem? (i := 69) rfl)⟩
theorem lw_p1 : lw_okq (⟨"PersistentHeap", "neededSet", "()I"⟩, 16) := ⟨⟨by decide +kernel, by decide +kernel⟩, lw_t1 (List.mem_of_getElem? (i := 4) rfl), lw_t1 (List.mem_of_getElem? (i := 72) rfl), lw_t1 (List.mem_of_getElem? (i := 73) rfl)⟩
theorem lw_p2 : lw_okq (⟨"PersistentHeap", "presentRoots", "()I"⟩, 16) := ⟨⟨by decide +kernel, by decide +kernel⟩, lw_t1 (List.mem_of_getElem? (i := 4) rfl), lw_t1 (List.mem_of_getElem? (i := 76) rfl), lw_t1 (List.mem_of_getElem? (i := 77) rfl)⟩
theorem lw_p3 : lw_okq (⟨"PersistentHeap", "bitOf", "(I)I"⟩, 16) := ⟨⟨by decide +kernel, by decide +kernel⟩, lw_t1 (List.mem_of_getElem? (i := 4) rfl), lw_t1 (List.mem_of_getElem? (i := 80) rfl), lw_t1 (List.mem_of_getElem? (i := 81) rfl)⟩
theorem lw_p4 : lw_okq (⟨"PersistentHeap", "spread", "(IZ)I"⟩, 16) := ⟨⟨by decide +kernel, by decide +kernel⟩, lw_t1 (List.mem_of_getElem? (i := 4) rfl), lw_t1 (List.mem_of_getElem? (i := 84) rfl), lw_t1 (List.mem_of_getElem? (i := 85) rfl)⟩
theorem lw_p5 : lw_okq (⟨"PersistentHeap", "oldFields", "(I)I"⟩, 16) := ⟨⟨by decide +kernel, by decide +kernel⟩, lw_t1 (List.mem_of_getElem? (i := 4) rfl), lw_t1 (List.mem_of_getElem? (i := 88) rfl), lw_t1 (List.mem_of_getElem? (i := 89) rfl)⟩
theorem lw_p6 : lw_okq (⟨"PersistentHeap", "countOf", "(I)I"⟩, 16) := ⟨⟨by decide +kernel, by decide +kernel⟩, lw_t1 (List.mem_of_getElem? (i := 4) rfl), lw_t1 (List.mem_of_getElem? (i := 92) rfl), lw_t1 (List.mem_of_getElem? (i := 93) rfl)⟩
theorem lw_p7 : lw_okq (⟨"PersistentHeap", "move", "(I)V"⟩, 16) := ⟨⟨by decide +kernel, by decide +kernel⟩, lw_t1 (List.mem_of_getElem? (i := 4) rfl), lw_t1 (List.mem_of_getElem? (i := 100) rfl), lw_t1 (List.mem_of_getElem? (i := 101) rfl)⟩
theorem lw_p8 : lw_okq (⟨"PersistentHeap", "moved", "(I)I"⟩, 16) := ⟨⟨by decide +kernel, by decide +kernel⟩, lw_t1 (List.mem_of_getElem? (i := 4) rfl), lw_t1 (List.mem_of_getElem? (i := 104) rfl), lw_t1 (List.mem_of_getElem? (i := 105) rfl)⟩
theorem lw_p9 : lw_okq (⟨"PersistentHeap", "moveOldFields", "(I)V"⟩, 16) := ⟨⟨by decide +kernel, by decide +kernel⟩, lw_t1 (List.mem_of_getElem? (i := 4) rfl), lw_t1 (List.mem_of_getElem? (i := 108) rfl), lw_t1 (List.mem_of_getElem? (i := 109) rfl)⟩
theorem lw_p10 : lw_okq (⟨"PersistentHeap", "moveList", "(I)V"⟩, 16) := ⟨⟨by decide +kernel, by decide +kernel⟩, lw_t1 (List.mem_of_getElem? (i := 4) rfl), lw_t1 (List.mem_of_getElem? (i := 112) rfl), lw_t1 (List.mem_of_getElem? (i := 113) rfl)⟩
theorem lw_p11 : lw_okq (⟨"PersistentHeap", "settle", "()V"⟩, 16) := ⟨⟨by decide +kernel, by decide +kernel⟩, lw_t1 (List.mem_of_getElem? (i := 4) rfl), lw_t1 (List.mem_of_getElem? (i := 116) rfl), lw_t1 (List.mem_of_getElem? (i := 117) rfl)⟩
theorem lw_p12 : lw_okq (⟨"PersistentHeap", "forgetListed", "()V"⟩, 16) := ⟨⟨by decide +kernel, by decide +kernel⟩, lw_t1 (List.mem_of_getElem? (i := 4) rfl), lw_t1 (List.mem_of_getElem? (i := 120) rfl), lw_t1 (List.mem_of_getElem? (i := 121) rfl)⟩
theorem lw_p13 : lw_okq (⟨"PersistentHeap", "isRoot", "(I)Z"⟩, 16) := ⟨⟨by decide +kernel, by decide +kernel⟩, lw_t1 (List.mem_of_getElem? (i := 4) rfl), lw_t1 (List.mem_of_getElem? (i := 128) rfl), lw_t1 (List.mem_of_getElem? (i := 129) rfl)⟩
theorem lw_p14 : lw_okq (⟨"PersistentHeap", "note", "(II)V"⟩, 16) := ⟨⟨by decide +kernel, by decide +kernel⟩, lw_t1 (List.mem_of_getElem? (i := 4) rfl), lw_t1 (List.mem_of_getElem? (i := 136) rfl), lw_t1 (List.mem_of_getElem? (i := 137) rfl)⟩
theorem lw_p15 : lw_okq (⟨"PersistentHeap", "fromRoots", "()I"⟩, 16) := ⟨⟨by decide +kernel, by decide +kernel⟩, lw_t1 (List.mem_of_getElem? (i := 4) rfl), lw_t1 (List.mem_of_getElem? (i := 168) rfl), lw_t1 (List.mem_of_getElem? (i := 169) rfl)⟩
def lw_privs_1 : List (MethodName × Nat) := [(⟨"PersistentHeap", "isRegister", "(I)Z"⟩, 16), (⟨"PersistentHeap", "neededSet", "()I"⟩, 16), (⟨"PersistentHeap", "presentRoots", "()I"⟩, 16), (⟨"PersistentHeap", "bitOf", "(I)I"⟩, 16), (⟨"PersistentHeap", "spread", "(IZ)I"⟩, 16), (⟨"PersistentHeap", "oldFields", "(I)I"⟩, 16), (⟨"PersistentHeap", "countOf", "(I)I"⟩, 16), (⟨"PersistentHeap", "move", "(I)V"⟩, 16), (⟨"PersistentHeap", "moved", "(I)I"⟩, 16), (⟨"PersistentHeap", "moveOldFields", "(I)V"⟩, 16), (⟨"PersistentHeap", "moveList", "(I)V"⟩, 16), (⟨"PersistentHeap", "settle", "()V"⟩, 16), (⟨"PersistentHeap", "forgetListed", "()V"⟩, 16), (⟨"PersistentHeap", "isRoot", "(I)Z"⟩, 16), (⟨"PersistentHeap", "note", "(II)V"⟩, 16), (⟨"PersistentHeap", "fromRoots", "()I"⟩, 16)]
theorem lw_r1 : ∀ q ∈ lw_privs_1, lw_okq q := List.forall_mem_cons.mpr ⟨lw_p0, List.forall_mem_cons.mpr ⟨lw_p1, List.forall_mem_cons.mpr ⟨lw_p2, List.forall_mem_cons.mpr ⟨lw_p3, List.forall_mem_cons.mpr ⟨lw_p4, List.forall_mem_cons.mpr ⟨lw_p5, List.forall_mem_cons.mpr ⟨lw_p6, List.forall_mem_cons.mpr ⟨lw_p7, List.forall_mem_cons.mpr ⟨lw_p8, List.forall_mem_cons.mpr ⟨lw_p9, List.forall_mem_cons.mpr ⟨lw_p10, List.forall_mem_cons.mpr ⟨lw_p11, List.forall_mem_cons.mpr ⟨lw_p12, List.forall_mem_cons.mpr ⟨lw_p13, List.forall_mem_cons.mpr ⟨lw_p14, List.forall_mem_cons.mpr ⟨lw_p15, fun _ h => absurd h List.not_mem_nil⟩⟩⟩⟩⟩⟩⟩⟩⟩⟩⟩⟩⟩⟩⟩⟩
theorem lw_p16 : lw_okq (⟨"PersistentHeap", "putBack", "()V"⟩, 16) := ⟨⟨by decide +kernel, by decide +kernel⟩, lw_t1 (List.mem_of_getElem? (i := 4) rfl), lw_t1 (List.mem_of_getElem? (i := 176) rfl), lw_t1 (List.mem_of_getElem? (i := 177) rfl)⟩
theorem lw_p17 : lw_okq (⟨"PersistentHeap", "startAgain", "()V"⟩, 16) := ⟨⟨by decide +kernel, by decide +kernel⟩, lw_t1 (List.mem_of_getElem? (i := 4) rfl), lw_t1 (List.mem_of_getElem? (i := 184) rfl), lw_t1 (List.mem_of_getElem? (i := 185) rfl)⟩
theorem lw_p18 : lw_okq (⟨"PersistentHeapModel", "isRegister", "(I)Z"⟩, 9) := ⟨⟨by decide +kernel, by decide +kernel⟩, lw_t1 (List.mem_of_getElem? (i := 201) rfl), lw_t1 (List.mem_of_getElem? (i := 239) rfl), lw_t2 (List.mem_of_getElem? (i := 0) rfl)⟩
theorem lw_p19 : lw_okq (⟨"PersistentHeapModel", "need", "()I"⟩, 9) := ⟨⟨by decide +kernel, by decide +kernel⟩, lw_t1 (List.mem_of_getElem? (i := 201) rfl), lw_t2 (List.mem_of_getElem? (i := 3) rfl), lw_t2 (List.mem_of_getElem? (i := 4) rfl)⟩
theorem lw_p20 : lw_okq (⟨"PersistentHeapModel", "forget", "()V"⟩, 9) := ⟨⟨by decide +kernel, by decide +kernel⟩, lw_t1 (List.mem_of_getElem? (i := 201) rfl), lw_t2 (List.mem_of_getElem? (i := 7) rfl), lw_t2 (List.mem_of_getElem? (i := 8) rfl)⟩
theorem lw_p21 : lw_okq (⟨"PersistentHeapModel", "follow", "(Z)I"⟩, 9) := ⟨⟨by decide +kernel, by decide +kernel⟩, lw_t1 (List.mem_of_getElem? (i := 201) rfl), lw_t2 (List.mem_of_getElem? (i := 11) rfl), lw_t2 (List.mem_of_getElem? (i := 12) rfl)⟩
theorem lw_p22 : lw_okq (⟨"PersistentHeapModel", "isRoot", "(I)Z"⟩, 9) := ⟨⟨by decide +kernel, by decide +kernel⟩, lw_t1 (List.mem_of_getElem? (i := 201) rfl), lw_t2 (List.mem_of_getElem? (i := 19) rfl), lw_t2 (List.mem_of_getElem? (i := 20) rfl)⟩
theorem lw_p23 : lw_okq (⟨"PersistentHeapModel", "fromRoots", "()I"⟩, 9) := ⟨⟨by decide +kernel, by decide +kernel⟩, lw_t1 (List.mem_of_getElem? (i := 201) rfl), lw_t2 (List.mem_of_getElem? (i := 55) rfl), lw_t2 (List.mem_of_getElem? (i := 56) rfl)⟩
def lw_privs_2 : List (MethodName × Nat) := [(⟨"PersistentHeap", "putBack", "()V"⟩, 16), (⟨"PersistentHeap", "startAgain", "()V"⟩, 16), (⟨"PersistentHeapModel", "isRegister", "(I)Z"⟩, 9), (⟨"PersistentHeapModel", "need", "()I"⟩, 9), (⟨"PersistentHeapModel", "forget", "()V"⟩, 9), (⟨"PersistentHeapModel", "follow", "(Z)I"⟩, 9), (⟨"PersistentHeapModel", "isRoot", "(I)Z"⟩, 9), (⟨"PersistentHeapModel", "fromRoots", "()I"⟩, 9)]
theorem lw_r2 : ∀ q ∈ lw_privs_2, lw_okq q := List.forall_mem_cons.mpr ⟨lw_p16, List.forall_mem_cons.mpr ⟨lw_p17, List.forall_mem_cons.mpr ⟨lw_p18, List.forall_mem_cons.mpr ⟨lw_p19, List.forall_mem_cons.mpr ⟨lw_p20, List.forall_mem_cons.mpr ⟨lw_p21, List.forall_mem_cons.mpr ⟨lw_p22, List.forall_mem_cons.mpr ⟨lw_p23, fun _ h => absurd h List.not_mem_nil⟩⟩⟩⟩⟩⟩⟩⟩
def lw_privs : List (MethodName × Nat) := lw_privs_1 ++ (lw_privs_2)
def lw_tbl : List Cond := k2_sels lw_privs ++ tables_1
theorem lw_privs_ok : ∀ q ∈ lw_privs, lw_okq q := by
  show ∀ q ∈ lw_privs_1 ++ (lw_privs_2), lw_okq q
  exact List.forall_mem_append.mpr ⟨lw_r1, lw_r2⟩
-- ===== ONE list of words for every method: the tables' words that hold all through a run =====
def lw_all : List Cond := lw_tbl.filter goodWord
/-- a word of the tables by its place: claim/WORDS.tsv -/
theorem lw_w {w : Cond} (i : Nat) (h : lw_tbl[i]? = some w) (g : goodWord w = true) : w ∈ lw_all := List.mem_filter.mpr ⟨List.mem_of_getElem? h, g⟩
theorem lw_all_tbl {w : Cond} (h : w ∈ lw_all) : w ∈ lw_tbl := (List.mem_filter.mp h).1
theorem lw_self : GoodIn lw_all lw_all := fun w h => ⟨h, good_of_word (List.mem_filter.mp h).2⟩
/-- a class's field words, by their places -/
theorem lw_in (ws : List Cond) (ps : List Nat) (hp : ws = ps.filterMap (fun i => lw_tbl[i]?)) (hg : ws.all goodWord = true) : ∀ w ∈ ws, w ∈ lw_all := by
  intro w h
  have h1 := List.all_eq_true.mp hg w h
  rw [hp] at h
  obtain ⟨i, -, hi⟩ := List.mem_filterMap.mp h
  exact lw_w i hi h1
/-- the words of a contract for the method y with code b, L locals, answer r -/
abbrev ws_ (y : MethodName) (b : ByteArray) (L : Nat) (r : Option FieldType) : List Cond := Cond.code y b L r :: lw_all
theorem lw_meth {y : MethodName} {b : ByteArray} {L : Nat} {r : Option FieldType} (h : Cond.code y b L r ∈ lw_all) : GoodIn lw_all (ws_ y b L r) := by
  intro w hw
  rcases List.mem_cons.mp hw with e | e
  · rw [e]
    exact lw_self _ h
  · exact lw_self _ e
theorem lw_app {a c : List Cond} (ha : ∀ w ∈ a, w ∈ lw_all) (hc : GoodIn lw_all c) : GoodIn lw_all (a ++ c) := by
  intro w hw
  rcases List.mem_append.mp hw with e | e
  · exact lw_self w (ha w e)
  · exact hc w e
/-- what a call through an object asks: cwV n hts (lw_V ..) -/
theorem lw_V {own : String} {idx : Nat} {C : String} {y : MethodName} {b : ByteArray} {L : Nat} {r : Option FieldType} (h1 : Cond.methodLink own idx y ∈ lw_all) (h2 : Cond.instanceMethod y ∈ lw_all) (h3 : Cond.selects C y y ∈ lw_all) (h4 : Cond.initialized C ∈ lw_all) (h5 : Cond.code y b L r ∈ lw_all) : GoodIn lw_all (wsV own idx C y (ws_ y b L r)) := by
  refine lw_app ?_ (lw_meth h5)
  intro w hw
  simp only [List.mem_cons, List.not_mem_nil, or_false] at hw
  rcases hw with e | e | e | e
  · rw [e]; exact h1
  · rw [e]; exact h2
  · rw [e]; exact h3
  · rw [e]; exact h4
/-- what a static call asks: va_cwS n hts (lw_S ..) -/
theorem lw_S {own : String} {idx : Nat} {y : MethodName} {b : ByteArray} {L : Nat} {r : Option FieldType} (h1 : Cond.methodLink own idx y ∈ lw_all) (h2 : Cond.static y ∈ lw_all) (h3 : Cond.initialized y.cls ∈ lw_all) (h4 : Cond.code y b L r ∈ lw_all) : GoodIn lw_all (va_wsS own idx y (ws_ y b L r)) := by
  refine lw_app ?_ (lw_meth h4)
  intro w hw
  simp only [List.mem_cons, List.not_mem_nil, or_false] at hw
  rcases hw with e | e | e
  · rw [e]; exact h1
  · rw [e]; exact h2
  · rw [e]; exact h3
/-- the words of a contract for a method WITH HANDLERS (hh: its table) -/
abbrev wsW_ (y : MethodName) (b : ByteArray) (L : Nat) (r : Option FieldType) (hh : List (Nat × Nat × Nat × Nat)) : List Cond := Cond.codeWith y b L r hh :: lw_all
theorem lw_methW {y : MethodName} {b : ByteArray} {L : Nat} {r : Option FieldType} {hh : List (Nat × Nat × Nat × Nat)} (h : Cond.codeWith y b L r hh ∈ lw_all) : GoodIn lw_all (wsW_ y b L r hh) := by
  intro w hw
  rcases List.mem_cons.mp hw with e | e
  · rw [e]
    exact lw_self _ h
  · exact lw_self _ e
/-- any list of words by their places (lw_in), good -/
theorem lw_good {ws : List Cond} (h : ∀ w ∈ ws, w ∈ lw_all) : GoodIn lw_all ws := fun w hw => lw_self w (h w hw)
/-- what a call of a method with handlers asks: vx_cwVW n hts (lw_VW ..), vx_cwSW n hts (lw_SW ..) -/
theorem lw_VW {own : String} {idx : Nat} {C : String} {y : MethodName} {b : ByteArray} {L : Nat} {r : Option FieldType} {hh : List (Nat × Nat × Nat × Nat)} (h1 : Cond.methodLink own idx y ∈ lw_all) (h2 : Cond.instanceMethod y ∈ lw_all) (h3 : Cond.selects C y y ∈ lw_all) (h4 : Cond.initialized C ∈ lw_all) (h5 : Cond.codeWith y b L r hh ∈ lw_all) : GoodIn lw_all (wsV own idx C y (wsW_ y b L r hh)) := by
  refine lw_app ?_ (lw_methW h5)
  intro w hw
  simp only [List.mem_cons, List.not_mem_nil, or_false] at hw
  rcases hw with e | e | e | e
  · rw [e]; exact h1
  · rw [e]; exact h2
  · rw [e]; exact h3
  · rw [e]; exact h4
theorem lw_SW {own : String} {idx : Nat} {y : MethodName} {b : ByteArray} {L : Nat} {r : Option FieldType} {hh : List (Nat × Nat × Nat × Nat)} (h1 : Cond.methodLink own idx y ∈ lw_all) (h2 : Cond.static y ∈ lw_all) (h3 : Cond.initialized y.cls ∈ lw_all) (h4 : Cond.codeWith y b L r hh ∈ lw_all) : GoodIn lw_all (va_wsS own idx y (wsW_ y b L r hh)) := by
  refine lw_app ?_ (lw_methW h4)
  intro w hw
  simp only [List.mem_cons, List.not_mem_nil, or_false] at hw
  rcases hw with e | e | e
  · rw [e]; exact h1
  · rw [e]; exact h2
  · rw [e]; exact h3
/-- a word by its place in its run of the tables -/
theorem lw_at {r : List Cond} (hr : ∀ w ∈ r, w ∈ lw_tbl) {w : Cond} (i : Nat) (h : r[i]? = some w) : w ∈ lw_tbl := hr w (List.mem_of_getElem? h)
theorem lw_g {w : Cond} (h : w ∈ lw_tbl) (g : goodWord w = true) : w ∈ lw_all := List.mem_filter.mpr ⟨h, g⟩
theorem lw_ms : ∀ w ∈ k2_sels lw_privs, w ∈ lw_tbl := fun w h => show w ∈ k2_sels lw_privs ++ tables_1 from List.mem_append_left _ h
theorem lw_m1 : ∀ w ∈ tables_1_1, w ∈ lw_tbl := fun w h => show w ∈ k2_sels lw_privs ++ tables_1 from List.mem_append_right (k2_sels lw_privs) (show w ∈ tables_1 from List.mem_append_left _ h)
theorem lw_m2 : ∀ w ∈ tables_1_2, w ∈ lw_tbl := fun w h => show w ∈ k2_sels lw_privs ++ tables_1 from List.mem_append_right (k2_sels lw_privs) (show w ∈ tables_1 from List.mem_append_right _ h)
theorem qs0 : (Cond.selects "PersistentHeap" ⟨"PersistentHeap", "isRegister", "(I)Z"⟩ ⟨"PersistentHeap", "isRegister", "(I)Z"⟩) ∈ lw_all := lw_g (lw_at lw_ms 0 rfl) rfl
theorem qs1 : (Cond.selects "PersistentHeap" ⟨"PersistentHeap", "neededSet", "()I"⟩ ⟨"PersistentHeap", "neededSet", "()I"⟩) ∈ lw_all := lw_g (lw_at lw_ms 1 rfl) rfl
theorem qs2 : (Cond.selects "PersistentHeap" ⟨"PersistentHeap", "presentRoots", "()I"⟩ ⟨"PersistentHeap", "presentRoots", "()I"⟩) ∈ lw_all := lw_g (lw_at lw_ms 2 rfl) rfl
theorem qs3 : (Cond.selects "PersistentHeap" ⟨"PersistentHeap", "bitOf", "(I)I"⟩ ⟨"PersistentHeap", "bitOf", "(I)I"⟩) ∈ lw_all := lw_g (lw_at lw_ms 3 rfl) rfl
theorem qs4 : (Cond.selects "PersistentHeap" ⟨"PersistentHeap", "spread", "(IZ)I"⟩ ⟨"PersistentHeap", "spread", "(IZ)I"⟩) ∈ lw_all := lw_g (lw_at lw_ms 4 rfl) rfl
theorem qs5 : (Cond.selects "PersistentHeap" ⟨"PersistentHeap", "oldFields", "(I)I"⟩ ⟨"PersistentHeap", "oldFields", "(I)I"⟩) ∈ lw_all := lw_g (lw_at lw_ms 5 rfl) rfl
theorem qs6 : (Cond.selects "PersistentHeap" ⟨"PersistentHeap", "countOf", "(I)I"⟩ ⟨"PersistentHeap", "countOf", "(I)I"⟩) ∈ lw_all := lw_g (lw_at lw_ms 6 rfl) rfl
theorem qs7 : (Cond.selects "PersistentHeap" ⟨"PersistentHeap", "move", "(I)V"⟩ ⟨"PersistentHeap", "move", "(I)V"⟩) ∈ lw_all := lw_g (lw_at lw_ms 7 rfl) rfl
theorem qs8 : (Cond.selects "PersistentHeap" ⟨"PersistentHeap", "moved", "(I)I"⟩ ⟨"PersistentHeap", "moved", "(I)I"⟩) ∈ lw_all := lw_g (lw_at lw_ms 8 rfl) rfl
theorem qs9 : (Cond.selects "PersistentHeap" ⟨"PersistentHeap", "moveOldFields", "(I)V"⟩ ⟨"PersistentHeap", "moveOldFields", "(I)V"⟩) ∈ lw_all := lw_g (lw_at lw_ms 9 rfl) rfl
theorem qs10 : (Cond.selects "PersistentHeap" ⟨"PersistentHeap", "moveList", "(I)V"⟩ ⟨"PersistentHeap", "moveList", "(I)V"⟩) ∈ lw_all := lw_g (lw_at lw_ms 10 rfl) rfl
theorem qs11 : (Cond.selects "PersistentHeap" ⟨"PersistentHeap", "settle", "()V"⟩ ⟨"PersistentHeap", "settle", "()V"⟩) ∈ lw_all := lw_g (lw_at lw_ms 11 rfl) rfl
theorem qs12 : (Cond.selects "PersistentHeap" ⟨"PersistentHeap", "forgetListed", "()V"⟩ ⟨"PersistentHeap", "forgetListed", "()V"⟩) ∈ lw_all := lw_g (lw_at lw_ms 12 rfl) rfl
theorem qs13 : (Cond.selects "PersistentHeap" ⟨"PersistentHeap", "isRoot", "(I)Z"⟩ ⟨"PersistentHeap", "isRoot", "(I)Z"⟩) ∈ lw_all := lw_g (lw_at lw_ms 13 rfl) rfl
theorem qs14 : (Cond.selects "PersistentHeap" ⟨"PersistentHeap", "note", "(II)V"⟩ ⟨"PersistentHeap", "note", "(II)V"⟩) ∈ lw_all := lw_g (lw_at lw_ms 14 rfl) rfl
theorem qs15 : (Cond.selects "PersistentHeap" ⟨"PersistentHeap", "fromRoots", "()I"⟩ ⟨"PersistentHeap", "fromRoots", "()I"⟩) ∈ lw_all := lw_g (lw_at lw_ms 15 rfl) rfl
theorem qs16 : (Cond.selects "PersistentHeap" ⟨"PersistentHeap", "putBack", "()V"⟩ ⟨"PersistentHeap", "putBack", "()V"⟩) ∈ lw_all := lw_g (lw_at lw_ms 16 rfl) rfl
theorem qs17 : (Cond.selects "PersistentHeap" ⟨"PersistentHeap", "startAgain", "()V"⟩ ⟨"PersistentHeap", "startAgain", "()V"⟩) ∈ lw_all := lw_g (lw_at lw_ms 17 rfl) rfl
theorem qs18 : (Cond.selects "PersistentHeapModel" ⟨"PersistentHeapModel", "isRegister", "(I)Z"⟩ ⟨"PersistentHeapModel", "isRegister", "(I)Z"⟩) ∈ lw_all := lw_g (lw_at lw_ms 18 rfl) rfl
theorem qs19 : (Cond.selects "PersistentHeapModel" ⟨"PersistentHeapModel", "need", "()I"⟩ ⟨"PersistentHeapModel", "need", "()I"⟩) ∈ lw_all := lw_g (lw_at lw_ms 19 rfl) rfl
theorem qs20 : (Cond.selects "PersistentHeapModel" ⟨"PersistentHeapModel", "forget", "()V"⟩ ⟨"PersistentHeapModel", "forget", "()V"⟩) ∈ lw_all := lw_g (lw_at lw_ms 20 rfl) rfl
theorem qs21 : (Cond.selects "PersistentHeapModel" ⟨"PersistentHeapModel", "follow", "(Z)I"⟩ ⟨"PersistentHeapModel", "follow", "(Z)I"⟩) ∈ lw_all := lw_g (lw_at lw_ms 21 rfl) rfl
theorem qs22 : (Cond.selects "PersistentHeapModel" ⟨"PersistentHeapModel", "isRoot", "(I)Z"⟩ ⟨"PersistentHeapModel", "isRoot", "(I)Z"⟩) ∈ lw_all := lw_g (lw_at lw_ms 22 rfl) rfl
theorem qs23 : (Cond.selects "PersistentHeapModel" ⟨"PersistentHeapModel", "fromRoots", "()I"⟩ ⟨"PersistentHeapModel", "fromRoots", "()I"⟩) ∈ lw_all := lw_g (lw_at lw_ms 23 rfl) rfl
end
section
set_option maxRecDepth 100000
theorem q84 : (Jvm.Cond.arrayClass Jvm.ClassFile.FieldType.byte) ∈ lw_all := lw_g (lw_at lw_m1 60 rfl) rfl
theorem q85 : (Jvm.Cond.arrayClass Jvm.ClassFile.FieldType.int) ∈ lw_all := lw_g (lw_at lw_m1 61 rfl) rfl
theorem q86 : (Jvm.Cond.arrayClass Jvm.ClassFile.FieldType.boolean) ∈ lw_all := lw_g (lw_at lw_m1 62 rfl) rfl
/-! java/lang/Object -/
def RJ0 : String := "java/lang/Object"
abbrev cJ0_init : ByteArray := object_method_1_code
def yJ0_init : MethodName := ⟨RJ0, "<init>", "()V"⟩
theorem q33 : (Jvm.Cond.instanceMethod ({ cls := "java/lang/Object", name := "<init>", desc := "()V" } : Jvm.MethodName)) ∈ lw_all := lw_g (lw_at lw_m1 9 rfl) rfl
theorem q34 : (Jvm.Cond.code ({ cls := "java/lang/Object", name := "<init>", desc := "()V" } : Jvm.MethodName) object_method_1_code (1 : Nat) (Option.none : Option Jvm.ClassFile.FieldType)) ∈ lw_all := lw_g (lw_at lw_m1 10 rfl) rfl
/-! PersistentHeap -/
def RX0 : String := "PersistentHeap"
def TX0 : u_T := fun k => match k with
  | 0 => ("PersistentHeap", "half", "I", false)
  | 1 => ("PersistentHeap", "fields", "[B", true)
  | 2 => ("PersistentHeap", "numbers", "[I", true)
  | 3 => ("PersistentHeap", "rootOf", "[B", true)
  | 4 => ("PersistentHeap", "listCount", "[B", true)
  | 5 => ("PersistentHeap", "listPlace", "[B", true)
  | 6 => ("PersistentHeap", "listOld", "[I", true)
  | 7 => ("PersistentHeap", "registers", "[B", true)
  | 8 => ("PersistentHeap", "used", "I", false)
  | 9 => ("PersistentHeap", "isNew", "[Z", true)
  | 10 => ("PersistentHeap", "listed", "[Z", true)
  | 11 => ("PersistentHeap", "goneTo", "[B", true)
  | 12 => ("PersistentHeap", "cameFrom", "[B", true)
  | 13 => ("PersistentHeap", "arrived", "I", false)
  | 14 => ("PersistentHeap", "allowed", "I", false)
  | _ => ("PersistentHeap", "newThen", "[Z", true)
def tyX0 : Nat → FieldType := fun k => match k with
  | 0 => .int
  | 1 => .array .byte
  | 2 => .array .int
  | 3 => .array .byte
  | 4 => .array .byte
  | 5 => .array .byte
  | 6 => .array .int
  | 7 => .array .byte
  | 8 => .int
  | 9 => .array .boolean
  | 10 => .array .boolean
  | 11 => .array .byte
  | 12 => .array .byte
  | 13 => .int
  | 14 => .int
  | _ => .array .boolean
abbrev wsX00 : List Cond := u_ws RX0 TX0 16
set_option maxRecDepth 100000 in
theorem nmX0 : ∀ a, a < 16 → ∀ b, b < 16 → a ≠ b → (TX0 a).2.1 ≠ (TX0 b).2.1 := by decide +kernel
set_option maxRecDepth 100000 in
theorem tyX0_ok : ∀ k, k < 16 → parseFieldDescriptor (TX0 k).2.2.1 = some (tyX0 k) := by decide +kernel
abbrev cX0_init : ByteArray := prog_1_method_1_code
def yX0_init : MethodName := ⟨RX0, "<init>", "()V"⟩
abbrev cX0_make : ByteArray := prog_1_method_2_code
def yX0_make : MethodName := ⟨RX0, "make", "(II)I"⟩
abbrev cX0_isRegister : ByteArray := prog_1_method_11_code
def yX0_isRegister : MethodName := ⟨RX0, "isRegister", "(I)Z"⟩
abbrev cX0_neededSet : ByteArray := prog_1_method_28_code
def yX0_neededSet : MethodName := ⟨RX0, "neededSet", "()I"⟩
abbrev cX0_presentRoots : ByteArray := prog_1_method_26_code
def yX0_presentRoots : MethodName := ⟨RX0, "presentRoots", "()I"⟩
abbrev cX0_bitOf : ByteArray := prog_1_method_25_code
def yX0_bitOf : MethodName := ⟨RX0, "bitOf", "(I)I"⟩
abbrev cX0_spread : ByteArray := prog_1_method_29_code
def yX0_spread : MethodName := ⟨RX0, "spread", "(IZ)I"⟩
abbrev cX0_oldFields : ByteArray := prog_1_method_30_code
def yX0_oldFields : MethodName := ⟨RX0, "oldFields", "(I)I"⟩
abbrev cX0_countOf : ByteArray := prog_1_method_24_code
def yX0_countOf : MethodName := ⟨RX0, "countOf", "(I)I"⟩
abbrev cX0_collect : ByteArray := prog_1_method_20_code
def yX0_collect : MethodName := ⟨RX0, "collect", "()I"⟩
abbrev cX0_move : ByteArray := prog_1_method_32_code
def yX0_move : MethodName := ⟨RX0, "move", "(I)V"⟩
abbrev cX0_moved : ByteArray := prog_1_method_31_code
def yX0_moved : MethodName := ⟨RX0, "moved", "(I)I"⟩
abbrev cX0_moveOldFields : ByteArray := prog_1_method_33_code
def yX0_moveOldFields : MethodName := ⟨RX0, "moveOldFields", "(I)V"⟩
abbrev cX0_moveList : ByteArray := prog_1_method_34_code
def yX0_moveList : MethodName := ⟨RX0, "moveList", "(I)V"⟩
abbrev cX0_settle : ByteArray := prog_1_method_35_code
def yX0_settle : MethodName := ⟨RX0, "settle", "()V"⟩
abbrev cX0_forgetListed : ByteArray := prog_1_method_14_code
def yX0_forgetListed : MethodName := ⟨RX0, "forgetListed", "()V"⟩
abbrev cX0_fromRoot : ByteArray := prog_1_method_3_code
def yX0_fromRoot : MethodName := ⟨RX0, "fromRoot", "(II)I"⟩
abbrev cX0_isRoot : ByteArray := prog_1_method_12_code
def yX0_isRoot : MethodName := ⟨RX0, "isRoot", "(I)Z"⟩
abbrev cX0_toRoot : ByteArray := prog_1_method_4_code
def yX0_toRoot : MethodName := ⟨RX0, "toRoot", "(II)I"⟩
abbrev cX0_note : ByteArray := prog_1_method_13_code
def yX0_note : MethodName := ⟨RX0, "note", "(II)V"⟩
abbrev cX0_fromField : ByteArray := prog_1_method_5_code
def yX0_fromField : MethodName := ⟨RX0, "fromField", "(III)I"⟩
abbrev cX0_toField : ByteArray := prog_1_method_6_code
def yX0_toField : MethodName := ⟨RX0, "toField", "(III)I"⟩
abbrev cX0_release : ByteArray := prog_1_method_7_code
def yX0_release : MethodName := ⟨RX0, "release", "(I)I"⟩
abbrev cX0_number : ByteArray := prog_1_method_8_code
def yX0_number : MethodName := ⟨RX0, "number", "(I)I"⟩
abbrev cX0_setNumber : ByteArray := prog_1_method_9_code
def yX0_setNumber : MethodName := ⟨RX0, "setNumber", "(II)I"⟩
abbrev cX0_same : ByteArray := prog_1_method_10_code
def yX0_same : MethodName := ⟨RX0, "same", "(II)Z"⟩
abbrev cX0_save : ByteArray := prog_1_method_16_code
def yX0_save : MethodName := ⟨RX0, "save", "()I"⟩
abbrev cX0_fromRoots : ByteArray := prog_1_method_27_code
def yX0_fromRoots : MethodName := ⟨RX0, "fromRoots", "()I"⟩
abbrev cX0_back : ByteArray := prog_1_method_17_code
def yX0_back : MethodName := ⟨RX0, "back", "()I"⟩
abbrev cX0_putBack : ByteArray := prog_1_method_15_code
def yX0_putBack : MethodName := ⟨RX0, "putBack", "()V"⟩
abbrev cX0_crash : ByteArray := prog_1_method_18_code
def yX0_crash : MethodName := ⟨RX0, "crash", "(I)I"⟩
abbrev cX0_startAgain : ByteArray := prog_1_method_19_code
def yX0_startAgain : MethodName := ⟨RX0, "startAgain", "()V"⟩
abbrev cX0_collectAndCrash : ByteArray := prog_1_method_21_code
def yX0_collectAndCrash : MethodName := ⟨RX0, "collectAndCrash", "(I)I"⟩
abbrev cX0_needed : ByteArray := prog_1_method_22_code
def yX0_needed : MethodName := ⟨RX0, "needed", "()I"⟩
abbrev cX0_reach : ByteArray := prog_1_method_23_code
def yX0_reach : MethodName := ⟨RX0, "reach", "(I)I"⟩
theorem q25 : (Jvm.Cond.initialized "PersistentHeap") ∈ lw_all := lw_g (lw_at lw_m1 1 rfl) rfl
theorem q28 : (Jvm.Cond.instantiable "PersistentHeap" (16 : Nat)) ∈ lw_all := lw_g (lw_at lw_m1 4 rfl) rfl
theorem q30 : (Jvm.Cond.instanceMethod ({ cls := "PersistentHeap", name := "<init>", desc := "()V" } : Jvm.MethodName)) ∈ lw_all := lw_g (lw_at lw_m1 6 rfl) rfl
theorem q31 : (Jvm.Cond.code ({ cls := "PersistentHeap", name := "<init>", desc := "()V" } : Jvm.MethodName) prog_1_method_1_code (2 : Nat) (Option.none : Option Jvm.ClassFile.FieldType)) ∈ lw_all := lw_g (lw_at lw_m1 7 rfl) rfl
theorem q32 : (Jvm.Cond.methodLink "PersistentHeap" (1 : Nat) ({ cls := "java/lang/Object", name := "<init>", desc := "()V" } : Jvm.MethodName)) ∈ lw_all := lw_g (lw_at lw_m1 8 rfl) rfl
theorem q35 : (Jvm.Cond.fieldLink "PersistentHeap" (67 : Nat) "PersistentHeap" "half" "I") ∈ lw_all := lw_g (lw_at lw_m1 11 rfl) rfl
theorem q36 : (Jvm.Cond.fieldLink "PersistentHeap" (7 : Nat) "PersistentHeap" "fields" "[B") ∈ lw_all := lw_g (lw_at lw_m1 12 rfl) rfl
theorem q37 : (Jvm.Cond.fieldLink "PersistentHeap" (13 : Nat) "PersistentHeap" "numbers" "[I") ∈ lw_all := lw_g (lw_at lw_m1 13 rfl) rfl
theorem q38 : (Jvm.Cond.fieldLink "PersistentHeap" (17 : Nat) "PersistentHeap" "rootOf" "[B") ∈ lw_all := lw_g (lw_at lw_m1 14 rfl) rfl
theorem q39 : (Jvm.Cond.fieldLink "PersistentHeap" (20 : Nat) "PersistentHeap" "listCount" "[B") ∈ lw_all := lw_g (lw_at lw_m1 15 rfl) rfl
theorem q40 : (Jvm.Cond.fieldLink "PersistentHeap" (23 : Nat) "PersistentHeap" "listPlace" "[B") ∈ lw_all := lw_g (lw_at lw_m1 16 rfl) rfl
theorem q41 : (Jvm.Cond.fieldLink "PersistentHeap" (26 : Nat) "PersistentHeap" "listOld" "[I") ∈ lw_all := lw_g (lw_at lw_m1 17 rfl) rfl
theorem q42 : (Jvm.Cond.fieldLink "PersistentHeap" (29 : Nat) "PersistentHeap" "registers" "[B") ∈ lw_all := lw_g (lw_at lw_m1 18 rfl) rfl
theorem q43 : (Jvm.Cond.fieldLink "PersistentHeap" (60 : Nat) "PersistentHeap" "used" "I") ∈ lw_all := lw_g (lw_at lw_m1 19 rfl) rfl
theorem q44 : (Jvm.Cond.fieldLink "PersistentHeap" (32 : Nat) "PersistentHeap" "isNew" "[Z") ∈ lw_all := lw_g (lw_at lw_m1 20 rfl) rfl
theorem q45 : (Jvm.Cond.fieldLink "PersistentHeap" (36 : Nat) "PersistentHeap" "listed" "[Z") ∈ lw_all := lw_g (lw_at lw_m1 21 rfl) rfl
theorem q46 : (Jvm.Cond.fieldLink "PersistentHeap" (39 : Nat) "PersistentHeap" "goneTo" "[B") ∈ lw_all := lw_g (lw_at lw_m1 22 rfl) rfl
theorem q47 : (Jvm.Cond.fieldLink "PersistentHeap" (42 : Nat) "PersistentHeap" "cameFrom" "[B") ∈ lw_all := lw_g (lw_at lw_m1 23 rfl) rfl
theorem q48 : (Jvm.Cond.fieldLink "PersistentHeap" (96 : Nat) "PersistentHeap" "arrived" "I") ∈ lw_all := lw_g (lw_at lw_m1 24 rfl) rfl
theorem q49 : (Jvm.Cond.fieldLink "PersistentHeap" (112 : Nat) "PersistentHeap" "allowed" "I") ∈ lw_all := lw_g (lw_at lw_m1 25 rfl) rfl
theorem q50 : (Jvm.Cond.fieldLink "PersistentHeap" (45 : Nat) "PersistentHeap" "newThen" "[Z") ∈ lw_all := lw_g (lw_at lw_m1 26 rfl) rfl
theorem q51 : (Jvm.Cond.lays "PersistentHeap" "PersistentHeap" "half" "I") ∈ lw_all := lw_g (lw_at lw_m1 27 rfl) rfl
theorem q52 : (Jvm.Cond.soleField "PersistentHeap" "half") ∈ lw_all := lw_g (lw_at lw_m1 28 rfl) rfl
theorem q53 : (Jvm.Cond.laysFinal "PersistentHeap" "PersistentHeap" "fields" "[B") ∈ lw_all := lw_g (lw_at lw_m1 29 rfl) rfl
theorem q54 : (Jvm.Cond.soleField "PersistentHeap" "fields") ∈ lw_all := lw_g (lw_at lw_m1 30 rfl) rfl
theorem q55 : (Jvm.Cond.laysFinal "PersistentHeap" "PersistentHeap" "numbers" "[I") ∈ lw_all := lw_g (lw_at lw_m1 31 rfl) rfl
theorem q56 : (Jvm.Cond.soleField "PersistentHeap" "numbers") ∈ lw_all := lw_g (lw_at lw_m1 32 rfl) rfl
theorem q57 : (Jvm.Cond.laysFinal "PersistentHeap" "PersistentHeap" "rootOf" "[B") ∈ lw_all := lw_g (lw_at lw_m1 33 rfl) rfl
theorem q58 : (Jvm.Cond.soleField "PersistentHeap" "rootOf") ∈ lw_all := lw_g (lw_at lw_m1 34 rfl) rfl
theorem q59 : (Jvm.Cond.laysFinal "PersistentHeap" "PersistentHeap" "listCount" "[B") ∈ lw_all := lw_g (lw_at lw_m1 35 rfl) rfl
theorem q60 : (Jvm.Cond.soleField "PersistentHeap" "listCount") ∈ lw_all := lw_g (lw_at lw_m1 36 rfl) rfl
theorem q61 : (Jvm.Cond.laysFinal "PersistentHeap" "PersistentHeap" "listPlace" "[B") ∈ lw_all := lw_g (lw_at lw_m1 37 rfl) rfl
theorem q62 : (Jvm.Cond.soleField "PersistentHeap" "listPlace") ∈ lw_all := lw_g (lw_at lw_m1 38 rfl) rfl
theorem q63 : (Jvm.Cond.laysFinal "PersistentHeap" "PersistentHeap" "listOld" "[I") ∈ lw_all := lw_g (lw_at lw_m1 39 rfl) rfl
theorem q64 : (Jvm.Cond.soleField "PersistentHeap" "listOld") ∈ lw_all := lw_g (lw_at lw_m1 40 rfl) rfl
theorem q65 : (Jvm.Cond.laysFinal "PersistentHeap" "PersistentHeap" "registers" "[B") ∈ lw_all := lw_g (lw_at lw_m1 41 rfl) rfl
theorem q66 : (Jvm.Cond.soleField "PersistentHeap" "registers") ∈ lw_all := lw_g (lw_at lw_m1 42 rfl) rfl
theorem q67 : (Jvm.Cond.lays "PersistentHeap" "PersistentHeap" "used" "I") ∈ lw_all := lw_g (lw_at lw_m1 43 rfl) rfl
theorem q68 : (Jvm.Cond.soleField "PersistentHeap" "used") ∈ lw_all := lw_g (lw_at lw_m1 44 rfl) rfl
theorem q69 : (Jvm.Cond.laysFinal "PersistentHeap" "PersistentHeap" "isNew" "[Z") ∈ lw_all := lw_g (lw_at lw_m1 45 rfl) rfl
theorem q70 : (Jvm.Cond.soleField "PersistentHeap" "isNew") ∈ lw_all := lw_g (lw_at lw_m1 46 rfl) rfl
theorem q71 : (Jvm.Cond.laysFinal "PersistentHeap" "PersistentHeap" "listed" "[Z") ∈ lw_all := lw_g (lw_at lw_m1 47 rfl) rfl
theorem q72 : (Jvm.Cond.soleField "PersistentHeap" "listed") ∈ lw_all := lw_g (lw_at lw_m1 48 rfl) rfl
theorem q73 : (Jvm.Cond.laysFinal "PersistentHeap" "PersistentHeap" "goneTo" "[B") ∈ lw_all := lw_g (lw_at lw_m1 49 rfl) rfl
theorem q74 : (Jvm.Cond.soleField "PersistentHeap" "goneTo") ∈ lw_all := lw_g (lw_at lw_m1 50 rfl) rfl
theorem q75 : (Jvm.Cond.laysFinal "PersistentHeap" "PersistentHeap" "cameFrom" "[B") ∈ lw_all := lw_g (lw_at lw_m1 51 rfl) rfl
theorem q76 : (Jvm.Cond.soleField "PersistentHeap" "cameFrom") ∈ lw_all := lw_g (lw_at lw_m1 52 rfl) rfl
theorem q77 : (Jvm.Cond.lays "PersistentHeap" "PersistentHeap" "arrived" "I") ∈ lw_all := lw_g (lw_at lw_m1 53 rfl) rfl
theorem q78 : (Jvm.Cond.soleField "PersistentHeap" "arrived") ∈ lw_all := lw_g (lw_at lw_m1 54 rfl) rfl
theorem q79 : (Jvm.Cond.lays "PersistentHeap" "PersistentHeap" "allowed" "I") ∈ lw_all := lw_g (lw_at lw_m1 55 rfl) rfl
theorem q80 : (Jvm.Cond.soleField "PersistentHeap" "allowed") ∈ lw_all := lw_g (lw_at lw_m1 56 rfl) rfl
theorem q81 : (Jvm.Cond.laysFinal "PersistentHeap" "PersistentHeap" "newThen" "[Z") ∈ lw_all := lw_g (lw_at lw_m1 57 rfl) rfl
theorem q82 : (Jvm.Cond.soleField "PersistentHeap" "newThen") ∈ lw_all := lw_g (lw_at lw_m1 58 rfl) rfl
theorem q83 : (Jvm.Cond.superclass "PersistentHeap" "java/lang/Object") ∈ lw_all := lw_g (lw_at lw_m1 59 rfl) rfl
theorem q88 : (Jvm.Cond.instanceMethod ({ cls := "PersistentHeap", name := "make", desc := "(II)I" } : Jvm.MethodName)) ∈ lw_all := lw_g (lw_at lw_m1 64 rfl) rfl
theorem q89 : (Jvm.Cond.selects "PersistentHeap" ({ cls := "PersistentHeap", name := "make", desc := "(II)I" } : Jvm.MethodName) ({ cls := "PersistentHeap", name := "make", desc := "(II)I" } : Jvm.MethodName)) ∈ lw_all := lw_g (lw_at lw_m1 65 rfl) rfl
theorem q90 : (Jvm.Cond.code ({ cls := "PersistentHeap", name := "make", desc := "(II)I" } : Jvm.MethodName) prog_1_method_2_code (5 : Nat) (Option.some Jvm.ClassFile.FieldType.int)) ∈ lw_all := lw_g (lw_at lw_m1 66 rfl) rfl
theorem q91 : (Jvm.Cond.methodLink "PersistentHeap" (48 : Nat) ({ cls := "PersistentHeap", name := "isRegister", desc := "(I)Z" } : Jvm.MethodName)) ∈ lw_all := lw_g (lw_at lw_m1 67 rfl) rfl
theorem q92 : (Jvm.Cond.privateMethod ({ cls := "PersistentHeap", name := "isRegister", desc := "(I)Z" } : Jvm.MethodName)) ∈ lw_tbl := lw_at lw_m1 68 rfl
theorem q93 : (Jvm.Cond.instanceMethod ({ cls := "PersistentHeap", name := "isRegister", desc := "(I)Z" } : Jvm.MethodName)) ∈ lw_all := lw_g (lw_at lw_m1 69 rfl) rfl
theorem q94 : (Jvm.Cond.code ({ cls := "PersistentHeap", name := "isRegister", desc := "(I)Z" } : Jvm.MethodName) prog_1_method_11_code (2 : Nat) (Option.some Jvm.ClassFile.FieldType.boolean)) ∈ lw_all := lw_g (lw_at lw_m1 70 rfl) rfl
theorem q95 : (Jvm.Cond.methodLink "PersistentHeap" (52 : Nat) ({ cls := "PersistentHeap", name := "neededSet", desc := "()I" } : Jvm.MethodName)) ∈ lw_all := lw_g (lw_at lw_m1 71 rfl) rfl
theorem q96 : (Jvm.Cond.privateMethod ({ cls := "PersistentHeap", name := "neededSet", desc := "()I" } : Jvm.MethodName)) ∈ lw_tbl := lw_at lw_m1 72 rfl
theorem q97 : (Jvm.Cond.instanceMethod ({ cls := "PersistentHeap", name := "neededSet", desc := "()I" } : Jvm.MethodName)) ∈ lw_all := lw_g (lw_at lw_m1 73 rfl) rfl
theorem q98 : (Jvm.Cond.code ({ cls := "PersistentHeap", name := "neededSet", desc := "()I" } : Jvm.MethodName) prog_1_method_28_code (3 : Nat) (Option.some Jvm.ClassFile.FieldType.int)) ∈ lw_all := lw_g (lw_at lw_m1 74 rfl) rfl
theorem q99 : (Jvm.Cond.methodLink "PersistentHeap" (106 : Nat) ({ cls := "PersistentHeap", name := "presentRoots", desc := "()I" } : Jvm.MethodName)) ∈ lw_all := lw_g (lw_at lw_m1 75 rfl) rfl
theorem q100 : (Jvm.Cond.privateMethod ({ cls := "PersistentHeap", name := "presentRoots", desc := "()I" } : Jvm.MethodName)) ∈ lw_tbl := lw_at lw_m1 76 rfl
theorem q101 : (Jvm.Cond.instanceMethod ({ cls := "PersistentHeap", name := "presentRoots", desc := "()I" } : Jvm.MethodName)) ∈ lw_all := lw_g (lw_at lw_m1 77 rfl) rfl
theorem q102 : (Jvm.Cond.code ({ cls := "PersistentHeap", name := "presentRoots", desc := "()I" } : Jvm.MethodName) prog_1_method_26_code (1 : Nat) (Option.some Jvm.ClassFile.FieldType.int)) ∈ lw_all := lw_g (lw_at lw_m1 78 rfl) rfl
theorem q103 : (Jvm.Cond.methodLink "PersistentHeap" (103 : Nat) ({ cls := "PersistentHeap", name := "bitOf", desc := "(I)I" } : Jvm.MethodName)) ∈ lw_all := lw_g (lw_at lw_m1 79 rfl) rfl
theorem q104 : (Jvm.Cond.privateMethod ({ cls := "PersistentHeap", name := "bitOf", desc := "(I)I" } : Jvm.MethodName)) ∈ lw_tbl := lw_at lw_m1 80 rfl
theorem q105 : (Jvm.Cond.instanceMethod ({ cls := "PersistentHeap", name := "bitOf", desc := "(I)I" } : Jvm.MethodName)) ∈ lw_all := lw_g (lw_at lw_m1 81 rfl) rfl
theorem q106 : (Jvm.Cond.code ({ cls := "PersistentHeap", name := "bitOf", desc := "(I)I" } : Jvm.MethodName) prog_1_method_25_code (2 : Nat) (Option.some Jvm.ClassFile.FieldType.int)) ∈ lw_all := lw_g (lw_at lw_m1 82 rfl) rfl
theorem q107 : (Jvm.Cond.methodLink "PersistentHeap" (99 : Nat) ({ cls := "PersistentHeap", name := "spread", desc := "(IZ)I" } : Jvm.MethodName)) ∈ lw_all := lw_g (lw_at lw_m1 83 rfl) rfl
theorem q108 : (Jvm.Cond.privateMethod ({ cls := "PersistentHeap", name := "spread", desc := "(IZ)I" } : Jvm.MethodName)) ∈ lw_tbl := lw_at lw_m1 84 rfl
theorem q109 : (Jvm.Cond.instanceMethod ({ cls := "PersistentHeap", name := "spread", desc := "(IZ)I" } : Jvm.MethodName)) ∈ lw_all := lw_g (lw_at lw_m1 85 rfl) rfl
theorem q110 : (Jvm.Cond.code ({ cls := "PersistentHeap", name := "spread", desc := "(IZ)I" } : Jvm.MethodName) prog_1_method_29_code (7 : Nat) (Option.some Jvm.ClassFile.FieldType.int)) ∈ lw_all := lw_g (lw_at lw_m1 86 rfl) rfl
theorem q111 : (Jvm.Cond.methodLink "PersistentHeap" (109 : Nat) ({ cls := "PersistentHeap", name := "oldFields", desc := "(I)I" } : Jvm.MethodName)) ∈ lw_all := lw_g (lw_at lw_m1 87 rfl) rfl
theorem q112 : (Jvm.Cond.privateMethod ({ cls := "PersistentHeap", name := "oldFields", desc := "(I)I" } : Jvm.MethodName)) ∈ lw_tbl := lw_at lw_m1 88 rfl
theorem q113 : (Jvm.Cond.instanceMethod ({ cls := "PersistentHeap", name := "oldFields", desc := "(I)I" } : Jvm.MethodName)) ∈ lw_all := lw_g (lw_at lw_m1 89 rfl) rfl
theorem q114 : (Jvm.Cond.code ({ cls := "PersistentHeap", name := "oldFields", desc := "(I)I" } : Jvm.MethodName) prog_1_method_30_code (5 : Nat) (Option.some Jvm.ClassFile.FieldType.int)) ∈ lw_all := lw_g (lw_at lw_m1 90 rfl) rfl
theorem q115 : (Jvm.Cond.methodLink "PersistentHeap" (56 : Nat) ({ cls := "PersistentHeap", name := "countOf", desc := "(I)I" } : Jvm.MethodName)) ∈ lw_all := lw_g (lw_at lw_m1 91 rfl) rfl
theorem q116 : (Jvm.Cond.privateMethod ({ cls := "PersistentHeap", name := "countOf", desc := "(I)I" } : Jvm.MethodName)) ∈ lw_tbl := lw_at lw_m1 92 rfl
theorem q117 : (Jvm.Cond.instanceMethod ({ cls := "PersistentHeap", name := "countOf", desc := "(I)I" } : Jvm.MethodName)) ∈ lw_all := lw_g (lw_at lw_m1 93 rfl) rfl
theorem q118 : (Jvm.Cond.code ({ cls := "PersistentHeap", name := "countOf", desc := "(I)I" } : Jvm.MethodName) prog_1_method_24_code (4 : Nat) (Option.some Jvm.ClassFile.FieldType.int)) ∈ lw_all := lw_g (lw_at lw_m1 94 rfl) rfl
theorem q119 : (Jvm.Cond.methodLink "PersistentHeap" (64 : Nat) ({ cls := "PersistentHeap", name := "collect", desc := "()I" } : Jvm.MethodName)) ∈ lw_all := lw_g (lw_at lw_m1 95 rfl) rfl
theorem q120 : (Jvm.Cond.instanceMethod ({ cls := "PersistentHeap", name := "collect", desc := "()I" } : Jvm.MethodName)) ∈ lw_all := lw_g (lw_at lw_m1 96 rfl) rfl
theorem q121 : (Jvm.Cond.selects "PersistentHeap" ({ cls := "PersistentHeap", name := "collect", desc := "()I" } : Jvm.MethodName) ({ cls := "PersistentHeap", name := "collect", desc := "()I" } : Jvm.MethodName)) ∈ lw_all := lw_g (lw_at lw_m1 97 rfl) rfl
theorem q122 : (Jvm.Cond.code ({ cls := "PersistentHeap", name := "collect", desc := "()I" } : Jvm.MethodName) prog_1_method_20_code (1 : Nat) (Option.some Jvm.ClassFile.FieldType.int)) ∈ lw_all := lw_g (lw_at lw_m1 98 rfl) rfl
theorem q123 : (Jvm.Cond.methodLink "PersistentHeap" (89 : Nat) ({ cls := "PersistentHeap", name := "move", desc := "(I)V" } : Jvm.MethodName)) ∈ lw_all := lw_g (lw_at lw_m1 99 rfl) rfl
theorem q124 : (Jvm.Cond.privateMethod ({ cls := "PersistentHeap", name := "move", desc := "(I)V" } : Jvm.MethodName)) ∈ lw_tbl := lw_at lw_m1 100 rfl
theorem q125 : (Jvm.Cond.instanceMethod ({ cls := "PersistentHeap", name := "move", desc := "(I)V" } : Jvm.MethodName)) ∈ lw_all := lw_g (lw_at lw_m1 101 rfl) rfl
theorem q126 : (Jvm.Cond.code ({ cls := "PersistentHeap", name := "move", desc := "(I)V" } : Jvm.MethodName) prog_1_method_32_code (5 : Nat) (Option.none : Option Jvm.ClassFile.FieldType)) ∈ lw_all := lw_g (lw_at lw_m1 102 rfl) rfl
theorem q127 : (Jvm.Cond.methodLink "PersistentHeap" (115 : Nat) ({ cls := "PersistentHeap", name := "moved", desc := "(I)I" } : Jvm.MethodName)) ∈ lw_all := lw_g (lw_at lw_m1 103 rfl) rfl
theorem q128 : (Jvm.Cond.privateMethod ({ cls := "PersistentHeap", name := "moved", desc := "(I)I" } : Jvm.MethodName)) ∈ lw_tbl := lw_at lw_m1 104 rfl
theorem q129 : (Jvm.Cond.instanceMethod ({ cls := "PersistentHeap", name := "moved", desc := "(I)I" } : Jvm.MethodName)) ∈ lw_all := lw_g (lw_at lw_m1 105 rfl) rfl
theorem q130 : (Jvm.Cond.code ({ cls := "PersistentHeap", name := "moved", desc := "(I)I" } : Jvm.MethodName) prog_1_method_31_code (4 : Nat) (Option.some Jvm.ClassFile.FieldType.int)) ∈ lw_all := lw_g (lw_at lw_m1 106 rfl) rfl
theorem q131 : (Jvm.Cond.methodLink "PersistentHeap" (118 : Nat) ({ cls := "PersistentHeap", name := "moveOldFields", desc := "(I)V" } : Jvm.MethodName)) ∈ lw_all := lw_g (lw_at lw_m1 107 rfl) rfl
theorem q132 : (Jvm.Cond.privateMethod ({ cls := "PersistentHeap", name := "moveOldFields", desc := "(I)V" } : Jvm.MethodName)) ∈ lw_tbl := lw_at lw_m1 108 rfl
theorem q133 : (Jvm.Cond.instanceMethod ({ cls := "PersistentHeap", name := "moveOldFields", desc := "(I)V" } : Jvm.MethodName)) ∈ lw_all := lw_g (lw_at lw_m1 109 rfl) rfl
theorem q134 : (Jvm.Cond.code ({ cls := "PersistentHeap", name := "moveOldFields", desc := "(I)V" } : Jvm.MethodName) prog_1_method_33_code (4 : Nat) (Option.none : Option Jvm.ClassFile.FieldType)) ∈ lw_all := lw_g (lw_at lw_m1 110 rfl) rfl
theorem q135 : (Jvm.Cond.methodLink "PersistentHeap" (121 : Nat) ({ cls := "PersistentHeap", name := "moveList", desc := "(I)V" } : Jvm.MethodName)) ∈ lw_all := lw_g (lw_at lw_m1 111 rfl) rfl
theorem q136 : (Jvm.Cond.privateMethod ({ cls := "PersistentHeap", name := "moveList", desc := "(I)V" } : Jvm.MethodName)) ∈ lw_tbl := lw_at lw_m1 112 rfl
theorem q137 : (Jvm.Cond.instanceMethod ({ cls := "PersistentHeap", name := "moveList", desc := "(I)V" } : Jvm.MethodName)) ∈ lw_all := lw_g (lw_at lw_m1 113 rfl) rfl
theorem q138 : (Jvm.Cond.code ({ cls := "PersistentHeap", name := "moveList", desc := "(I)V" } : Jvm.MethodName) prog_1_method_34_code (8 : Nat) (Option.none : Option Jvm.ClassFile.FieldType)) ∈ lw_all := lw_g (lw_at lw_m1 114 rfl) rfl
theorem q139 : (Jvm.Cond.methodLink "PersistentHeap" (93 : Nat) ({ cls := "PersistentHeap", name := "settle", desc := "()V" } : Jvm.MethodName)) ∈ lw_all := lw_g (lw_at lw_m1 115 rfl) rfl
theorem q140 : (Jvm.Cond.privateMethod ({ cls := "PersistentHeap", name := "settle", desc := "()V" } : Jvm.MethodName)) ∈ lw_tbl := lw_at lw_m1 116 rfl
theorem q141 : (Jvm.Cond.instanceMethod ({ cls := "PersistentHeap", name := "settle", desc := "()V" } : Jvm.MethodName)) ∈ lw_all := lw_g (lw_at lw_m1 117 rfl) rfl
theorem q142 : (Jvm.Cond.code ({ cls := "PersistentHeap", name := "settle", desc := "()V" } : Jvm.MethodName) prog_1_method_35_code (2 : Nat) (Option.none : Option Jvm.ClassFile.FieldType)) ∈ lw_all := lw_g (lw_at lw_m1 118 rfl) rfl
theorem q143 : (Jvm.Cond.methodLink "PersistentHeap" (77 : Nat) ({ cls := "PersistentHeap", name := "forgetListed", desc := "()V" } : Jvm.MethodName)) ∈ lw_all := lw_g (lw_at lw_m1 119 rfl) rfl
theorem q144 : (Jvm.Cond.privateMethod ({ cls := "PersistentHeap", name := "forgetListed", desc := "()V" } : Jvm.MethodName)) ∈ lw_tbl := lw_at lw_m1 120 rfl
theorem q145 : (Jvm.Cond.instanceMethod ({ cls := "PersistentHeap", name := "forgetListed", desc := "()V" } : Jvm.MethodName)) ∈ lw_all := lw_g (lw_at lw_m1 121 rfl) rfl
theorem q146 : (Jvm.Cond.code ({ cls := "PersistentHeap", name := "forgetListed", desc := "()V" } : Jvm.MethodName) prog_1_method_14_code (2 : Nat) (Option.none : Option Jvm.ClassFile.FieldType)) ∈ lw_all := lw_g (lw_at lw_m1 122 rfl) rfl
theorem q148 : (Jvm.Cond.instanceMethod ({ cls := "PersistentHeap", name := "fromRoot", desc := "(II)I" } : Jvm.MethodName)) ∈ lw_all := lw_g (lw_at lw_m1 124 rfl) rfl
theorem q149 : (Jvm.Cond.selects "PersistentHeap" ({ cls := "PersistentHeap", name := "fromRoot", desc := "(II)I" } : Jvm.MethodName) ({ cls := "PersistentHeap", name := "fromRoot", desc := "(II)I" } : Jvm.MethodName)) ∈ lw_all := lw_g (lw_at lw_m1 125 rfl) rfl
theorem q150 : (Jvm.Cond.code ({ cls := "PersistentHeap", name := "fromRoot", desc := "(II)I" } : Jvm.MethodName) prog_1_method_3_code (3 : Nat) (Option.some Jvm.ClassFile.FieldType.int)) ∈ lw_all := lw_g (lw_at lw_m1 126 rfl) rfl
theorem q151 : (Jvm.Cond.methodLink "PersistentHeap" (70 : Nat) ({ cls := "PersistentHeap", name := "isRoot", desc := "(I)Z" } : Jvm.MethodName)) ∈ lw_all := lw_g (lw_at lw_m1 127 rfl) rfl
theorem q152 : (Jvm.Cond.privateMethod ({ cls := "PersistentHeap", name := "isRoot", desc := "(I)Z" } : Jvm.MethodName)) ∈ lw_tbl := lw_at lw_m1 128 rfl
theorem q153 : (Jvm.Cond.instanceMethod ({ cls := "PersistentHeap", name := "isRoot", desc := "(I)Z" } : Jvm.MethodName)) ∈ lw_all := lw_g (lw_at lw_m1 129 rfl) rfl
theorem q154 : (Jvm.Cond.code ({ cls := "PersistentHeap", name := "isRoot", desc := "(I)Z" } : Jvm.MethodName) prog_1_method_12_code (2 : Nat) (Option.some Jvm.ClassFile.FieldType.boolean)) ∈ lw_all := lw_g (lw_at lw_m1 130 rfl) rfl
theorem q156 : (Jvm.Cond.instanceMethod ({ cls := "PersistentHeap", name := "toRoot", desc := "(II)I" } : Jvm.MethodName)) ∈ lw_all := lw_g (lw_at lw_m1 132 rfl) rfl
theorem q157 : (Jvm.Cond.selects "PersistentHeap" ({ cls := "PersistentHeap", name := "toRoot", desc := "(II)I" } : Jvm.MethodName) ({ cls := "PersistentHeap", name := "toRoot", desc := "(II)I" } : Jvm.MethodName)) ∈ lw_all := lw_g (lw_at lw_m1 133 rfl) rfl
theorem q158 : (Jvm.Cond.code ({ cls := "PersistentHeap", name := "toRoot", desc := "(II)I" } : Jvm.MethodName) prog_1_method_4_code (3 : Nat) (Option.some Jvm.ClassFile.FieldType.int)) ∈ lw_all := lw_g (lw_at lw_m1 134 rfl) rfl
theorem q159 : (Jvm.Cond.methodLink "PersistentHeap" (73 : Nat) ({ cls := "PersistentHeap", name := "note", desc := "(II)V" } : Jvm.MethodName)) ∈ lw_all := lw_g (lw_at lw_m1 135 rfl) rfl
theorem q160 : (Jvm.Cond.privateMethod ({ cls := "PersistentHeap", name := "note", desc := "(II)V" } : Jvm.MethodName)) ∈ lw_tbl := lw_at lw_m1 136 rfl
theorem q161 : (Jvm.Cond.instanceMethod ({ cls := "PersistentHeap", name := "note", desc := "(II)V" } : Jvm.MethodName)) ∈ lw_all := lw_g (lw_at lw_m1 137 rfl) rfl
theorem q162 : (Jvm.Cond.code ({ cls := "PersistentHeap", name := "note", desc := "(II)V" } : Jvm.MethodName) prog_1_method_13_code (4 : Nat) (Option.none : Option Jvm.ClassFile.FieldType)) ∈ lw_all := lw_g (lw_at lw_m1 138 rfl) rfl
theorem q164 : (Jvm.Cond.instanceMethod ({ cls := "PersistentHeap", name := "fromField", desc := "(III)I" } : Jvm.MethodName)) ∈ lw_all := lw_g (lw_at lw_m1 140 rfl) rfl
theorem q165 : (Jvm.Cond.selects "PersistentHeap" ({ cls := "PersistentHeap", name := "fromField", desc := "(III)I" } : Jvm.MethodName) ({ cls := "PersistentHeap", name := "fromField", desc := "(III)I" } : Jvm.MethodName)) ∈ lw_all := lw_g (lw_at lw_m1 141 rfl) rfl
theorem q166 : (Jvm.Cond.code ({ cls := "PersistentHeap", name := "fromField", desc := "(III)I" } : Jvm.MethodName) prog_1_method_5_code (4 : Nat) (Option.some Jvm.ClassFile.FieldType.int)) ∈ lw_all := lw_g (lw_at lw_m1 142 rfl) rfl
theorem q168 : (Jvm.Cond.instanceMethod ({ cls := "PersistentHeap", name := "toField", desc := "(III)I" } : Jvm.MethodName)) ∈ lw_all := lw_g (lw_at lw_m1 144 rfl) rfl
theorem q169 : (Jvm.Cond.selects "PersistentHeap" ({ cls := "PersistentHeap", name := "toField", desc := "(III)I" } : Jvm.MethodName) ({ cls := "PersistentHeap", name := "toField", desc := "(III)I" } : Jvm.MethodName)) ∈ lw_all := lw_g (lw_at lw_m1 145 rfl) rfl
theorem q170 : (Jvm.Cond.code ({ cls := "PersistentHeap", name := "toField", desc := "(III)I" } : Jvm.MethodName) prog_1_method_6_code (6 : Nat) (Option.some Jvm.ClassFile.FieldType.int)) ∈ lw_all := lw_g (lw_at lw_m1 146 rfl) rfl
theorem q172 : (Jvm.Cond.instanceMethod ({ cls := "PersistentHeap", name := "release", desc := "(I)I" } : Jvm.MethodName)) ∈ lw_all := lw_g (lw_at lw_m1 148 rfl) rfl
theorem q173 : (Jvm.Cond.selects "PersistentHeap" ({ cls := "PersistentHeap", name := "release", desc := "(I)I" } : Jvm.MethodName) ({ cls := "PersistentHeap", name := "release", desc := "(I)I" } : Jvm.MethodName)) ∈ lw_all := lw_g (lw_at lw_m1 149 rfl) rfl
theorem q174 : (Jvm.Cond.code ({ cls := "PersistentHeap", name := "release", desc := "(I)I" } : Jvm.MethodName) prog_1_method_7_code (2 : Nat) (Option.some Jvm.ClassFile.FieldType.int)) ∈ lw_all := lw_g (lw_at lw_m1 150 rfl) rfl
theorem q176 : (Jvm.Cond.instanceMethod ({ cls := "PersistentHeap", name := "number", desc := "(I)I" } : Jvm.MethodName)) ∈ lw_all := lw_g (lw_at lw_m1 152 rfl) rfl
theorem q177 : (Jvm.Cond.selects "PersistentHeap" ({ cls := "PersistentHeap", name := "number", desc := "(I)I" } : Jvm.MethodName) ({ cls := "PersistentHeap", name := "number", desc := "(I)I" } : Jvm.MethodName)) ∈ lw_all := lw_g (lw_at lw_m1 153 rfl) rfl
theorem q178 : (Jvm.Cond.code ({ cls := "PersistentHeap", name := "number", desc := "(I)I" } : Jvm.MethodName) prog_1_method_8_code (2 : Nat) (Option.some Jvm.ClassFile.FieldType.int)) ∈ lw_all := lw_g (lw_at lw_m1 154 rfl) rfl
theorem q180 : (Jvm.Cond.instanceMethod ({ cls := "PersistentHeap", name := "setNumber", desc := "(II)I" } : Jvm.MethodName)) ∈ lw_all := lw_g (lw_at lw_m1 156 rfl) rfl
theorem q181 : (Jvm.Cond.selects "PersistentHeap" ({ cls := "PersistentHeap", name := "setNumber", desc := "(II)I" } : Jvm.MethodName) ({ cls := "PersistentHeap", name := "setNumber", desc := "(II)I" } : Jvm.MethodName)) ∈ lw_all := lw_g (lw_at lw_m1 157 rfl) rfl
theorem q182 : (Jvm.Cond.code ({ cls := "PersistentHeap", name := "setNumber", desc := "(II)I" } : Jvm.MethodName) prog_1_method_9_code (4 : Nat) (Option.some Jvm.ClassFile.FieldType.int)) ∈ lw_all := lw_g (lw_at lw_m1 158 rfl) rfl
theorem q184 : (Jvm.Cond.instanceMethod ({ cls := "PersistentHeap", name := "same", desc := "(II)Z" } : Jvm.MethodName)) ∈ lw_all := lw_g (lw_at lw_m1 160 rfl) rfl
theorem q185 : (Jvm.Cond.selects "PersistentHeap" ({ cls := "PersistentHeap", name := "same", desc := "(II)Z" } : Jvm.MethodName) ({ cls := "PersistentHeap", name := "same", desc := "(II)Z" } : Jvm.MethodName)) ∈ lw_all := lw_g (lw_at lw_m1 161 rfl) rfl
theorem q186 : (Jvm.Cond.code ({ cls := "PersistentHeap", name := "same", desc := "(II)Z" } : Jvm.MethodName) prog_1_method_10_code (3 : Nat) (Option.some Jvm.ClassFile.FieldType.boolean)) ∈ lw_all := lw_g (lw_at lw_m1 162 rfl) rfl
theorem q188 : (Jvm.Cond.instanceMethod ({ cls := "PersistentHeap", name := "save", desc := "()I" } : Jvm.MethodName)) ∈ lw_all := lw_g (lw_at lw_m1 164 rfl) rfl
theorem q189 : (Jvm.Cond.selects "PersistentHeap" ({ cls := "PersistentHeap", name := "save", desc := "()I" } : Jvm.MethodName) ({ cls := "PersistentHeap", name := "save", desc := "()I" } : Jvm.MethodName)) ∈ lw_all := lw_g (lw_at lw_m1 165 rfl) rfl
theorem q190 : (Jvm.Cond.code ({ cls := "PersistentHeap", name := "save", desc := "()I" } : Jvm.MethodName) prog_1_method_16_code (2 : Nat) (Option.some Jvm.ClassFile.FieldType.int)) ∈ lw_all := lw_g (lw_at lw_m1 166 rfl) rfl
theorem q191 : (Jvm.Cond.methodLink "PersistentHeap" (80 : Nat) ({ cls := "PersistentHeap", name := "fromRoots", desc := "()I" } : Jvm.MethodName)) ∈ lw_all := lw_g (lw_at lw_m1 167 rfl) rfl
theorem q192 : (Jvm.Cond.privateMethod ({ cls := "PersistentHeap", name := "fromRoots", desc := "()I" } : Jvm.MethodName)) ∈ lw_tbl := lw_at lw_m1 168 rfl
theorem q193 : (Jvm.Cond.instanceMethod ({ cls := "PersistentHeap", name := "fromRoots", desc := "()I" } : Jvm.MethodName)) ∈ lw_all := lw_g (lw_at lw_m1 169 rfl) rfl
theorem q194 : (Jvm.Cond.code ({ cls := "PersistentHeap", name := "fromRoots", desc := "()I" } : Jvm.MethodName) prog_1_method_27_code (3 : Nat) (Option.some Jvm.ClassFile.FieldType.int)) ∈ lw_all := lw_g (lw_at lw_m1 170 rfl) rfl
theorem q196 : (Jvm.Cond.instanceMethod ({ cls := "PersistentHeap", name := "back", desc := "()I" } : Jvm.MethodName)) ∈ lw_all := lw_g (lw_at lw_m1 172 rfl) rfl
theorem q197 : (Jvm.Cond.selects "PersistentHeap" ({ cls := "PersistentHeap", name := "back", desc := "()I" } : Jvm.MethodName) ({ cls := "PersistentHeap", name := "back", desc := "()I" } : Jvm.MethodName)) ∈ lw_all := lw_g (lw_at lw_m1 173 rfl) rfl
theorem q198 : (Jvm.Cond.code ({ cls := "PersistentHeap", name := "back", desc := "()I" } : Jvm.MethodName) prog_1_method_17_code (1 : Nat) (Option.some Jvm.ClassFile.FieldType.int)) ∈ lw_all := lw_g (lw_at lw_m1 174 rfl) rfl
theorem q199 : (Jvm.Cond.methodLink "PersistentHeap" (83 : Nat) ({ cls := "PersistentHeap", name := "putBack", desc := "()V" } : Jvm.MethodName)) ∈ lw_all := lw_g (lw_at lw_m1 175 rfl) rfl
theorem q200 : (Jvm.Cond.privateMethod ({ cls := "PersistentHeap", name := "putBack", desc := "()V" } : Jvm.MethodName)) ∈ lw_tbl := lw_at lw_m1 176 rfl
theorem q201 : (Jvm.Cond.instanceMethod ({ cls := "PersistentHeap", name := "putBack", desc := "()V" } : Jvm.MethodName)) ∈ lw_all := lw_g (lw_at lw_m1 177 rfl) rfl
theorem q202 : (Jvm.Cond.code ({ cls := "PersistentHeap", name := "putBack", desc := "()V" } : Jvm.MethodName) prog_1_method_15_code (4 : Nat) (Option.none : Option Jvm.ClassFile.FieldType)) ∈ lw_all := lw_g (lw_at lw_m1 178 rfl) rfl
theorem q204 : (Jvm.Cond.instanceMethod ({ cls := "PersistentHeap", name := "crash", desc := "(I)I" } : Jvm.MethodName)) ∈ lw_all := lw_g (lw_at lw_m1 180 rfl) rfl
theorem q205 : (Jvm.Cond.selects "PersistentHeap" ({ cls := "PersistentHeap", name := "crash", desc := "(I)I" } : Jvm.MethodName) ({ cls := "PersistentHeap", name := "crash", desc := "(I)I" } : Jvm.MethodName)) ∈ lw_all := lw_g (lw_at lw_m1 181 rfl) rfl
theorem q206 : (Jvm.Cond.code ({ cls := "PersistentHeap", name := "crash", desc := "(I)I" } : Jvm.MethodName) prog_1_method_18_code (2 : Nat) (Option.some Jvm.ClassFile.FieldType.int)) ∈ lw_all := lw_g (lw_at lw_m1 182 rfl) rfl
theorem q207 : (Jvm.Cond.methodLink "PersistentHeap" (86 : Nat) ({ cls := "PersistentHeap", name := "startAgain", desc := "()V" } : Jvm.MethodName)) ∈ lw_all := lw_g (lw_at lw_m1 183 rfl) rfl
theorem q208 : (Jvm.Cond.privateMethod ({ cls := "PersistentHeap", name := "startAgain", desc := "()V" } : Jvm.MethodName)) ∈ lw_tbl := lw_at lw_m1 184 rfl
theorem q209 : (Jvm.Cond.instanceMethod ({ cls := "PersistentHeap", name := "startAgain", desc := "()V" } : Jvm.MethodName)) ∈ lw_all := lw_g (lw_at lw_m1 185 rfl) rfl
theorem q210 : (Jvm.Cond.code ({ cls := "PersistentHeap", name := "startAgain", desc := "()V" } : Jvm.MethodName) prog_1_method_19_code (2 : Nat) (Option.none : Option Jvm.ClassFile.FieldType)) ∈ lw_all := lw_g (lw_at lw_m1 186 rfl) rfl
theorem q213 : (Jvm.Cond.instanceMethod ({ cls := "PersistentHeap", name := "collectAndCrash", desc := "(I)I" } : Jvm.MethodName)) ∈ lw_all := lw_g (lw_at lw_m1 189 rfl) rfl
theorem q214 : (Jvm.Cond.selects "PersistentHeap" ({ cls := "PersistentHeap", name := "collectAndCrash", desc := "(I)I" } : Jvm.MethodName) ({ cls := "PersistentHeap", name := "collectAndCrash", desc := "(I)I" } : Jvm.MethodName)) ∈ lw_all := lw_g (lw_at lw_m1 190 rfl) rfl
theorem q215 : (Jvm.Cond.code ({ cls := "PersistentHeap", name := "collectAndCrash", desc := "(I)I" } : Jvm.MethodName) prog_1_method_21_code (2 : Nat) (Option.some Jvm.ClassFile.FieldType.int)) ∈ lw_all := lw_g (lw_at lw_m1 191 rfl) rfl
theorem q217 : (Jvm.Cond.instanceMethod ({ cls := "PersistentHeap", name := "needed", desc := "()I" } : Jvm.MethodName)) ∈ lw_all := lw_g (lw_at lw_m1 193 rfl) rfl
theorem q218 : (Jvm.Cond.selects "PersistentHeap" ({ cls := "PersistentHeap", name := "needed", desc := "()I" } : Jvm.MethodName) ({ cls := "PersistentHeap", name := "needed", desc := "()I" } : Jvm.MethodName)) ∈ lw_all := lw_g (lw_at lw_m1 194 rfl) rfl
theorem q219 : (Jvm.Cond.code ({ cls := "PersistentHeap", name := "needed", desc := "()I" } : Jvm.MethodName) prog_1_method_22_code (2 : Nat) (Option.some Jvm.ClassFile.FieldType.int)) ∈ lw_all := lw_g (lw_at lw_m1 195 rfl) rfl
theorem q221 : (Jvm.Cond.instanceMethod ({ cls := "PersistentHeap", name := "reach", desc := "(I)I" } : Jvm.MethodName)) ∈ lw_all := lw_g (lw_at lw_m1 197 rfl) rfl
theorem q222 : (Jvm.Cond.selects "PersistentHeap" ({ cls := "PersistentHeap", name := "reach", desc := "(I)I" } : Jvm.MethodName) ({ cls := "PersistentHeap", name := "reach", desc := "(I)I" } : Jvm.MethodName)) ∈ lw_all := lw_g (lw_at lw_m1 198 rfl) rfl
theorem q223 : (Jvm.Cond.code ({ cls := "PersistentHeap", name := "reach", desc := "(I)I" } : Jvm.MethodName) prog_1_method_23_code (4 : Nat) (Option.some Jvm.ClassFile.FieldType.int)) ∈ lw_all := lw_g (lw_at lw_m1 199 rfl) rfl
theorem in_X0 : ∀ w ∈ wsX00, w ∈ lw_all := lw_in wsX00 [51, 53, 55, 57, 59, 61, 63, 65, 67, 69, 71, 73, 75, 77, 79, 81] (by decide +kernel) (by decide +kernel)
/-! PersistentHeapModel -/
def RX1 : String := "PersistentHeapModel"
def TX1 : u_T := fun k => match k with
  | 0 => ("PersistentHeapModel", "now", "[I", false)
  | 1 => ("PersistentHeapModel", "then", "[I", false)
  | 2 => ("PersistentHeapModel", "field", "[I", false)
  | 3 => ("PersistentHeapModel", "oldField", "[I", false)
  | 4 => ("PersistentHeapModel", "saved", "[Z", false)
  | 5 => ("PersistentHeapModel", "root", "[I", false)
  | 6 => ("PersistentHeapModel", "oldRoot", "[I", false)
  | 7 => ("PersistentHeapModel", "reg", "[I", false)
  | _ => ("PersistentHeapModel", "seen", "[Z", false)
def tyX1 : Nat → FieldType := fun k => match k with
  | 0 => .array .int
  | 1 => .array .int
  | 2 => .array .int
  | 3 => .array .int
  | 4 => .array .boolean
  | 5 => .array .int
  | 6 => .array .int
  | 7 => .array .int
  | _ => .array .boolean
abbrev wsX10 : List Cond := u_ws RX1 TX1 9
theorem nmX1 : ∀ a, a < 9 → ∀ b, b < 9 → a ≠ b → (TX1 a).2.1 ≠ (TX1 b).2.1 := by decide +kernel
theorem tyX1_ok : ∀ k, k < 9 → parseFieldDescriptor (TX1 k).2.2.1 = some (tyX1 k) := by decide +kernel
abbrev cX1_init : ByteArray := prog_3_method_1_code
def yX1_init : MethodName := ⟨RX1, "<init>", "()V"⟩
abbrev cX1_make : ByteArray := prog_3_method_8_code
def yX1_make : MethodName := ⟨RX1, "make", "(II)I"⟩
abbrev cX1_isRegister : ByteArray := prog_3_method_2_code
def yX1_isRegister : MethodName := ⟨RX1, "isRegister", "(I)Z"⟩
abbrev cX1_need : ByteArray := prog_3_method_6_code
def yX1_need : MethodName := ⟨RX1, "need", "()I"⟩
abbrev cX1_forget : ByteArray := prog_3_method_4_code
def yX1_forget : MethodName := ⟨RX1, "forget", "()V"⟩
abbrev cX1_follow : ByteArray := prog_3_method_5_code
def yX1_follow : MethodName := ⟨RX1, "follow", "(Z)I"⟩
abbrev cX1_fromRoot : ByteArray := prog_3_method_9_code
def yX1_fromRoot : MethodName := ⟨RX1, "fromRoot", "(II)I"⟩
abbrev cX1_isRoot : ByteArray := prog_3_method_3_code
def yX1_isRoot : MethodName := ⟨RX1, "isRoot", "(I)Z"⟩
abbrev cX1_toRoot : ByteArray := prog_3_method_10_code
def yX1_toRoot : MethodName := ⟨RX1, "toRoot", "(II)I"⟩
abbrev cX1_fromField : ByteArray := prog_3_method_11_code
def yX1_fromField : MethodName := ⟨RX1, "fromField", "(III)I"⟩
abbrev cX1_toField : ByteArray := prog_3_method_12_code
def yX1_toField : MethodName := ⟨RX1, "toField", "(III)I"⟩
abbrev cX1_release : ByteArray := prog_3_method_13_code
def yX1_release : MethodName := ⟨RX1, "release", "(I)I"⟩
abbrev cX1_number : ByteArray := prog_3_method_14_code
def yX1_number : MethodName := ⟨RX1, "number", "(I)I"⟩
abbrev cX1_setNumber : ByteArray := prog_3_method_15_code
def yX1_setNumber : MethodName := ⟨RX1, "setNumber", "(II)I"⟩
abbrev cX1_same : ByteArray := prog_3_method_16_code
def yX1_same : MethodName := ⟨RX1, "same", "(II)Z"⟩
abbrev cX1_save : ByteArray := prog_3_method_17_code
def yX1_save : MethodName := ⟨RX1, "save", "()I"⟩
abbrev cX1_fromRoots : ByteArray := prog_3_method_7_code
def yX1_fromRoots : MethodName := ⟨RX1, "fromRoots", "()I"⟩
abbrev cX1_back : ByteArray := prog_3_method_18_code
def yX1_back : MethodName := ⟨RX1, "back", "()I"⟩
abbrev cX1_crash : ByteArray := prog_3_method_19_code
def yX1_crash : MethodName := ⟨RX1, "crash", "(I)I"⟩
abbrev cX1_collect : ByteArray := prog_3_method_20_code
def yX1_collect : MethodName := ⟨RX1, "collect", "()I"⟩
abbrev cX1_collectAndCrash : ByteArray := prog_3_method_21_code
def yX1_collectAndCrash : MethodName := ⟨RX1, "collectAndCrash", "(I)I"⟩
abbrev cX1_needed : ByteArray := prog_3_method_22_code
def yX1_needed : MethodName := ⟨RX1, "needed", "()I"⟩
abbrev cX1_reach : ByteArray := prog_3_method_23_code
def yX1_reach : MethodName := ⟨RX1, "reach", "(I)I"⟩
theorem q26 : (Jvm.Cond.initialized "PersistentHeapModel") ∈ lw_all := lw_g (lw_at lw_m1 2 rfl) rfl
theorem q225 : (Jvm.Cond.instantiable "PersistentHeapModel" (9 : Nat)) ∈ lw_all := lw_g (lw_at lw_m1 201 rfl) rfl
theorem q227 : (Jvm.Cond.instanceMethod ({ cls := "PersistentHeapModel", name := "<init>", desc := "()V" } : Jvm.MethodName)) ∈ lw_all := lw_g (lw_at lw_m1 203 rfl) rfl
theorem q228 : (Jvm.Cond.code ({ cls := "PersistentHeapModel", name := "<init>", desc := "()V" } : Jvm.MethodName) prog_3_method_1_code (2 : Nat) (Option.none : Option Jvm.ClassFile.FieldType)) ∈ lw_all := lw_g (lw_at lw_m1 204 rfl) rfl
theorem q229 : (Jvm.Cond.methodLink "PersistentHeapModel" (1 : Nat) ({ cls := "java/lang/Object", name := "<init>", desc := "()V" } : Jvm.MethodName)) ∈ lw_all := lw_g (lw_at lw_m1 205 rfl) rfl
theorem q230 : (Jvm.Cond.fieldLink "PersistentHeapModel" (7 : Nat) "PersistentHeapModel" "now" "[I") ∈ lw_all := lw_g (lw_at lw_m1 206 rfl) rfl
theorem q231 : (Jvm.Cond.fieldLink "PersistentHeapModel" (13 : Nat) "PersistentHeapModel" "then" "[I") ∈ lw_all := lw_g (lw_at lw_m1 207 rfl) rfl
theorem q232 : (Jvm.Cond.fieldLink "PersistentHeapModel" (16 : Nat) "PersistentHeapModel" "field" "[I") ∈ lw_all := lw_g (lw_at lw_m1 208 rfl) rfl
theorem q233 : (Jvm.Cond.fieldLink "PersistentHeapModel" (19 : Nat) "PersistentHeapModel" "oldField" "[I") ∈ lw_all := lw_g (lw_at lw_m1 209 rfl) rfl
theorem q234 : (Jvm.Cond.fieldLink "PersistentHeapModel" (22 : Nat) "PersistentHeapModel" "saved" "[Z") ∈ lw_all := lw_g (lw_at lw_m1 210 rfl) rfl
theorem q235 : (Jvm.Cond.fieldLink "PersistentHeapModel" (26 : Nat) "PersistentHeapModel" "root" "[I") ∈ lw_all := lw_g (lw_at lw_m1 211 rfl) rfl
theorem q236 : (Jvm.Cond.fieldLink "PersistentHeapModel" (29 : Nat) "PersistentHeapModel" "oldRoot" "[I") ∈ lw_all := lw_g (lw_at lw_m1 212 rfl) rfl
theorem q237 : (Jvm.Cond.fieldLink "PersistentHeapModel" (32 : Nat) "PersistentHeapModel" "reg" "[I") ∈ lw_all := lw_g (lw_at lw_m1 213 rfl) rfl
theorem q238 : (Jvm.Cond.fieldLink "PersistentHeapModel" (35 : Nat) "PersistentHeapModel" "seen" "[Z") ∈ lw_all := lw_g (lw_at lw_m1 214 rfl) rfl
theorem q239 : (Jvm.Cond.lays "PersistentHeapModel" "PersistentHeapModel" "now" "[I") ∈ lw_all := lw_g (lw_at lw_m1 215 rfl) rfl
theorem q240 : (Jvm.Cond.soleField "PersistentHeapModel" "now") ∈ lw_all := lw_g (lw_at lw_m1 216 rfl) rfl
theorem q241 : (Jvm.Cond.lays "PersistentHeapModel" "PersistentHeapModel" "then" "[I") ∈ lw_all := lw_g (lw_at lw_m1 217 rfl) rfl
theorem q242 : (Jvm.Cond.soleField "PersistentHeapModel" "then") ∈ lw_all := lw_g (lw_at lw_m1 218 rfl) rfl
theorem q243 : (Jvm.Cond.lays "PersistentHeapModel" "PersistentHeapModel" "field" "[I") ∈ lw_all := lw_g (lw_at lw_m1 219 rfl) rfl
theorem q244 : (Jvm.Cond.soleField "PersistentHeapModel" "field") ∈ lw_all := lw_g (lw_at lw_m1 220 rfl) rfl
theorem q245 : (Jvm.Cond.lays "PersistentHeapModel" "PersistentHeapModel" "oldField" "[I") ∈ lw_all := lw_g (lw_at lw_m1 221 rfl) rfl
theorem q246 : (Jvm.Cond.soleField "PersistentHeapModel" "oldField") ∈ lw_all := lw_g (lw_at lw_m1 222 rfl) rfl
theorem q247 : (Jvm.Cond.lays "PersistentHeapModel" "PersistentHeapModel" "saved" "[Z") ∈ lw_all := lw_g (lw_at lw_m1 223 rfl) rfl
theorem q248 : (Jvm.Cond.soleField "PersistentHeapModel" "saved") ∈ lw_all := lw_g (lw_at lw_m1 224 rfl) rfl
theorem q249 : (Jvm.Cond.lays "PersistentHeapModel" "PersistentHeapModel" "root" "[I") ∈ lw_all := lw_g (lw_at lw_m1 225 rfl) rfl
theorem q250 : (Jvm.Cond.soleField "PersistentHeapModel" "root") ∈ lw_all := lw_g (lw_at lw_m1 226 rfl) rfl
theorem q251 : (Jvm.Cond.lays "PersistentHeapModel" "PersistentHeapModel" "oldRoot" "[I") ∈ lw_all := lw_g (lw_at lw_m1 227 rfl) rfl
theorem q252 : (Jvm.Cond.soleField "PersistentHeapModel" "oldRoot") ∈ lw_all := lw_g (lw_at lw_m1 228 rfl) rfl
theorem q253 : (Jvm.Cond.lays "PersistentHeapModel" "PersistentHeapModel" "reg" "[I") ∈ lw_all := lw_g (lw_at lw_m1 229 rfl) rfl
theorem q254 : (Jvm.Cond.soleField "PersistentHeapModel" "reg") ∈ lw_all := lw_g (lw_at lw_m1 230 rfl) rfl
theorem q255 : (Jvm.Cond.lays "PersistentHeapModel" "PersistentHeapModel" "seen" "[Z") ∈ lw_all := lw_g (lw_at lw_m1 231 rfl) rfl
theorem q256 : (Jvm.Cond.soleField "PersistentHeapModel" "seen") ∈ lw_all := lw_g (lw_at lw_m1 232 rfl) rfl
theorem q257 : (Jvm.Cond.superclass "PersistentHeapModel" "java/lang/Object") ∈ lw_all := lw_g (lw_at lw_m1 233 rfl) rfl
theorem q259 : (Jvm.Cond.instanceMethod ({ cls := "PersistentHeapModel", name := "make", desc := "(II)I" } : Jvm.MethodName)) ∈ lw_all := lw_g (lw_at lw_m1 235 rfl) rfl
theorem q260 : (Jvm.Cond.selects "PersistentHeapModel" ({ cls := "PersistentHeapModel", name := "make", desc := "(II)I" } : Jvm.MethodName) ({ cls := "PersistentHeapModel", name := "make", desc := "(II)I" } : Jvm.MethodName)) ∈ lw_all := lw_g (lw_at lw_m1 236 rfl) rfl
theorem q261 : (Jvm.Cond.code ({ cls := "PersistentHeapModel", name := "make", desc := "(II)I" } : Jvm.MethodName) prog_3_method_8_code (5 : Nat) (Option.some Jvm.ClassFile.FieldType.int)) ∈ lw_all := lw_g (lw_at lw_m1 237 rfl) rfl
theorem q262 : (Jvm.Cond.methodLink "PersistentHeapModel" (45 : Nat) ({ cls := "PersistentHeapModel", name := "isRegister", desc := "(I)Z" } : Jvm.MethodName)) ∈ lw_all := lw_g (lw_at lw_m1 238 rfl) rfl
theorem q263 : (Jvm.Cond.privateMethod ({ cls := "PersistentHeapModel", name := "isRegister", desc := "(I)Z" } : Jvm.MethodName)) ∈ lw_tbl := lw_at lw_m1 239 rfl
theorem q264 : (Jvm.Cond.instanceMethod ({ cls := "PersistentHeapModel", name := "isRegister", desc := "(I)Z" } : Jvm.MethodName)) ∈ lw_all := lw_g (lw_at lw_m2 0 rfl) rfl
theorem q265 : (Jvm.Cond.code ({ cls := "PersistentHeapModel", name := "isRegister", desc := "(I)Z" } : Jvm.MethodName) prog_3_method_2_code (2 : Nat) (Option.some Jvm.ClassFile.FieldType.boolean)) ∈ lw_all := lw_g (lw_at lw_m2 1 rfl) rfl
theorem q266 : (Jvm.Cond.methodLink "PersistentHeapModel" (49 : Nat) ({ cls := "PersistentHeapModel", name := "need", desc := "()I" } : Jvm.MethodName)) ∈ lw_all := lw_g (lw_at lw_m2 2 rfl) rfl
theorem q267 : (Jvm.Cond.privateMethod ({ cls := "PersistentHeapModel", name := "need", desc := "()I" } : Jvm.MethodName)) ∈ lw_tbl := lw_at lw_m2 3 rfl
theorem q268 : (Jvm.Cond.instanceMethod ({ cls := "PersistentHeapModel", name := "need", desc := "()I" } : Jvm.MethodName)) ∈ lw_all := lw_g (lw_at lw_m2 4 rfl) rfl
theorem q269 : (Jvm.Cond.code ({ cls := "PersistentHeapModel", name := "need", desc := "()I" } : Jvm.MethodName) prog_3_method_6_code (2 : Nat) (Option.some Jvm.ClassFile.FieldType.int)) ∈ lw_all := lw_g (lw_at lw_m2 5 rfl) rfl
theorem q270 : (Jvm.Cond.methodLink "PersistentHeapModel" (38 : Nat) ({ cls := "PersistentHeapModel", name := "forget", desc := "()V" } : Jvm.MethodName)) ∈ lw_all := lw_g (lw_at lw_m2 6 rfl) rfl
theorem q271 : (Jvm.Cond.privateMethod ({ cls := "PersistentHeapModel", name := "forget", desc := "()V" } : Jvm.MethodName)) ∈ lw_tbl := lw_at lw_m2 7 rfl
theorem q272 : (Jvm.Cond.instanceMethod ({ cls := "PersistentHeapModel", name := "forget", desc := "()V" } : Jvm.MethodName)) ∈ lw_all := lw_g (lw_at lw_m2 8 rfl) rfl
theorem q273 : (Jvm.Cond.code ({ cls := "PersistentHeapModel", name := "forget", desc := "()V" } : Jvm.MethodName) prog_3_method_4_code (2 : Nat) (Option.none : Option Jvm.ClassFile.FieldType)) ∈ lw_all := lw_g (lw_at lw_m2 9 rfl) rfl
theorem q274 : (Jvm.Cond.methodLink "PersistentHeapModel" (41 : Nat) ({ cls := "PersistentHeapModel", name := "follow", desc := "(Z)I" } : Jvm.MethodName)) ∈ lw_all := lw_g (lw_at lw_m2 10 rfl) rfl
theorem q275 : (Jvm.Cond.privateMethod ({ cls := "PersistentHeapModel", name := "follow", desc := "(Z)I" } : Jvm.MethodName)) ∈ lw_tbl := lw_at lw_m2 11 rfl
theorem q276 : (Jvm.Cond.instanceMethod ({ cls := "PersistentHeapModel", name := "follow", desc := "(Z)I" } : Jvm.MethodName)) ∈ lw_all := lw_g (lw_at lw_m2 12 rfl) rfl
theorem q277 : (Jvm.Cond.code ({ cls := "PersistentHeapModel", name := "follow", desc := "(Z)I" } : Jvm.MethodName) prog_3_method_5_code (4 : Nat) (Option.some Jvm.ClassFile.FieldType.int)) ∈ lw_all := lw_g (lw_at lw_m2 13 rfl) rfl
theorem q279 : (Jvm.Cond.instanceMethod ({ cls := "PersistentHeapModel", name := "fromRoot", desc := "(II)I" } : Jvm.MethodName)) ∈ lw_all := lw_g (lw_at lw_m2 15 rfl) rfl
theorem q280 : (Jvm.Cond.selects "PersistentHeapModel" ({ cls := "PersistentHeapModel", name := "fromRoot", desc := "(II)I" } : Jvm.MethodName) ({ cls := "PersistentHeapModel", name := "fromRoot", desc := "(II)I" } : Jvm.MethodName)) ∈ lw_all := lw_g (lw_at lw_m2 16 rfl) rfl
theorem q281 : (Jvm.Cond.code ({ cls := "PersistentHeapModel", name := "fromRoot", desc := "(II)I" } : Jvm.MethodName) prog_3_method_9_code (3 : Nat) (Option.some Jvm.ClassFile.FieldType.int)) ∈ lw_all := lw_g (lw_at lw_m2 17 rfl) rfl
theorem q282 : (Jvm.Cond.methodLink "PersistentHeapModel" (53 : Nat) ({ cls := "PersistentHeapModel", name := "isRoot", desc := "(I)Z" } : Jvm.MethodName)) ∈ lw_all := lw_g (lw_at lw_m2 18 rfl) rfl
theorem q283 : (Jvm.Cond.privateMethod ({ cls := "PersistentHeapModel", name := "isRoot", desc := "(I)Z" } : Jvm.MethodName)) ∈ lw_tbl := lw_at lw_m2 19 rfl
theorem q284 : (Jvm.Cond.instanceMethod ({ cls := "PersistentHeapModel", name := "isRoot", desc := "(I)Z" } : Jvm.MethodName)) ∈ lw_all := lw_g (lw_at lw_m2 20 rfl) rfl
theorem q285 : (Jvm.Cond.code ({ cls := "PersistentHeapModel", name := "isRoot", desc := "(I)Z" } : Jvm.MethodName) prog_3_method_3_code (2 : Nat) (Option.some Jvm.ClassFile.FieldType.boolean)) ∈ lw_all := lw_g (lw_at lw_m2 21 rfl) rfl
theorem q287 : (Jvm.Cond.instanceMethod ({ cls := "PersistentHeapModel", name := "toRoot", desc := "(II)I" } : Jvm.MethodName)) ∈ lw_all := lw_g (lw_at lw_m2 23 rfl) rfl
theorem q288 : (Jvm.Cond.selects "PersistentHeapModel" ({ cls := "PersistentHeapModel", name := "toRoot", desc := "(II)I" } : Jvm.MethodName) ({ cls := "PersistentHeapModel", name := "toRoot", desc := "(II)I" } : Jvm.MethodName)) ∈ lw_all := lw_g (lw_at lw_m2 24 rfl) rfl
theorem q289 : (Jvm.Cond.code ({ cls := "PersistentHeapModel", name := "toRoot", desc := "(II)I" } : Jvm.MethodName) prog_3_method_10_code (3 : Nat) (Option.some Jvm.ClassFile.FieldType.int)) ∈ lw_all := lw_g (lw_at lw_m2 25 rfl) rfl
theorem q291 : (Jvm.Cond.instanceMethod ({ cls := "PersistentHeapModel", name := "fromField", desc := "(III)I" } : Jvm.MethodName)) ∈ lw_all := lw_g (lw_at lw_m2 27 rfl) rfl
theorem q292 : (Jvm.Cond.selects "PersistentHeapModel" ({ cls := "PersistentHeapModel", name := "fromField", desc := "(III)I" } : Jvm.MethodName) ({ cls := "PersistentHeapModel", name := "fromField", desc := "(III)I" } : Jvm.MethodName)) ∈ lw_all := lw_g (lw_at lw_m2 28 rfl) rfl
theorem q293 : (Jvm.Cond.code ({ cls := "PersistentHeapModel", name := "fromField", desc := "(III)I" } : Jvm.MethodName) prog_3_method_11_code (4 : Nat) (Option.some Jvm.ClassFile.FieldType.int)) ∈ lw_all := lw_g (lw_at lw_m2 29 rfl) rfl
theorem q295 : (Jvm.Cond.instanceMethod ({ cls := "PersistentHeapModel", name := "toField", desc := "(III)I" } : Jvm.MethodName)) ∈ lw_all := lw_g (lw_at lw_m2 31 rfl) rfl
theorem q296 : (Jvm.Cond.selects "PersistentHeapModel" ({ cls := "PersistentHeapModel", name := "toField", desc := "(III)I" } : Jvm.MethodName) ({ cls := "PersistentHeapModel", name := "toField", desc := "(III)I" } : Jvm.MethodName)) ∈ lw_all := lw_g (lw_at lw_m2 32 rfl) rfl
theorem q297 : (Jvm.Cond.code ({ cls := "PersistentHeapModel", name := "toField", desc := "(III)I" } : Jvm.MethodName) prog_3_method_12_code (4 : Nat) (Option.some Jvm.ClassFile.FieldType.int)) ∈ lw_all := lw_g (lw_at lw_m2 33 rfl) rfl
theorem q299 : (Jvm.Cond.instanceMethod ({ cls := "PersistentHeapModel", name := "release", desc := "(I)I" } : Jvm.MethodName)) ∈ lw_all := lw_g (lw_at lw_m2 35 rfl) rfl
theorem q300 : (Jvm.Cond.selects "PersistentHeapModel" ({ cls := "PersistentHeapModel", name := "release", desc := "(I)I" } : Jvm.MethodName) ({ cls := "PersistentHeapModel", name := "release", desc := "(I)I" } : Jvm.MethodName)) ∈ lw_all := lw_g (lw_at lw_m2 36 rfl) rfl
theorem q301 : (Jvm.Cond.code ({ cls := "PersistentHeapModel", name := "release", desc := "(I)I" } : Jvm.MethodName) prog_3_method_13_code (2 : Nat) (Option.some Jvm.ClassFile.FieldType.int)) ∈ lw_all := lw_g (lw_at lw_m2 37 rfl) rfl
theorem q303 : (Jvm.Cond.instanceMethod ({ cls := "PersistentHeapModel", name := "number", desc := "(I)I" } : Jvm.MethodName)) ∈ lw_all := lw_g (lw_at lw_m2 39 rfl) rfl
theorem q304 : (Jvm.Cond.selects "PersistentHeapModel" ({ cls := "PersistentHeapModel", name := "number", desc := "(I)I" } : Jvm.MethodName) ({ cls := "PersistentHeapModel", name := "number", desc := "(I)I" } : Jvm.MethodName)) ∈ lw_all := lw_g (lw_at lw_m2 40 rfl) rfl
theorem q305 : (Jvm.Cond.code ({ cls := "PersistentHeapModel", name := "number", desc := "(I)I" } : Jvm.MethodName) prog_3_method_14_code (2 : Nat) (Option.some Jvm.ClassFile.FieldType.int)) ∈ lw_all := lw_g (lw_at lw_m2 41 rfl) rfl
theorem q307 : (Jvm.Cond.instanceMethod ({ cls := "PersistentHeapModel", name := "setNumber", desc := "(II)I" } : Jvm.MethodName)) ∈ lw_all := lw_g (lw_at lw_m2 43 rfl) rfl
theorem q308 : (Jvm.Cond.selects "PersistentHeapModel" ({ cls := "PersistentHeapModel", name := "setNumber", desc := "(II)I" } : Jvm.MethodName) ({ cls := "PersistentHeapModel", name := "setNumber", desc := "(II)I" } : Jvm.MethodName)) ∈ lw_all := lw_g (lw_at lw_m2 44 rfl) rfl
theorem q309 : (Jvm.Cond.code ({ cls := "PersistentHeapModel", name := "setNumber", desc := "(II)I" } : Jvm.MethodName) prog_3_method_15_code (3 : Nat) (Option.some Jvm.ClassFile.FieldType.int)) ∈ lw_all := lw_g (lw_at lw_m2 45 rfl) rfl
theorem q311 : (Jvm.Cond.instanceMethod ({ cls := "PersistentHeapModel", name := "same", desc := "(II)Z" } : Jvm.MethodName)) ∈ lw_all := lw_g (lw_at lw_m2 47 rfl) rfl
theorem q312 : (Jvm.Cond.selects "PersistentHeapModel" ({ cls := "PersistentHeapModel", name := "same", desc := "(II)Z" } : Jvm.MethodName) ({ cls := "PersistentHeapModel", name := "same", desc := "(II)Z" } : Jvm.MethodName)) ∈ lw_all := lw_g (lw_at lw_m2 48 rfl) rfl
theorem q313 : (Jvm.Cond.code ({ cls := "PersistentHeapModel", name := "same", desc := "(II)Z" } : Jvm.MethodName) prog_3_method_16_code (3 : Nat) (Option.some Jvm.ClassFile.FieldType.boolean)) ∈ lw_all := lw_g (lw_at lw_m2 49 rfl) rfl
theorem q315 : (Jvm.Cond.instanceMethod ({ cls := "PersistentHeapModel", name := "save", desc := "()I" } : Jvm.MethodName)) ∈ lw_all := lw_g (lw_at lw_m2 51 rfl) rfl
theorem q316 : (Jvm.Cond.selects "PersistentHeapModel" ({ cls := "PersistentHeapModel", name := "save", desc := "()I" } : Jvm.MethodName) ({ cls := "PersistentHeapModel", name := "save", desc := "()I" } : Jvm.MethodName)) ∈ lw_all := lw_g (lw_at lw_m2 52 rfl) rfl
theorem q317 : (Jvm.Cond.code ({ cls := "PersistentHeapModel", name := "save", desc := "()I" } : Jvm.MethodName) prog_3_method_17_code (2 : Nat) (Option.some Jvm.ClassFile.FieldType.int)) ∈ lw_all := lw_g (lw_at lw_m2 53 rfl) rfl
theorem q318 : (Jvm.Cond.methodLink "PersistentHeapModel" (56 : Nat) ({ cls := "PersistentHeapModel", name := "fromRoots", desc := "()I" } : Jvm.MethodName)) ∈ lw_all := lw_g (lw_at lw_m2 54 rfl) rfl
theorem q319 : (Jvm.Cond.privateMethod ({ cls := "PersistentHeapModel", name := "fromRoots", desc := "()I" } : Jvm.MethodName)) ∈ lw_tbl := lw_at lw_m2 55 rfl
theorem q320 : (Jvm.Cond.instanceMethod ({ cls := "PersistentHeapModel", name := "fromRoots", desc := "()I" } : Jvm.MethodName)) ∈ lw_all := lw_g (lw_at lw_m2 56 rfl) rfl
theorem q321 : (Jvm.Cond.code ({ cls := "PersistentHeapModel", name := "fromRoots", desc := "()I" } : Jvm.MethodName) prog_3_method_7_code (2 : Nat) (Option.some Jvm.ClassFile.FieldType.int)) ∈ lw_all := lw_g (lw_at lw_m2 57 rfl) rfl
theorem q323 : (Jvm.Cond.instanceMethod ({ cls := "PersistentHeapModel", name := "back", desc := "()I" } : Jvm.MethodName)) ∈ lw_all := lw_g (lw_at lw_m2 59 rfl) rfl
theorem q324 : (Jvm.Cond.selects "PersistentHeapModel" ({ cls := "PersistentHeapModel", name := "back", desc := "()I" } : Jvm.MethodName) ({ cls := "PersistentHeapModel", name := "back", desc := "()I" } : Jvm.MethodName)) ∈ lw_all := lw_g (lw_at lw_m2 60 rfl) rfl
theorem q325 : (Jvm.Cond.code ({ cls := "PersistentHeapModel", name := "back", desc := "()I" } : Jvm.MethodName) prog_3_method_18_code (2 : Nat) (Option.some Jvm.ClassFile.FieldType.int)) ∈ lw_all := lw_g (lw_at lw_m2 61 rfl) rfl
theorem q327 : (Jvm.Cond.instanceMethod ({ cls := "PersistentHeapModel", name := "crash", desc := "(I)I" } : Jvm.MethodName)) ∈ lw_all := lw_g (lw_at lw_m2 63 rfl) rfl
theorem q328 : (Jvm.Cond.selects "PersistentHeapModel" ({ cls := "PersistentHeapModel", name := "crash", desc := "(I)I" } : Jvm.MethodName) ({ cls := "PersistentHeapModel", name := "crash", desc := "(I)I" } : Jvm.MethodName)) ∈ lw_all := lw_g (lw_at lw_m2 64 rfl) rfl
theorem q329 : (Jvm.Cond.code ({ cls := "PersistentHeapModel", name := "crash", desc := "(I)I" } : Jvm.MethodName) prog_3_method_19_code (3 : Nat) (Option.some Jvm.ClassFile.FieldType.int)) ∈ lw_all := lw_g (lw_at lw_m2 65 rfl) rfl
theorem q330 : (Jvm.Cond.methodLink "PersistentHeapModel" (59 : Nat) ({ cls := "PersistentHeapModel", name := "save", desc := "()I" } : Jvm.MethodName)) ∈ lw_all := lw_g (lw_at lw_m2 66 rfl) rfl
theorem q331 : (Jvm.Cond.methodLink "PersistentHeapModel" (62 : Nat) ({ cls := "PersistentHeapModel", name := "back", desc := "()I" } : Jvm.MethodName)) ∈ lw_all := lw_g (lw_at lw_m2 67 rfl) rfl
theorem q333 : (Jvm.Cond.instanceMethod ({ cls := "PersistentHeapModel", name := "collect", desc := "()I" } : Jvm.MethodName)) ∈ lw_all := lw_g (lw_at lw_m2 69 rfl) rfl
theorem q334 : (Jvm.Cond.selects "PersistentHeapModel" ({ cls := "PersistentHeapModel", name := "collect", desc := "()I" } : Jvm.MethodName) ({ cls := "PersistentHeapModel", name := "collect", desc := "()I" } : Jvm.MethodName)) ∈ lw_all := lw_g (lw_at lw_m2 70 rfl) rfl
theorem q335 : (Jvm.Cond.code ({ cls := "PersistentHeapModel", name := "collect", desc := "()I" } : Jvm.MethodName) prog_3_method_20_code (1 : Nat) (Option.some Jvm.ClassFile.FieldType.int)) ∈ lw_all := lw_g (lw_at lw_m2 71 rfl) rfl
theorem q337 : (Jvm.Cond.instanceMethod ({ cls := "PersistentHeapModel", name := "collectAndCrash", desc := "(I)I" } : Jvm.MethodName)) ∈ lw_all := lw_g (lw_at lw_m2 73 rfl) rfl
theorem q338 : (Jvm.Cond.selects "PersistentHeapModel" ({ cls := "PersistentHeapModel", name := "collectAndCrash", desc := "(I)I" } : Jvm.MethodName) ({ cls := "PersistentHeapModel", name := "collectAndCrash", desc := "(I)I" } : Jvm.MethodName)) ∈ lw_all := lw_g (lw_at lw_m2 74 rfl) rfl
theorem q339 : (Jvm.Cond.code ({ cls := "PersistentHeapModel", name := "collectAndCrash", desc := "(I)I" } : Jvm.MethodName) prog_3_method_21_code (2 : Nat) (Option.some Jvm.ClassFile.FieldType.int)) ∈ lw_all := lw_g (lw_at lw_m2 75 rfl) rfl
theorem q340 : (Jvm.Cond.methodLink "PersistentHeapModel" (65 : Nat) ({ cls := "PersistentHeapModel", name := "crash", desc := "(I)I" } : Jvm.MethodName)) ∈ lw_all := lw_g (lw_at lw_m2 76 rfl) rfl
theorem q342 : (Jvm.Cond.instanceMethod ({ cls := "PersistentHeapModel", name := "needed", desc := "()I" } : Jvm.MethodName)) ∈ lw_all := lw_g (lw_at lw_m2 78 rfl) rfl
theorem q343 : (Jvm.Cond.selects "PersistentHeapModel" ({ cls := "PersistentHeapModel", name := "needed", desc := "()I" } : Jvm.MethodName) ({ cls := "PersistentHeapModel", name := "needed", desc := "()I" } : Jvm.MethodName)) ∈ lw_all := lw_g (lw_at lw_m2 79 rfl) rfl
theorem q344 : (Jvm.Cond.code ({ cls := "PersistentHeapModel", name := "needed", desc := "()I" } : Jvm.MethodName) prog_3_method_22_code (1 : Nat) (Option.some Jvm.ClassFile.FieldType.int)) ∈ lw_all := lw_g (lw_at lw_m2 80 rfl) rfl
theorem q346 : (Jvm.Cond.instanceMethod ({ cls := "PersistentHeapModel", name := "reach", desc := "(I)I" } : Jvm.MethodName)) ∈ lw_all := lw_g (lw_at lw_m2 82 rfl) rfl
theorem q347 : (Jvm.Cond.selects "PersistentHeapModel" ({ cls := "PersistentHeapModel", name := "reach", desc := "(I)I" } : Jvm.MethodName) ({ cls := "PersistentHeapModel", name := "reach", desc := "(I)I" } : Jvm.MethodName)) ∈ lw_all := lw_g (lw_at lw_m2 83 rfl) rfl
theorem q348 : (Jvm.Cond.code ({ cls := "PersistentHeapModel", name := "reach", desc := "(I)I" } : Jvm.MethodName) prog_3_method_23_code (2 : Nat) (Option.some Jvm.ClassFile.FieldType.int)) ∈ lw_all := lw_g (lw_at lw_m2 84 rfl) rfl
theorem in_X1 : ∀ w ∈ wsX10, w ∈ lw_all := lw_in wsX10 [239, 241, 243, 245, 247, 249, 251, 253, 255] (by decide +kernel) (by decide +kernel)
theorem q24 : (Jvm.Cond.initialized "PersistentHeapLaw") ∈ lw_all := lw_g (lw_at lw_m1 0 rfl) rfl
theorem q27 : (Jvm.Cond.classLink "PersistentHeapLaw" (7 : Nat) "PersistentHeap") ∈ lw_all := lw_g (lw_at lw_m1 3 rfl) rfl
theorem q29 : (Jvm.Cond.methodLink "PersistentHeapLaw" (9 : Nat) ({ cls := "PersistentHeap", name := "<init>", desc := "()V" } : Jvm.MethodName)) ∈ lw_all := lw_g (lw_at lw_m1 5 rfl) rfl
theorem q87 : (Jvm.Cond.methodLink "PersistentHeapLaw" (13 : Nat) ({ cls := "PersistentHeap", name := "make", desc := "(II)I" } : Jvm.MethodName)) ∈ lw_all := lw_g (lw_at lw_m1 63 rfl) rfl
theorem q147 : (Jvm.Cond.methodLink "PersistentHeapLaw" (18 : Nat) ({ cls := "PersistentHeap", name := "fromRoot", desc := "(II)I" } : Jvm.MethodName)) ∈ lw_all := lw_g (lw_at lw_m1 123 rfl) rfl
theorem q155 : (Jvm.Cond.methodLink "PersistentHeapLaw" (22 : Nat) ({ cls := "PersistentHeap", name := "toRoot", desc := "(II)I" } : Jvm.MethodName)) ∈ lw_all := lw_g (lw_at lw_m1 131 rfl) rfl
theorem q163 : (Jvm.Cond.methodLink "PersistentHeapLaw" (26 : Nat) ({ cls := "PersistentHeap", name := "fromField", desc := "(III)I" } : Jvm.MethodName)) ∈ lw_all := lw_g (lw_at lw_m1 139 rfl) rfl
theorem q167 : (Jvm.Cond.methodLink "PersistentHeapLaw" (31 : Nat) ({ cls := "PersistentHeap", name := "toField", desc := "(III)I" } : Jvm.MethodName)) ∈ lw_all := lw_g (lw_at lw_m1 143 rfl) rfl
theorem q171 : (Jvm.Cond.methodLink "PersistentHeapLaw" (35 : Nat) ({ cls := "PersistentHeap", name := "release", desc := "(I)I" } : Jvm.MethodName)) ∈ lw_all := lw_g (lw_at lw_m1 147 rfl) rfl
theorem q175 : (Jvm.Cond.methodLink "PersistentHeapLaw" (40 : Nat) ({ cls := "PersistentHeap", name := "number", desc := "(I)I" } : Jvm.MethodName)) ∈ lw_all := lw_g (lw_at lw_m1 151 rfl) rfl
theorem q179 : (Jvm.Cond.methodLink "PersistentHeapLaw" (44 : Nat) ({ cls := "PersistentHeap", name := "setNumber", desc := "(II)I" } : Jvm.MethodName)) ∈ lw_all := lw_g (lw_at lw_m1 155 rfl) rfl
theorem q183 : (Jvm.Cond.methodLink "PersistentHeapLaw" (48 : Nat) ({ cls := "PersistentHeap", name := "same", desc := "(II)Z" } : Jvm.MethodName)) ∈ lw_all := lw_g (lw_at lw_m1 159 rfl) rfl
theorem q187 : (Jvm.Cond.methodLink "PersistentHeapLaw" (53 : Nat) ({ cls := "PersistentHeap", name := "save", desc := "()I" } : Jvm.MethodName)) ∈ lw_all := lw_g (lw_at lw_m1 163 rfl) rfl
theorem q195 : (Jvm.Cond.methodLink "PersistentHeapLaw" (58 : Nat) ({ cls := "PersistentHeap", name := "back", desc := "()I" } : Jvm.MethodName)) ∈ lw_all := lw_g (lw_at lw_m1 171 rfl) rfl
theorem q203 : (Jvm.Cond.methodLink "PersistentHeapLaw" (62 : Nat) ({ cls := "PersistentHeap", name := "crash", desc := "(I)I" } : Jvm.MethodName)) ∈ lw_all := lw_g (lw_at lw_m1 179 rfl) rfl
theorem q211 : (Jvm.Cond.methodLink "PersistentHeapLaw" (66 : Nat) ({ cls := "PersistentHeap", name := "collect", desc := "()I" } : Jvm.MethodName)) ∈ lw_all := lw_g (lw_at lw_m1 187 rfl) rfl
theorem q212 : (Jvm.Cond.methodLink "PersistentHeapLaw" (70 : Nat) ({ cls := "PersistentHeap", name := "collectAndCrash", desc := "(I)I" } : Jvm.MethodName)) ∈ lw_all := lw_g (lw_at lw_m1 188 rfl) rfl
theorem q216 : (Jvm.Cond.methodLink "PersistentHeapLaw" (74 : Nat) ({ cls := "PersistentHeap", name := "needed", desc := "()I" } : Jvm.MethodName)) ∈ lw_all := lw_g (lw_at lw_m1 192 rfl) rfl
theorem q220 : (Jvm.Cond.methodLink "PersistentHeapLaw" (78 : Nat) ({ cls := "PersistentHeap", name := "reach", desc := "(I)I" } : Jvm.MethodName)) ∈ lw_all := lw_g (lw_at lw_m1 196 rfl) rfl
theorem q224 : (Jvm.Cond.classLink "PersistentHeapLaw" (10 : Nat) "PersistentHeapModel") ∈ lw_all := lw_g (lw_at lw_m1 200 rfl) rfl
theorem q226 : (Jvm.Cond.methodLink "PersistentHeapLaw" (12 : Nat) ({ cls := "PersistentHeapModel", name := "<init>", desc := "()V" } : Jvm.MethodName)) ∈ lw_all := lw_g (lw_at lw_m1 202 rfl) rfl
theorem q258 : (Jvm.Cond.methodLink "PersistentHeapLaw" (17 : Nat) ({ cls := "PersistentHeapModel", name := "make", desc := "(II)I" } : Jvm.MethodName)) ∈ lw_all := lw_g (lw_at lw_m1 234 rfl) rfl
theorem q278 : (Jvm.Cond.methodLink "PersistentHeapLaw" (21 : Nat) ({ cls := "PersistentHeapModel", name := "fromRoot", desc := "(II)I" } : Jvm.MethodName)) ∈ lw_all := lw_g (lw_at lw_m2 14 rfl) rfl
theorem q286 : (Jvm.Cond.methodLink "PersistentHeapLaw" (25 : Nat) ({ cls := "PersistentHeapModel", name := "toRoot", desc := "(II)I" } : Jvm.MethodName)) ∈ lw_all := lw_g (lw_at lw_m2 22 rfl) rfl
theorem q290 : (Jvm.Cond.methodLink "PersistentHeapLaw" (30 : Nat) ({ cls := "PersistentHeapModel", name := "fromField", desc := "(III)I" } : Jvm.MethodName)) ∈ lw_all := lw_g (lw_at lw_m2 26 rfl) rfl
theorem q294 : (Jvm.Cond.methodLink "PersistentHeapLaw" (34 : Nat) ({ cls := "PersistentHeapModel", name := "toField", desc := "(III)I" } : Jvm.MethodName)) ∈ lw_all := lw_g (lw_at lw_m2 30 rfl) rfl
theorem q298 : (Jvm.Cond.methodLink "PersistentHeapLaw" (39 : Nat) ({ cls := "PersistentHeapModel", name := "release", desc := "(I)I" } : Jvm.MethodName)) ∈ lw_all := lw_g (lw_at lw_m2 34 rfl) rfl
theorem q302 : (Jvm.Cond.methodLink "PersistentHeapLaw" (43 : Nat) ({ cls := "PersistentHeapModel", name := "number", desc := "(I)I" } : Jvm.MethodName)) ∈ lw_all := lw_g (lw_at lw_m2 38 rfl) rfl
theorem q306 : (Jvm.Cond.methodLink "PersistentHeapLaw" (47 : Nat) ({ cls := "PersistentHeapModel", name := "setNumber", desc := "(II)I" } : Jvm.MethodName)) ∈ lw_all := lw_g (lw_at lw_m2 42 rfl) rfl
theorem q310 : (Jvm.Cond.methodLink "PersistentHeapLaw" (52 : Nat) ({ cls := "PersistentHeapModel", name := "same", desc := "(II)Z" } : Jvm.MethodName)) ∈ lw_all := lw_g (lw_at lw_m2 46 rfl) rfl
theorem q314 : (Jvm.Cond.methodLink "PersistentHeapLaw" (57 : Nat) ({ cls := "PersistentHeapModel", name := "save", desc := "()I" } : Jvm.MethodName)) ∈ lw_all := lw_g (lw_at lw_m2 50 rfl) rfl
theorem q322 : (Jvm.Cond.methodLink "PersistentHeapLaw" (61 : Nat) ({ cls := "PersistentHeapModel", name := "back", desc := "()I" } : Jvm.MethodName)) ∈ lw_all := lw_g (lw_at lw_m2 58 rfl) rfl
theorem q326 : (Jvm.Cond.methodLink "PersistentHeapLaw" (65 : Nat) ({ cls := "PersistentHeapModel", name := "crash", desc := "(I)I" } : Jvm.MethodName)) ∈ lw_all := lw_g (lw_at lw_m2 62 rfl) rfl
theorem q332 : (Jvm.Cond.methodLink "PersistentHeapLaw" (69 : Nat) ({ cls := "PersistentHeapModel", name := "collect", desc := "()I" } : Jvm.MethodName)) ∈ lw_all := lw_g (lw_at lw_m2 68 rfl) rfl
theorem q336 : (Jvm.Cond.methodLink "PersistentHeapLaw" (73 : Nat) ({ cls := "PersistentHeapModel", name := "collectAndCrash", desc := "(I)I" } : Jvm.MethodName)) ∈ lw_all := lw_g (lw_at lw_m2 72 rfl) rfl
theorem q341 : (Jvm.Cond.methodLink "PersistentHeapLaw" (77 : Nat) ({ cls := "PersistentHeapModel", name := "needed", desc := "()I" } : Jvm.MethodName)) ∈ lw_all := lw_g (lw_at lw_m2 77 rfl) rfl
theorem q345 : (Jvm.Cond.methodLink "PersistentHeapLaw" (81 : Nat) ({ cls := "PersistentHeapModel", name := "reach", desc := "(I)I" } : Jvm.MethodName)) ∈ lw_all := lw_g (lw_at lw_m2 81 rfl) rfl
end
section
/-! THE GROUND: the machine's ints by whole numbers; an object with its arrays as ONE table of whole numbers (row: field, place); the walk's judgement ph_V over that table; a row an instruction; calls; contracts ph_M -/
def iI (z : Int) : Int32 := Int32.ofInt z
abbrev inI (z : Int) : Prop := -2147483648 ≤ z ∧ z ≤ 2147483647
theorem iI_toInt {z : Int} (h : inI z) : (iI z).toInt = z := Int32.toInt_ofInt_of_le (by have := h.1; omega) (by have := h.2; omega)
theorem iI_of (z : Int32) : iI z.toInt = z := Int32.ofInt_toInt z
theorem inI_of (z : Int32) : inI z.toInt := ⟨by have := z.le_toInt; omega, by have := z.toInt_lt; omega⟩
theorem iI_ex (z : Int32) : ∃ y : Int, inI y ∧ z = iI y := ⟨z.toInt, inI_of z, (iI_of z).symm⟩
theorem iI_add (a b : Int) : iI a + iI b = iI (a + b) := (Int32.ofInt_add a b).symm
theorem iI_sub (a b : Int) : iI a - iI b = iI (a - b) := (Int32.ofInt_sub a b).symm
theorem iI_mul (a b : Int) : iI a * iI b = iI (a * b) := (Int32.ofInt_mul a b).symm
theorem iI_lt {a b : Int} (ha : inI a) (hb : inI b) : iI a < iI b ↔ a < b := by rw [Int32.lt_iff_toInt_lt, iI_toInt ha, iI_toInt hb]
theorem iI_le {a b : Int} (ha : inI a) (hb : inI b) : iI a ≤ iI b ↔ a ≤ b := by rw [Int32.le_iff_toInt_le, iI_toInt ha, iI_toInt hb]
theorem iI_inj {a b : Int} (ha : inI a) (hb : inI b) : iI a = iI b ↔ a = b := by rw [← Int32.toInt_inj, iI_toInt ha, iI_toInt hb]
theorem iI_0 : iI 0 = 0 := by decide
theorem iI_1 : iI 1 = 1 := by decide
theorem iI_z {a : Int} (ha : inI a) : iI a = 0 ↔ a = 0 := by rw [← iI_0]; exact iI_inj ha ⟨by decide, by decide⟩
theorem iI_clamp {z : Int} (h0 : 0 ≤ z) (h1 : z ≤ 2147483647) : (iI z).toNatClampNeg = z.toNat := by
  show ((iI z).toInt).toNat = z.toNat
  rw [iI_toInt ⟨by omega, h1⟩]
theorem iI_in {z : Int} {n : Nat} (h0 : 0 ≤ z) (h1 : z < (n : Int)) (hn : n ≤ 2147483647) : vp_in (iI z) n := vp_in_iff.mpr (by
  rw [iI_toInt ⟨by omega, by omega⟩]
  exact ⟨h0, h1⟩)
theorem iI_div {a b : Int} (h0 : 0 ≤ a) (h1 : a ≤ 2147483647) (hb : 0 < b) (hb1 : b ≤ 2147483647) : iI a / iI b = iI (a / b) := by
  rw [← Int.tdiv_eq_ediv_of_nonneg h0]
  exact (Int32.ofInt_tdiv (by show (-2147483648 : Int) ≤ a; omega) (by show a ≤ (2147483647 : Int); omega) (by show (-2147483648 : Int) ≤ b; omega) (by show b ≤ (2147483647 : Int); omega)).symm
theorem iI_rem {a b : Int} (h0 : 0 ≤ a) (h1 : a ≤ 2147483647) (hb : 0 < b) (hb1 : b ≤ 2147483647) : iI a - iI a / iI b * iI b = iI (a % b) := by
  rw [iI_div h0 h1 hb hb1, iI_mul, iI_sub]
  congr 1
  rw [Int.emod_def, Int.mul_comm]
theorem iI_byte {z : Int} (h0 : -128 ≤ z) (h1 : z ≤ 127) : (iI z).toInt8.toInt32 = iI z := by
  rw [← Int32.toInt_inj, iI_toInt ⟨by omega, by omega⟩, Int8.toInt_toInt32, Int32.toInt_toInt8, iI_toInt ⟨by omega, by omega⟩]
  exact Int.bmod_eq_of_le (by omega) (by omega)
theorem iI_nb {z : Int} (h0 : -128 ≤ z) (h1 : z ≤ 127) : vp_nar .byte (iI z) = iI z := by rw [vp_nar_byte, iI_byte h0 h1]
theorem iI_nz {z : Int} (h : z = 0 ∨ z = 1) : vp_nar .boolean (iI z) = iI z := by
  rcases h with rfl | rfl <;> decide
/-- the table of whole numbers -/
abbrev St : Type := Nat → Int → Int
def wr (S : St) (k : Nat) (i z : Int) : St := fun k' i' => if k' = k then (if i' = i then z else S k' i') else S k' i'
theorem wr_s {S : St} {k : Nat} {i z : Int} : wr S k i z k i = z := by simp [wr]
theorem wr_i {S : St} {k : Nat} {i i' z : Int} (h : i' ≠ i) : wr S k i z k i' = S k i' := by simp [wr, h]
theorem wr_k {S : St} {k k' : Nat} {i i' z : Int} (h : k' ≠ k) : wr S k i z k' i' = S k' i' := by simp [wr, h]
theorem wr_eq {S : St} {k : Nat} {i i' z : Int} : wr S k i z k i' = if i' = i then z else S k i' := by simp [wr]
theorem wr_self {S : St} {k : Nat} {i z : Int} (h : S k i = z) : wr S k i z = S := by
  funext k' i'
  by_cases hk : k' = k
  · subst hk
    by_cases hi : i' = i
    · subst hi; rw [wr_s, h]
    · rw [wr_i hi]
  · rw [wr_k hk]
/-- class number, name, fields, their number, the array fields, their lengths, what they hold -/
abbrev Sh : Type := Nat × String × u_T × Nat × List Nat × (Nat → Nat) × (Nat → FieldType)
abbrev sh_C (sh : Sh) : String := sh.2.1
abbrev sh_T (sh : Sh) : u_T := sh.2.2.1
abbrev sh_N (sh : Sh) : Nat := sh.2.2.2.1
abbrev sh_al (sh : Sh) : List Nat := sh.2.2.2.2.1
abbrev sh_len (sh : Sh) : Nat → Nat := sh.2.2.2.2.2.1
abbrev sh_ty (sh : Sh) : Nat → FieldType := sh.2.2.2.2.2.2
abbrev vwCl : List vw_C := [(RX0, TX0, 16), (RX1, TX1, 9)]
def pwf (sh : Sh) (ad : Nat → Nat) (S : St) : List Value := (List.range (sh_N sh)).map (fun k => if k ∈ sh_al sh then Value.ref (ad k) else Value.int (iI (S k 0)))
def pwr (S : St) (k : Nat) : Nat → Int32 := fun j => iI (S k (j : Int))
def pw (sh : Sh) (h : Nat) (ad : Nat → Nat) (cs : Nat → ClassId) (S : St) : va_W :=
  (h, .inr (sh.1, pwf sh ad S)) :: (sh_al sh).map (fun k => (ad k, .inl (cs k, sh_len sh k, .inl (pwr S k))))
def tyl (sh : Sh) (cs : Nat → ClassId) : List (ClassId × FieldType) := (sh_al sh).map (fun k => (cs k, sh_ty sh k))
def ShOK (sh : Sh) : Prop := vwCl[sh.1]? = some (sh_C sh, sh_T sh, sh_N sh) ∧ (∀ w ∈ u_ws (sh_C sh) (sh_T sh) (sh_N sh), w ∈ lw_all) ∧ (∃ ty0 : Nat → FieldType, ∀ k, k < sh_N sh → parseFieldDescriptor (sh_T sh k).2.2.1 = some (ty0 k)) ∧ (∀ a, a < sh_N sh → ∀ b, b < sh_N sh → a ≠ b → (sh_T sh a).2.1 ≠ (sh_T sh b).2.1) ∧ (sh_al sh).Nodup ∧ (∀ k ∈ sh_al sh, k < sh_N sh ∧ sh_len sh k ≤ 2147483647)
theorem pw_obj {sh : Sh} {h : Nat} {ad : Nat → Nat} {cs : Nat → ClassId} {S : St} : (pw sh h ad cs S)[0]? = some (h, .inr (sh.1, pwf sh ad S)) := rfl
theorem pw_arr {sh : Sh} {h : Nat} {ad : Nat → Nat} {cs : Nat → ClassId} {S : St} {k : Nat} (hk : k ∈ sh_al sh) : ∃ p, (sh_al sh)[p]? = some k ∧ (pw sh h ad cs S)[p + 1]? = some (ad k, .inl (cs k, sh_len sh k, .inl (pwr S k))) ∧ (tyl sh cs)[p]? = some (cs k, sh_ty sh k) := by
  obtain ⟨p, hp⟩ := List.getElem?_of_mem hk
  refine ⟨p, hp, ?_, ?_⟩
  · show ((sh_al sh).map _)[p]? = _
    rw [List.getElem?_map, hp]
    rfl
  · show ((sh_al sh).map _)[p]? = _
    rw [List.getElem?_map, hp]
    rfl
theorem pwf_A {sh : Sh} {ad : Nat → Nat} {S : St} {k : Nat} (hk : k ∈ sh_al sh) (hn : k < sh_N sh) : (pwf sh ad S)[k]? = some (.ref (ad k)) := by
  unfold pwf
  rw [List.getElem?_map, List.getElem?_range hn]
  show some (if k ∈ sh_al sh then _ else _) = _
  rw [if_pos hk]
theorem pwf_I {sh : Sh} {ad : Nat → Nat} {S : St} {k : Nat} (hk : k ∉ sh_al sh) (hn : k < sh_N sh) : (pwf sh ad S)[k]? = some (.int (iI (S k 0))) := by
  unfold pwf
  rw [List.getElem?_map, List.getElem?_range hn]
  show some (if k ∈ sh_al sh then _ else _) = _
  rw [if_neg hk]
theorem nd_at {l : List Nat} (hn : l.Nodup) {i j k : Nat} (hi : l[i]? = some k) (hj : l[j]? = some k) : i = j := by
  obtain ⟨hi1, hi2⟩ := List.getElem?_eq_some_iff.mp hi
  obtain ⟨hj1, hj2⟩ := List.getElem?_eq_some_iff.mp hj
  exact (List.getElem_inj hn).mp (hi2.trans hj2.symm)
theorem pwf_wr {sh : Sh} {ad : Nat → Nat} {S : St} {k : Nat} {z v : Int} (hk : k ∈ sh_al sh) : pwf sh ad (wr S k z v) = pwf sh ad S := by
  unfold pwf
  apply List.map_congr_left
  intro j _
  by_cases hj : j ∈ sh_al sh
  · rw [if_pos hj, if_pos hj]
  · rw [if_neg hj, if_neg hj, wr_k (fun e => hj (by rw [e]; exact hk))]
theorem pwr_wr {S : St} {k : Nat} {z v : Int} (hz : 0 ≤ z) : pwr (wr S k z v) k = upd (pwr S k) z.toNat (iI v) := by
  funext j
  unfold pwr upd
  by_cases hj : j = z.toNat
  · rw [if_pos hj, show (j : Int) = z by omega, wr_s]
  · rw [if_neg hj, wr_i (by omega)]
theorem pwr_wk {S : St} {k k' : Nat} {z v : Int} (hz : k' ≠ k) : pwr (wr S k z v) k' = pwr S k' := by
  funext j
  unfold pwr
  rw [wr_k hz]
theorem pw_setA {sh : Sh} {h : Nat} {ad : Nat → Nat} {cs : Nat → ClassId} {S : St} {k p : Nat} {z v : Int} (hn : (sh_al sh).Nodup) (hp : (sh_al sh)[p]? = some k) (hz : 0 ≤ z) :
    (pw sh h ad cs S).set (p + 1) (ad k, .inl (cs k, sh_len sh k, .inl (upd (pwr S k) z.toNat (iI v)))) = pw sh h ad cs (wr S k z v) := by
  have hk : k ∈ sh_al sh := List.mem_of_getElem? hp
  unfold pw
  rw [List.set_cons_succ, pwf_wr hk]
  congr 1
  apply List.ext_getElem?
  intro j
  by_cases hj : j = p
  · subst hj
    have hlt := (List.getElem?_eq_some_iff.mp hp).1
    rw [List.getElem?_set_self (by rw [List.length_map]; exact hlt), List.getElem?_map, hp, ← pwr_wr hz]
    rfl
  · rw [List.getElem?_set_ne (Ne.symm hj), List.getElem?_map, List.getElem?_map]
    cases hq : (sh_al sh)[j]? with
    | none => rfl
    | some k' =>
      have hne : k' ≠ k := fun e => hj (nd_at hn (by rw [hq, e]) hp)
      show some (ad k', (Sum.inl (cs k', sh_len sh k', .inl (pwr S k')) : va_E)) = some (ad k', (Sum.inl (cs k', sh_len sh k', .inl (pwr (wr S k z v) k')) : va_E))
      rw [pwr_wk hne]
theorem pw_setI {sh : Sh} {h : Nat} {ad : Nat → Nat} {cs : Nat → ClassId} {S : St} {k : Nat} {v : Int} (hk : k ∉ sh_al sh) (hn : k < sh_N sh) :
    (pw sh h ad cs S).set 0 (h, .inr (sh.1, (pwf sh ad S).set k (.int (iI v)))) = pw sh h ad cs (wr S k 0 v) := by
  unfold pw
  rw [List.set_cons_zero]
  congr 1
  · congr 3
    unfold pwf
    apply List.ext_getElem?
    intro j
    by_cases hj : j = k
    · subst hj
      rw [List.getElem?_set_self (by rw [List.length_map, List.length_range]; exact hn), List.getElem?_map, List.getElem?_range hn]
      show _ = some (if j ∈ sh_al sh then _ else _)
      rw [if_neg hk, wr_s]
    · rw [List.getElem?_set_ne (Ne.symm hj), List.getElem?_map, List.getElem?_map]
      cases hq : (List.range (sh_N sh))[j]? with
      | none => rfl
      | some k' =>
        have he : k' = j := by
          obtain ⟨h1, h2⟩ := List.getElem?_eq_some_iff.mp hq
          rw [List.getElem_range] at h2
          exact h2.symm
        subst he
        show some (if k' ∈ sh_al sh then _ else _) = some (if k' ∈ sh_al sh then _ else _)
        rw [wr_k hj]
  · apply List.map_congr_left
    intro j hj
    rw [pwr_wk (fun e => hk (by rw [← e]; exact hj))]
/-- the addresses alone say whether cells are apart -/
theorem pw_D {sh : Sh} {h : Nat} {ad : Nat → Nat} {cs : Nat → ClassId} {S S' : St} {A : Nat → Prop} (hD : va_D A (pw sh h ad cs S)) : va_D A (pw sh h ad cs S') := by
  have key : ∀ (k : Nat) (q : Nat × va_E), (pw sh h ad cs S')[k]? = some q → ∃ q0, (pw sh h ad cs S)[k]? = some q0 ∧ q0.1 = q.1 := by
    intro k q hq
    cases k with
    | zero =>
      cases hq
      exact ⟨_, rfl, rfl⟩
    | succ k =>
      have hq : ((sh_al sh).map _)[k]? = some q := hq
      rw [List.getElem?_map] at hq
      cases ha : (sh_al sh)[k]? with
      | none => rw [ha] at hq; cases hq
      | some a =>
        rw [ha] at hq
        cases hq
        refine ⟨(ad a, .inl (cs a, sh_len sh a, .inl (pwr S a))), ?_, rfl⟩
        show ((sh_al sh).map _)[k]? = _
        rw [List.getElem?_map, ha]
        rfl
  refine ⟨fun i j x y hi hj hxy => ?_, fun k q hk => ?_⟩
  · obtain ⟨x0, h1, h2⟩ := key i x hi
    obtain ⟨y0, h3, h4⟩ := key j y hj
    exact hD.1 i j x0 y0 h1 h3 (h2.trans (hxy.trans h4.symm))
  · obtain ⟨q0, h1, h2⟩ := key k q hk
    rw [← h2]
    exact hD.2 k q0 h1
theorem pw_A {sh : Sh} {h : Nat} {ad : Nat → Nat} {cs : Nat → ClassId} {S : St} {A : Nat → Prop} {sz : Nat} (hD : va_D A (pw sh h ad cs S)) (hA : ∀ q, sz ≤ q → A q) : ∀ q, va_A (pw sh h ad cs S) sz q → A q := by
  intro q hq
  rcases hq with ⟨k, e, hq⟩ | hq
  · exact hD.2 k (q, e) hq
  · exact hA q hq
/-! locals: the first ones, by their places -/
def en (L : List Value) : List (Nat × Value) := L.mapIdx (fun i v => (i, v))
theorem en_at {L : List Value} {i : Nat} {v : Value} (h : L[i]? = some v) : (en L)[i]? = some (i, v) := by
  unfold en
  rw [List.getElem?_mapIdx, h]
  rfl
theorem en_mem {L : List Value} {q : Nat × Value} (h : q ∈ en L) : L[q.1]? = some q.2 := by
  obtain ⟨i, hi⟩ := List.getElem?_of_mem h
  unfold en at hi
  rw [List.getElem?_mapIdx] at hi
  cases hL : L[i]? with
  | none => rw [hL] at hi; cases hi
  | some v =>
    rw [hL] at hi
    cases hi
    exact hL
def lh (ls : Array Slot) (nL : Nat) (L : List Value) : Prop := lv_has ls nL (en L) ∧ ∀ v ∈ L, v.category = 1
theorem lh_at {ls : Array Slot} {nL : Nat} {L : List Value} (h : lh ls nL L) {i : Nat} {v : Value} (hi : L[i]? = some v) : ls[i]? = some (.val v) := lv_at h.1 i (en_at hi)
theorem lh_pre {ls : Array Slot} {nL : Nat} {L L' : List Value} (h : lh ls nL (L ++ L')) : lh ls nL L := by
  refine ⟨⟨h.1.1, h.1.2.1, fun q hq => ?_⟩, fun v hv => h.2 v (List.mem_append_left _ hv)⟩
  have h1 := en_mem hq
  have hlt := (List.getElem?_eq_some_iff.mp h1).1
  exact lh_at h (by rw [List.getElem?_append_left hlt]; exact h1)
def stL (L : List Value) (i : Nat) (v : Value) : List Value := L.take i ++ v :: L.drop (i + 1)
theorem stL_at {L : List Value} {i j : Nat} {v w : Value} (hi : i ≤ L.length) (h : (stL L i v)[j]? = some w) : (j = i ∧ w = v) ∨ (j ≠ i ∧ L[j]? = some w) := by
  unfold stL at h
  have hl : (L.take i).length = i := by rw [List.length_take]; omega
  by_cases hj : j < i
  · right
    rw [List.getElem?_append_left (by rw [hl]; exact hj), List.getElem?_take_of_lt hj] at h
    exact ⟨by omega, h⟩
  · rw [List.getElem?_append_right (by rw [hl]; omega), hl] at h
    by_cases he : j = i
    · left
      rw [he, Nat.sub_self, List.getElem?_cons_zero] at h
      exact ⟨he, (Option.some.inj h).symm⟩
    · right
      refine ⟨he, ?_⟩
      rw [show j - i = (j - i - 1) + 1 by omega, List.getElem?_cons_succ, List.getElem?_drop, show i + 1 + (j - i - 1) = j by omega] at h
      exact h
theorem lh_st {ls : Array Slot} {nL : Nat} {L L' : List Value} {i : Nat} {v : Value} (hL : lh ls nL L) (hi : i ≤ L.length) (hv : v.category = 1) (e : stL L i v = L') {ls' : Array Slot} (h : lv_has ls' nL ((i, v) :: (en L).filter (fun q => !(q.1 == i) && !(q.1 + 1 == i && q.2.category == 2)))) : lh ls' nL L' := by
  subst e
  have key : ∀ (j : Nat) (w : Value), (stL L i v)[j]? = some w → (j = i ∧ w = v) ∨ (j ≠ i ∧ L[j]? = some w) := fun j w hj => stL_at hi hj
  refine ⟨⟨h.1, h.2.1, fun q hq => ?_⟩, fun w hw => ?_⟩
  · rcases key _ _ (en_mem hq) with ⟨h1, h2⟩ | ⟨h1, h2⟩
    · refine h.2.2 q ?_
      rw [show q = (i, v) from Prod.ext h1 h2]
      exact List.mem_cons_self
    · refine h.2.2 q (List.mem_cons_of_mem _ (List.mem_filter.mpr ⟨?_, ?_⟩))
      · have h3 := List.mem_of_getElem? (en_at h2)
        exact h3
      · have hc := hL.2 q.2 (List.mem_of_getElem? h2)
        simp [h1, hc]
  · obtain ⟨j, hj⟩ := List.getElem?_of_mem hw
    rcases key _ _ hj with ⟨-, h2⟩ | ⟨-, h2⟩
    · rw [h2]; exact hv
    · exact hL.2 w (List.mem_of_getElem? h2)
theorem lh_entry (vs : List Value) {n : Nat} (hc : ∀ v ∈ vs, v.category = 1) (hn : vs.length ≤ n) : lh ((vs.map Slot.val ++ List.replicate (n - vs.length) Slot.unset).toArray) n vs := by
  have at' : ∀ (i : Nat) (w : Slot), ((vs.map Slot.val ++ List.replicate (n - vs.length) Slot.unset).toArray)[i]? = some w → (∃ v ∈ vs, w = .val v) ∨ w = .unset := by
    intro i w hw
    rw [List.getElem?_toArray] at hw
    rcases List.mem_append.mp (List.mem_of_getElem? hw) with h1 | h1
    · obtain ⟨v, h2, h3⟩ := List.mem_map.mp h1
      exact Or.inl ⟨v, h2, h3.symm⟩
    · exact Or.inr (List.eq_of_mem_replicate h1)
  refine ⟨⟨by simp; omega, ⟨fun i v hi h2 => ?_, fun i hi => ?_⟩, fun q hq => ?_⟩, hc⟩
  · rcases at' i _ hi with ⟨v', h3, h4⟩ | h3
    · cases h4
      have := hc v h3
      omega
    · cases h3
  · rcases at' i _ hi with ⟨v', h3, h4⟩ | h3
    · cases h4
    · cases h3
  · have h1 := en_mem hq
    have hlt := (List.getElem?_eq_some_iff.mp h1).1
    rw [List.getElem?_toArray, List.getElem?_append_left (by rw [List.length_map]; exact hlt), List.getElem?_map, h1]
    rfl
end
section
/-! THE WALK'S JUDGEMENT over the table: ph_V; what holds all through a method: ph_C; a row an instruction -/
def xQ (post : Option Value → St → Prop) (B : St → State → Prop) (A : Nat → Prop) : Array Value → State → Outcome → State → Prop := fun _ st oc t => (∃ (r : Option Value) (u : St), oc = .returned r ∧ post r u ∧ B u t) ∧ va_F A st t
def rmd (d mc ms : Nat) : Room := { frames := d, cells := mc, slots := ms, locals := 32 * d }
abbrev Cx : Type := Program × Launch × Env × Room × State × MethodId × Array Value × List Frame × Method × Code × va_G × (Nat → ClassId) × (Nat → Prop) × Nat × Nat × Nat
def ph_B (sh : Sh) (D : va_G) (h : Nat) (ad : Nat → Nat) (cs : Nat → ClassId) (u : St) (t : State) : Prop := va_P D vwCl (pw sh h ad cs u) t.heap ∧ va_K D vwCl (tyl sh cs) t
def ph_V (sh : Sh) (Γ : Cx) (h : Nat) (ad : Nat → Nat) (post : Option Value → St → Prop) (S : St) (pc : Nat) (L st : List Value) : Prop :=
  match Γ with
  | (p, l, e, R, s, m, args, below, meth, c, D, cs, A, nL, mc, ms) => ∀ (H : Heap) (locs : List Loc) (ls : Array Slot), va_P D vwCl (pw sh h ad cs S) H → va_S A s.heap H locs → lh ls nL L →
      W p l e R s m args below meth c H locs mc ms (MQ below (xQ post (ph_B sh D h ad cs) A) args s mc ms A) (F0 m pc ls st)
def ph_C (sh : Sh) (Γ : Cx) (h : Nat) (ad : Nat → Nat) (cc : ByteArray) (nL : Nat) (ret : Option FieldType) (d : Nat) : Prop :=
  match Γ with
  | (p, l, e, R, s, m, args, below, meth, c, D, cs, A, nL', mc, ms) => p.tables.exec = Jvm.exec ∧ c.code = cc ∧ c.maxLocals = nL ∧ nL' = nL ∧ meth.sig.returnType = ret ∧ meth.locks = false ∧ s.vm.findClass (sh_C sh) = some m.cls ∧ (∀ w ∈ lw_all, w.before args s = true) ∧ va_K D vwCl (tyl sh cs) s ∧ (∀ S, va_D A (pw sh h ad cs S)) ∧ (∀ q, s.heap.size ≤ q → A q) ∧ R = rmd d mc ms ∧ ShOK sh
section PHV
variable {sh : Sh} {Γ : Cx} {h : Nat} {ad : Nat → Nat} {post : Option Value → St → Prop} {S : St} {pc : Nat} {L st : List Value} {cc : ByteArray} {nL : Nat} {ret : Option FieldType} {d : Nat}
theorem ph_aload (C : ph_C sh Γ h ad cc nL ret d) {k : Fin 4} {a : Nat} (hd : decode cc pc = .ok (.aload_n k, 1)) (hi : L[(k : Nat)]? = some (.ref a)) (kk : ph_V sh Γ h ad post S (pc + 1) L (.ref a :: st)) : ph_V sh Γ h ad post S pc L (st) := by
  obtain ⟨p, l, e, R, s, m, args, below, meth, c, D, cs, A, nL', mc, ms⟩ := Γ
  obtain ⟨hx, hb, hml, rfl, hr, hlk, hown, hts, hK, hD, hA, rfl, hsh⟩ := C
  intro H locs ls hP hS hl
  exact lv_aload_n hx hb hd rfl (lh_at hl hi) (kk H locs ls hP hS hl)
theorem ph_iload_n (C : ph_C sh Γ h ad cc nL ret d) {k : Fin 4} {x : Int32} (hd : decode cc pc = .ok (.iload_n k, 1)) (hi : L[(k : Nat)]? = some (.int x)) (kk : ph_V sh Γ h ad post S (pc + 1) L (.int x :: st)) : ph_V sh Γ h ad post S pc L (st) := by
  obtain ⟨p, l, e, R, s, m, args, below, meth, c, D, cs, A, nL', mc, ms⟩ := Γ
  obtain ⟨hx, hb, hml, rfl, hr, hlk, hown, hts, hK, hD, hA, rfl, hsh⟩ := C
  intro H locs ls hP hS hl
  exact lv_iload_n hx hb hd rfl (lh_at hl hi) (kk H locs ls hP hS hl)
theorem ph_iload (C : ph_C sh Γ h ad cc nL ret d) {i : Nat} {x : Int32} (hd : decode cc pc = .ok (.iload i, 2)) (hi : L[i]? = some (.int x)) (kk : ph_V sh Γ h ad post S (pc + 2) L (.int x :: st)) : ph_V sh Γ h ad post S pc L (st) := by
  obtain ⟨p, l, e, R, s, m, args, below, meth, c, D, cs, A, nL', mc, ms⟩ := Γ
  obtain ⟨hx, hb, hml, rfl, hr, hlk, hown, hts, hK, hD, hA, rfl, hsh⟩ := C
  intro H locs ls hP hS hl
  exact lv_iload hx hb hd (lh_at hl hi) (kk H locs ls hP hS hl)
theorem ph_iconst (C : ph_C sh Γ h ad cc nL ret d) {n : Int} (hd : decode cc pc = .ok (.iconst n, 1)) (kk : ph_V sh Γ h ad post S (pc + 1) L (.int (iI n) :: st)) : ph_V sh Γ h ad post S pc L (st) := by
  obtain ⟨p, l, e, R, s, m, args, below, meth, c, D, cs, A, nL', mc, ms⟩ := Γ
  obtain ⟨hx, hb, hml, rfl, hr, hlk, hown, hts, hK, hD, hA, rfl, hsh⟩ := C
  intro H locs ls hP hS hl
  exact lv_iconst hx hb hd rfl (kk H locs ls hP hS hl)
theorem ph_bipush (C : ph_C sh Γ h ad cc nL ret d) {n : Int} (hd : decode cc pc = .ok (.bipush n, 2)) (hv : (Int8.ofInt n).toInt32 = iI n) (kk : ph_V sh Γ h ad post S (pc + 2) L (.int (iI n) :: st)) : ph_V sh Γ h ad post S pc L (st) := by
  obtain ⟨p, l, e, R, s, m, args, below, meth, c, D, cs, A, nL', mc, ms⟩ := Γ
  obtain ⟨hx, hb, hml, rfl, hr, hlk, hown, hts, hK, hD, hA, rfl, hsh⟩ := C
  intro H locs ls hP hS hl
  exact lv_bipush hx hb hd hv (kk H locs ls hP hS hl)
theorem ph_sipush (C : ph_C sh Γ h ad cc nL ret d) {n : Int} (hd : decode cc pc = .ok (.sipush n, 3)) (hv : (Int16.ofInt n).toInt32 = iI n) (kk : ph_V sh Γ h ad post S (pc + 3) L (.int (iI n) :: st)) : ph_V sh Γ h ad post S pc L (st) := by
  obtain ⟨p, l, e, R, s, m, args, below, meth, c, D, cs, A, nL', mc, ms⟩ := Γ
  obtain ⟨hx, hb, hml, rfl, hr, hlk, hown, hts, hK, hD, hA, rfl, hsh⟩ := C
  intro H locs ls hP hS hl
  exact lv_sipush hx hb hd hv (kk H locs ls hP hS hl)
theorem ph_istore_n (C : ph_C sh Γ h ad cc nL ret d) {k : Fin 4} {x : Int32} {L' : List Value} (hd : decode cc pc = .ok (.istore_n k, 1)) (hn : (k : Nat) < nL) (hi : (k : Nat) ≤ L.length) (e' : stL L k (.int x) = L') (kk : ph_V sh Γ h ad post S (pc + 1) L' (st)) : ph_V sh Γ h ad post S pc L (.int x :: st) := by
  obtain ⟨p, l, e, R, s, m, args, below, meth, c, D, cs, A, nL', mc, ms⟩ := Γ
  obtain ⟨hx, hb, hml, rfl, hr, hlk, hown, hts, hK, hD, hA, rfl, hsh⟩ := C
  intro H locs ls hP hS hl
  exact lv_istore_n hx hb hd rfl hl.1 hn rfl (fun ls' h' => kk H locs ls' hP hS (lh_st hl hi rfl e' h'))
theorem ph_istore (C : ph_C sh Γ h ad cc nL ret d) {i : Nat} {x : Int32} {L' : List Value} (hd : decode cc pc = .ok (.istore i, 2)) (hn : i < nL) (hi : i ≤ L.length) (e' : stL L i (.int x) = L') (kk : ph_V sh Γ h ad post S (pc + 2) L' (st)) : ph_V sh Γ h ad post S pc L (.int x :: st) := by
  obtain ⟨p, l, e, R, s, m, args, below, meth, c, D, cs, A, nL', mc, ms⟩ := Γ
  obtain ⟨hx, hb, hml, rfl, hr, hlk, hown, hts, hK, hD, hA, rfl, hsh⟩ := C
  intro H locs ls hP hS hl
  exact lv_istore hx hb hd hl.1 hn rfl (fun ls' h' => kk H locs ls' hP hS (lh_st hl hi rfl e' h'))
theorem ph_iinc (C : ph_C sh Γ h ad cc nL ret d) {i : Nat} {n z : Int} {L' : List Value} (hd : decode cc pc = .ok (.iinc i n, 3)) (hz : L[i]? = some (.int (iI z))) (hn : i < nL) (e' : stL L i (.int (iI (z + n))) = L') (kk : ph_V sh Γ h ad post S (pc + 3) L' (st)) : ph_V sh Γ h ad post S pc L (st) := by
  obtain ⟨p, l, e, R, s, m, args, below, meth, c, D, cs, A, nL', mc, ms⟩ := Γ
  obtain ⟨hx, hb, hml, rfl, hr, hlk, hown, hts, hK, hD, hA, rfl, hsh⟩ := C
  intro H locs ls hP hS hl
  exact lv_iinc hx hb hd hl.1 (en_at hz) (iI_add z n) hn rfl (fun ls' h' => kk H locs ls' hP hS (lh_st hl (Nat.le_of_lt (List.getElem?_eq_some_iff.mp hz).1) rfl e' h'))
theorem ph_iadd (C : ph_C sh Γ h ad cc nL ret d) {a b : Int} (hd : decode cc pc = .ok (.iadd, 1)) (kk : ph_V sh Γ h ad post S (pc + 1) L (.int (iI (a + b)) :: st)) : ph_V sh Γ h ad post S pc L (.int (iI b) :: .int (iI a) :: st) := by
  obtain ⟨p, l, e, R, s, m, args, below, meth, c, D, cs, A, nL', mc, ms⟩ := Γ
  obtain ⟨hx, hb, hml, rfl, hr, hlk, hown, hts, hK, hD, hA, rfl, hsh⟩ := C
  intro H locs ls hP hS hl
  exact lv_iadd hx hb hd (by rw [iI_add]; exact kk H locs ls hP hS hl)
theorem ph_isub (C : ph_C sh Γ h ad cc nL ret d) {a b : Int} (hd : decode cc pc = .ok (.isub, 1)) (kk : ph_V sh Γ h ad post S (pc + 1) L (.int (iI (a - b)) :: st)) : ph_V sh Γ h ad post S pc L (.int (iI b) :: .int (iI a) :: st) := by
  obtain ⟨p, l, e, R, s, m, args, below, meth, c, D, cs, A, nL', mc, ms⟩ := Γ
  obtain ⟨hx, hb, hml, rfl, hr, hlk, hown, hts, hK, hD, hA, rfl, hsh⟩ := C
  intro H locs ls hP hS hl
  exact lv_isub hx hb hd (by rw [iI_sub]; exact kk H locs ls hP hS hl)
theorem ph_imul (C : ph_C sh Γ h ad cc nL ret d) {a b : Int} (hd : decode cc pc = .ok (.imul, 1)) (kk : ph_V sh Γ h ad post S (pc + 1) L (.int (iI (a * b)) :: st)) : ph_V sh Γ h ad post S pc L (.int (iI b) :: .int (iI a) :: st) := by
  obtain ⟨p, l, e, R, s, m, args, below, meth, c, D, cs, A, nL', mc, ms⟩ := Γ
  obtain ⟨hx, hb, hml, rfl, hr, hlk, hown, hts, hK, hD, hA, rfl, hsh⟩ := C
  intro H locs ls hP hS hl
  exact lv_imul hx hb hd (by rw [iI_mul]; exact kk H locs ls hP hS hl)
theorem ph_idiv (C : ph_C sh Γ h ad cc nL ret d) {a b : Int} (hd : decode cc pc = .ok (.idiv, 1)) (h0 : 0 ≤ a) (h1 : a ≤ 2147483647) (h2 : 0 < b) (h3 : b ≤ 2147483647) (kk : ph_V sh Γ h ad post S (pc + 1) L (.int (iI (a / b)) :: st)) : ph_V sh Γ h ad post S pc L (.int (iI b) :: .int (iI a) :: st) := by
  obtain ⟨p, l, e, R, s, m, args, below, meth, c, D, cs, A, nL', mc, ms⟩ := Γ
  obtain ⟨hx, hb, hml, rfl, hr, hlk, hown, hts, hK, hD, hA, rfl, hsh⟩ := C
  intro H locs ls hP hS hl
  exact lv_idiv hx hb hd (fun q => by rw [iI_z ⟨by omega, h3⟩] at q; omega) (by rw [iI_div h0 h1 h2 h3]; exact kk H locs ls hP hS hl)
theorem ph_irem (C : ph_C sh Γ h ad cc nL ret d) {a b : Int} (hd : decode cc pc = .ok (.irem, 1)) (h0 : 0 ≤ a) (h1 : a ≤ 2147483647) (h2 : 0 < b) (h3 : b ≤ 2147483647) (kk : ph_V sh Γ h ad post S (pc + 1) L (.int (iI (a % b)) :: st)) : ph_V sh Γ h ad post S pc L (.int (iI b) :: .int (iI a) :: st) := by
  obtain ⟨p, l, e, R, s, m, args, below, meth, c, D, cs, A, nL', mc, ms⟩ := Γ
  obtain ⟨hx, hb, hml, rfl, hr, hlk, hown, hts, hK, hD, hA, rfl, hsh⟩ := C
  intro H locs ls hP hS hl
  exact lv_irem hx hb hd (fun q => by rw [iI_z ⟨by omega, h3⟩] at q; omega) (by rw [iI_rem h0 h1 h2 h3]; exact kk H locs ls hP hS hl)
theorem ph_ior (C : ph_C sh Γ h ad cc nL ret d) {x y : Int32} (hd : decode cc pc = .ok (.ior, 1)) (kk : ph_V sh Γ h ad post S (pc + 1) L (.int (x ||| y) :: st)) : ph_V sh Γ h ad post S pc L (.int y :: .int x :: st) := by
  obtain ⟨p, l, e, R, s, m, args, below, meth, c, D, cs, A, nL', mc, ms⟩ := Γ
  obtain ⟨hx, hb, hml, rfl, hr, hlk, hown, hts, hK, hD, hA, rfl, hsh⟩ := C
  intro H locs ls hP hS hl
  exact lv_ior hx hb hd (kk H locs ls hP hS hl)
theorem ph_iand (C : ph_C sh Γ h ad cc nL ret d) {x y : Int32} (hd : decode cc pc = .ok (.iand, 1)) (kk : ph_V sh Γ h ad post S (pc + 1) L (.int (x &&& y) :: st)) : ph_V sh Γ h ad post S pc L (.int y :: .int x :: st) := by
  obtain ⟨p, l, e, R, s, m, args, below, meth, c, D, cs, A, nL', mc, ms⟩ := Γ
  obtain ⟨hx, hb, hml, rfl, hr, hlk, hown, hts, hK, hD, hA, rfl, hsh⟩ := C
  intro H locs ls hP hS hl
  exact lv_iand hx hb hd (kk H locs ls hP hS hl)
theorem ph_ishl (C : ph_C sh Γ h ad cc nL ret d) {x y : Int32} (hd : decode cc pc = .ok (.ishl, 1)) (kk : ph_V sh Γ h ad post S (pc + 1) L (.int (x <<< (y &&& 31)) :: st)) : ph_V sh Γ h ad post S pc L (.int y :: .int x :: st) := by
  obtain ⟨p, l, e, R, s, m, args, below, meth, c, D, cs, A, nL', mc, ms⟩ := Γ
  obtain ⟨hx, hb, hml, rfl, hr, hlk, hown, hts, hK, hD, hA, rfl, hsh⟩ := C
  intro H locs ls hP hS hl
  exact lv_ishl hx hb hd (kk H locs ls hP hS hl)
theorem ph_iushr (C : ph_C sh Γ h ad cc nL ret d) {x y : Int32} (hd : decode cc pc = .ok (.iushr, 1)) (kk : ph_V sh Γ h ad post S (pc + 1) L (.int ((x.toUInt32 >>> (y.toUInt32 &&& Int32.toUInt32 31)).toInt32) :: st)) : ph_V sh Γ h ad post S pc L (.int y :: .int x :: st) := by
  obtain ⟨p, l, e, R, s, m, args, below, meth, c, D, cs, A, nL', mc, ms⟩ := Γ
  obtain ⟨hx, hb, hml, rfl, hr, hlk, hown, hts, hK, hD, hA, rfl, hsh⟩ := C
  intro H locs ls hP hS hl
  exact lv_iushr hx hb hd rfl (kk H locs ls hP hS hl)
theorem ph_i2b (C : ph_C sh Γ h ad cc nL ret d) {z : Int} (hd : decode cc pc = .ok (.i2b, 1)) (h0 : -128 ≤ z) (h1 : z ≤ 127) (kk : ph_V sh Γ h ad post S (pc + 1) L (.int (iI z) :: st)) : ph_V sh Γ h ad post S pc L (.int (iI z) :: st) := by
  obtain ⟨p, l, e, R, s, m, args, below, meth, c, D, cs, A, nL', mc, ms⟩ := Γ
  obtain ⟨hx, hb, hml, rfl, hr, hlk, hown, hts, hK, hD, hA, rfl, hsh⟩ := C
  intro H locs ls hP hS hl
  exact lv_i2b hx hb hd (iI_byte h0 h1) (kk H locs ls hP hS hl)
theorem ph_dupi (C : ph_C sh Γ h ad cc nL ret d) {x : Int32} (hd : decode cc pc = .ok (.dup, 1)) (kk : ph_V sh Γ h ad post S (pc + 1) L (.int x :: .int x :: st)) : ph_V sh Γ h ad post S pc L (.int x :: st) := by
  obtain ⟨p, l, e, R, s, m, args, below, meth, c, D, cs, A, nL', mc, ms⟩ := Γ
  obtain ⟨hx, hb, hml, rfl, hr, hlk, hown, hts, hK, hD, hA, rfl, hsh⟩ := C
  intro H locs ls hP hS hl
  exact lv_dup hx hb hd rfl (kk H locs ls hP hS hl)
theorem ph_dupr (C : ph_C sh Γ h ad cc nL ret d) {a : Nat} (hd : decode cc pc = .ok (.dup, 1)) (kk : ph_V sh Γ h ad post S (pc + 1) L (.ref a :: .ref a :: st)) : ph_V sh Γ h ad post S pc L (.ref a :: st) := by
  obtain ⟨p, l, e, R, s, m, args, below, meth, c, D, cs, A, nL', mc, ms⟩ := Γ
  obtain ⟨hx, hb, hml, rfl, hr, hlk, hown, hts, hK, hD, hA, rfl, hsh⟩ := C
  intro H locs ls hP hS hl
  exact lv_dup hx hb hd rfl (kk H locs ls hP hS hl)
theorem ph_dup2 (C : ph_C sh Γ h ad cc nL ret d) {x : Int32} {a : Nat} (hd : decode cc pc = .ok (.dup2, 1)) (kk : ph_V sh Γ h ad post S (pc + 1) L (.int x :: .ref a :: .int x :: .ref a :: st)) : ph_V sh Γ h ad post S pc L (.int x :: .ref a :: st) := by
  obtain ⟨p, l, e, R, s, m, args, below, meth, c, D, cs, A, nL', mc, ms⟩ := Γ
  obtain ⟨hx, hb, hml, rfl, hr, hlk, hown, hts, hK, hD, hA, rfl, hsh⟩ := C
  intro H locs ls hP hS hl
  exact lv_dup2_11 hx hb hd rfl rfl (kk H locs ls hP hS hl)
theorem ph_pop (C : ph_C sh Γ h ad cc nL ret d) {x : Int32} (hd : decode cc pc = .ok (.pop, 1)) (kk : ph_V sh Γ h ad post S (pc + 1) L (st)) : ph_V sh Γ h ad post S pc L (.int x :: st) := by
  obtain ⟨p, l, e, R, s, m, args, below, meth, c, D, cs, A, nL', mc, ms⟩ := Γ
  obtain ⟨hx, hb, hml, rfl, hr, hlk, hown, hts, hK, hD, hA, rfl, hsh⟩ := C
  intro H locs ls hP hS hl
  exact lv_pop hx hb hd rfl (kk H locs ls hP hS hl)
theorem ph_goto (C : ph_C sh Γ h ad cc nL ret d) {off : Int} (tgt : Nat) (hd : decode cc pc = .ok (.goto off, 3)) (ht : (pc : Int) + off = (tgt : Int)) (kk : ph_V sh Γ h ad post S tgt L (st)) : ph_V sh Γ h ad post S pc L (st) := by
  obtain ⟨p, l, e, R, s, m, args, below, meth, c, D, cs, A, nL', mc, ms⟩ := Γ
  obtain ⟨hx, hb, hml, rfl, hr, hlk, hown, hts, hK, hD, hA, rfl, hsh⟩ := C
  intro H locs ls hP hS hl
  exact lv_goto hx hb hd ht (kk H locs ls hP hS hl)
theorem ph_icmp_eq (C : ph_C sh Γ h ad cc nL ret d) {a b off : Int} (tgt : Nat) (hd : decode cc pc = .ok (.if_icmp .eq off, 3)) (ht : (pc : Int) + off = (tgt : Int)) (ha : inI a) (hb : inI b) (kt : a = b → ph_V sh Γ h ad post S tgt L (st)) (kf : ¬ a = b → ph_V sh Γ h ad post S (pc + 3) L (st)) : ph_V sh Γ h ad post S pc L (.int (iI b) :: .int (iI a) :: st) := by
  obtain ⟨p, l, e, R, s, m, args, below, meth, c, D, cs, A, nL', mc, ms⟩ := Γ
  obtain ⟨hx, hb', hml, rfl, hr, hlk, hown, hts, hK, hD, hA, rfl, hsh⟩ := C
  intro H locs ls hP hS hl
  exact lv_icmp_eq hx hb' hd ht (fun q => kt ((iI_inj ha hb).mp q) H locs ls hP hS hl) (fun q => kf (fun w => q ((iI_inj ha hb).mpr w)) H locs ls hP hS hl)
theorem ph_if_eq (C : ph_C sh Γ h ad cc nL ret d) {a off : Int} (tgt : Nat) (hd : decode cc pc = .ok (.ifCond .eq off, 3)) (ht : (pc : Int) + off = (tgt : Int)) (ha : inI a) (kt : a = 0 → ph_V sh Γ h ad post S tgt L (st)) (kf : ¬ a = 0 → ph_V sh Γ h ad post S (pc + 3) L (st)) : ph_V sh Γ h ad post S pc L (.int (iI a) :: st) := by
  obtain ⟨p, l, e, R, s, m, args, below, meth, c, D, cs, A, nL', mc, ms⟩ := Γ
  obtain ⟨hx, hb', hml, rfl, hr, hlk, hown, hts, hK, hD, hA, rfl, hsh⟩ := C
  intro H locs ls hP hS hl
  have hb : inI 0 := ⟨by decide, by decide⟩
  refine lv_if_eq hx hb' hd ht (fun q => ?_) (fun q => ?_)
  · rw [← iI_0] at q
    exact kt ((iI_inj ha hb).mp q) H locs ls hP hS hl
  · rw [← iI_0] at q
    exact kf (fun w => q ((iI_inj ha hb).mpr w)) H locs ls hP hS hl
theorem ph_icmp_ne (C : ph_C sh Γ h ad cc nL ret d) {a b off : Int} (tgt : Nat) (hd : decode cc pc = .ok (.if_icmp .ne off, 3)) (ht : (pc : Int) + off = (tgt : Int)) (ha : inI a) (hb : inI b) (kt : ¬ a = b → ph_V sh Γ h ad post S tgt L (st)) (kf : a = b → ph_V sh Γ h ad post S (pc + 3) L (st)) : ph_V sh Γ h ad post S pc L (.int (iI b) :: .int (iI a) :: st) := by
  obtain ⟨p, l, e, R, s, m, args, below, meth, c, D, cs, A, nL', mc, ms⟩ := Γ
  obtain ⟨hx, hb', hml, rfl, hr, hlk, hown, hts, hK, hD, hA, rfl, hsh⟩ := C
  intro H locs ls hP hS hl
  exact lv_icmp_ne hx hb' hd ht (fun q => kt (fun w => q ((iI_inj ha hb).mpr w)) H locs ls hP hS hl) (fun q => kf ((iI_inj ha hb).mp q) H locs ls hP hS hl)
theorem ph_if_ne (C : ph_C sh Γ h ad cc nL ret d) {a off : Int} (tgt : Nat) (hd : decode cc pc = .ok (.ifCond .ne off, 3)) (ht : (pc : Int) + off = (tgt : Int)) (ha : inI a) (kt : ¬ a = 0 → ph_V sh Γ h ad post S tgt L (st)) (kf : a = 0 → ph_V sh Γ h ad post S (pc + 3) L (st)) : ph_V sh Γ h ad post S pc L (.int (iI a) :: st) := by
  obtain ⟨p, l, e, R, s, m, args, below, meth, c, D, cs, A, nL', mc, ms⟩ := Γ
  obtain ⟨hx, hb', hml, rfl, hr, hlk, hown, hts, hK, hD, hA, rfl, hsh⟩ := C
  intro H locs ls hP hS hl
  have hb : inI 0 := ⟨by decide, by decide⟩
  refine lv_if_ne hx hb' hd ht (fun q => ?_) (fun q => ?_)
  · rw [← iI_0] at q
    exact kt (fun w => q ((iI_inj ha hb).mpr w)) H locs ls hP hS hl
  · rw [← iI_0] at q
    exact kf ((iI_inj ha hb).mp q) H locs ls hP hS hl
theorem ph_icmp_lt (C : ph_C sh Γ h ad cc nL ret d) {a b off : Int} (tgt : Nat) (hd : decode cc pc = .ok (.if_icmp .lt off, 3)) (ht : (pc : Int) + off = (tgt : Int)) (ha : inI a) (hb : inI b) (kt : a < b → ph_V sh Γ h ad post S tgt L (st)) (kf : b ≤ a → ph_V sh Γ h ad post S (pc + 3) L (st)) : ph_V sh Γ h ad post S pc L (.int (iI b) :: .int (iI a) :: st) := by
  obtain ⟨p, l, e, R, s, m, args, below, meth, c, D, cs, A, nL', mc, ms⟩ := Γ
  obtain ⟨hx, hb', hml, rfl, hr, hlk, hown, hts, hK, hD, hA, rfl, hsh⟩ := C
  intro H locs ls hP hS hl
  exact lv_icmp_lt hx hb' hd ht (fun q => kt ((iI_lt ha hb).mp q) H locs ls hP hS hl) (fun q => kf (by have := mt (iI_lt ha hb).mpr q; omega) H locs ls hP hS hl)
theorem ph_if_lt (C : ph_C sh Γ h ad cc nL ret d) {a off : Int} (tgt : Nat) (hd : decode cc pc = .ok (.ifCond .lt off, 3)) (ht : (pc : Int) + off = (tgt : Int)) (ha : inI a) (kt : a < 0 → ph_V sh Γ h ad post S tgt L (st)) (kf : 0 ≤ a → ph_V sh Γ h ad post S (pc + 3) L (st)) : ph_V sh Γ h ad post S pc L (.int (iI a) :: st) := by
  obtain ⟨p, l, e, R, s, m, args, below, meth, c, D, cs, A, nL', mc, ms⟩ := Γ
  obtain ⟨hx, hb', hml, rfl, hr, hlk, hown, hts, hK, hD, hA, rfl, hsh⟩ := C
  intro H locs ls hP hS hl
  have hb : inI 0 := ⟨by decide, by decide⟩
  refine lv_if_lt hx hb' hd ht (fun q => ?_) (fun q => ?_)
  · rw [← iI_0] at q
    exact kt ((iI_lt ha hb).mp q) H locs ls hP hS hl
  · rw [← iI_0] at q
    exact kf (by have := mt (iI_lt ha hb).mpr q; omega) H locs ls hP hS hl
theorem ph_icmp_ge (C : ph_C sh Γ h ad cc nL ret d) {a b off : Int} (tgt : Nat) (hd : decode cc pc = .ok (.if_icmp .ge off, 3)) (ht : (pc : Int) + off = (tgt : Int)) (ha : inI a) (hb : inI b) (kt : b ≤ a → ph_V sh Γ h ad post S tgt L (st)) (kf : a < b → ph_V sh Γ h ad post S (pc + 3) L (st)) : ph_V sh Γ h ad post S pc L (.int (iI b) :: .int (iI a) :: st) := by
  obtain ⟨p, l, e, R, s, m, args, below, meth, c, D, cs, A, nL', mc, ms⟩ := Γ
  obtain ⟨hx, hb', hml, rfl, hr, hlk, hown, hts, hK, hD, hA, rfl, hsh⟩ := C
  intro H locs ls hP hS hl
  exact lv_icmp_ge hx hb' hd ht (fun q => kt ((iI_le hb ha).mp q) H locs ls hP hS hl) (fun q => kf (by have := mt (iI_le hb ha).mpr q; omega) H locs ls hP hS hl)
theorem ph_if_ge (C : ph_C sh Γ h ad cc nL ret d) {a off : Int} (tgt : Nat) (hd : decode cc pc = .ok (.ifCond .ge off, 3)) (ht : (pc : Int) + off = (tgt : Int)) (ha : inI a) (kt : 0 ≤ a → ph_V sh Γ h ad post S tgt L (st)) (kf : a < 0 → ph_V sh Γ h ad post S (pc + 3) L (st)) : ph_V sh Γ h ad post S pc L (.int (iI a) :: st) := by
  obtain ⟨p, l, e, R, s, m, args, below, meth, c, D, cs, A, nL', mc, ms⟩ := Γ
  obtain ⟨hx, hb', hml, rfl, hr, hlk, hown, hts, hK, hD, hA, rfl, hsh⟩ := C
  intro H locs ls hP hS hl
  have hb : inI 0 := ⟨by decide, by decide⟩
  refine lv_if_ge hx hb' hd ht (fun q => ?_) (fun q => ?_)
  · rw [← iI_0] at q
    exact kt ((iI_le hb ha).mp q) H locs ls hP hS hl
  · rw [← iI_0] at q
    exact kf (by have := mt (iI_le hb ha).mpr q; omega) H locs ls hP hS hl
theorem ph_icmp_gt (C : ph_C sh Γ h ad cc nL ret d) {a b off : Int} (tgt : Nat) (hd : decode cc pc = .ok (.if_icmp .gt off, 3)) (ht : (pc : Int) + off = (tgt : Int)) (ha : inI a) (hb : inI b) (kt : b < a → ph_V sh Γ h ad post S tgt L (st)) (kf : a ≤ b → ph_V sh Γ h ad post S (pc + 3) L (st)) : ph_V sh Γ h ad post S pc L (.int (iI b) :: .int (iI a) :: st) := by
  obtain ⟨p, l, e, R, s, m, args, below, meth, c, D, cs, A, nL', mc, ms⟩ := Γ
  obtain ⟨hx, hb', hml, rfl, hr, hlk, hown, hts, hK, hD, hA, rfl, hsh⟩ := C
  intro H locs ls hP hS hl
  exact lv_icmp_gt hx hb' hd ht (fun q => kt ((iI_lt hb ha).mp q) H locs ls hP hS hl) (fun q => kf (by have := mt (iI_lt hb ha).mpr q; omega) H locs ls hP hS hl)
theorem ph_if_gt (C : ph_C sh Γ h ad cc nL ret d) {a off : Int} (tgt : Nat) (hd : decode cc pc = .ok (.ifCond .gt off, 3)) (ht : (pc : Int) + off = (tgt : Int)) (ha : inI a) (kt : 0 < a → ph_V sh Γ h ad post S tgt L (st)) (kf : a ≤ 0 → ph_V sh Γ h ad post S (pc + 3) L (st)) : ph_V sh Γ h ad post S pc L (.int (iI a) :: st) := by
  obtain ⟨p, l, e, R, s, m, args, below, meth, c, D, cs, A, nL', mc, ms⟩ := Γ
  obtain ⟨hx, hb', hml, rfl, hr, hlk, hown, hts, hK, hD, hA, rfl, hsh⟩ := C
  intro H locs ls hP hS hl
  have hb : inI 0 := ⟨by decide, by decide⟩
  refine lv_if_gt hx hb' hd ht (fun q => ?_) (fun q => ?_)
  · rw [← iI_0] at q
    exact kt ((iI_lt hb ha).mp q) H locs ls hP hS hl
  · rw [← iI_0] at q
    exact kf (by have := mt (iI_lt hb ha).mpr q; omega) H locs ls hP hS hl
theorem ph_icmp_le (C : ph_C sh Γ h ad cc nL ret d) {a b off : Int} (tgt : Nat) (hd : decode cc pc = .ok (.if_icmp .le off, 3)) (ht : (pc : Int) + off = (tgt : Int)) (ha : inI a) (hb : inI b) (kt : a ≤ b → ph_V sh Γ h ad post S tgt L (st)) (kf : b < a → ph_V sh Γ h ad post S (pc + 3) L (st)) : ph_V sh Γ h ad post S pc L (.int (iI b) :: .int (iI a) :: st) := by
  obtain ⟨p, l, e, R, s, m, args, below, meth, c, D, cs, A, nL', mc, ms⟩ := Γ
  obtain ⟨hx, hb', hml, rfl, hr, hlk, hown, hts, hK, hD, hA, rfl, hsh⟩ := C
  intro H locs ls hP hS hl
  exact lv_icmp_le hx hb' hd ht (fun q => kt ((iI_le ha hb).mp q) H locs ls hP hS hl) (fun q => kf (by have := mt (iI_le ha hb).mpr q; omega) H locs ls hP hS hl)
theorem ph_if_le (C : ph_C sh Γ h ad cc nL ret d) {a off : Int} (tgt : Nat) (hd : decode cc pc = .ok (.ifCond .le off, 3)) (ht : (pc : Int) + off = (tgt : Int)) (ha : inI a) (kt : a ≤ 0 → ph_V sh Γ h ad post S tgt L (st)) (kf : 0 < a → ph_V sh Γ h ad post S (pc + 3) L (st)) : ph_V sh Γ h ad post S pc L (.int (iI a) :: st) := by
  obtain ⟨p, l, e, R, s, m, args, below, meth, c, D, cs, A, nL', mc, ms⟩ := Γ
  obtain ⟨hx, hb', hml, rfl, hr, hlk, hown, hts, hK, hD, hA, rfl, hsh⟩ := C
  intro H locs ls hP hS hl
  have hb : inI 0 := ⟨by decide, by decide⟩
  refine lv_if_le hx hb' hd ht (fun q => ?_) (fun q => ?_)
  · rw [← iI_0] at q
    exact kt ((iI_le ha hb).mp q) H locs ls hP hS hl
  · rw [← iI_0] at q
    exact kf (by have := mt (iI_le ha hb).mpr q; omega) H locs ls hP hS hl
theorem ph_icmpr_eq (C : ph_C sh Γ h ad cc nL ret d) {x y : Int32} {off : Int} (tgt : Nat) (hd : decode cc pc = .ok (.if_icmp .eq off, 3)) (ht : (pc : Int) + off = (tgt : Int)) (kt : x = y → ph_V sh Γ h ad post S tgt L (st)) (kf : ¬ x = y → ph_V sh Γ h ad post S (pc + 3) L (st)) : ph_V sh Γ h ad post S pc L (.int y :: .int x :: st) := by
  obtain ⟨p, l, e, R, s, m, args, below, meth, c, D, cs, A, nL', mc, ms⟩ := Γ
  obtain ⟨hx, hb, hml, rfl, hr, hlk, hown, hts, hK, hD, hA, rfl, hsh⟩ := C
  intro H locs ls hP hS hl
  exact lv_icmp_eq hx hb hd ht (fun q => kt q H locs ls hP hS hl) (fun q => kf q H locs ls hP hS hl)
theorem ph_ifr_eq (C : ph_C sh Γ h ad cc nL ret d) {x : Int32} {off : Int} (tgt : Nat) (hd : decode cc pc = .ok (.ifCond .eq off, 3)) (ht : (pc : Int) + off = (tgt : Int)) (kt : x = 0 → ph_V sh Γ h ad post S tgt L (st)) (kf : ¬ x = 0 → ph_V sh Γ h ad post S (pc + 3) L (st)) : ph_V sh Γ h ad post S pc L (.int x :: st) := by
  obtain ⟨p, l, e, R, s, m, args, below, meth, c, D, cs, A, nL', mc, ms⟩ := Γ
  obtain ⟨hx, hb, hml, rfl, hr, hlk, hown, hts, hK, hD, hA, rfl, hsh⟩ := C
  intro H locs ls hP hS hl
  exact lv_if_eq hx hb hd ht (fun q => kt q H locs ls hP hS hl) (fun q => kf q H locs ls hP hS hl)
theorem ph_icmpr_ne (C : ph_C sh Γ h ad cc nL ret d) {x y : Int32} {off : Int} (tgt : Nat) (hd : decode cc pc = .ok (.if_icmp .ne off, 3)) (ht : (pc : Int) + off = (tgt : Int)) (kt : ¬ x = y → ph_V sh Γ h ad post S tgt L (st)) (kf : x = y → ph_V sh Γ h ad post S (pc + 3) L (st)) : ph_V sh Γ h ad post S pc L (.int y :: .int x :: st) := by
  obtain ⟨p, l, e, R, s, m, args, below, meth, c, D, cs, A, nL', mc, ms⟩ := Γ
  obtain ⟨hx, hb, hml, rfl, hr, hlk, hown, hts, hK, hD, hA, rfl, hsh⟩ := C
  intro H locs ls hP hS hl
  exact lv_icmp_ne hx hb hd ht (fun q => kt q H locs ls hP hS hl) (fun q => kf q H locs ls hP hS hl)
theorem ph_ifr_ne (C : ph_C sh Γ h ad cc nL ret d) {x : Int32} {off : Int} (tgt : Nat) (hd : decode cc pc = .ok (.ifCond .ne off, 3)) (ht : (pc : Int) + off = (tgt : Int)) (kt : ¬ x = 0 → ph_V sh Γ h ad post S tgt L (st)) (kf : x = 0 → ph_V sh Γ h ad post S (pc + 3) L (st)) : ph_V sh Γ h ad post S pc L (.int x :: st) := by
  obtain ⟨p, l, e, R, s, m, args, below, meth, c, D, cs, A, nL', mc, ms⟩ := Γ
  obtain ⟨hx, hb, hml, rfl, hr, hlk, hown, hts, hK, hD, hA, rfl, hsh⟩ := C
  intro H locs ls hP hS hl
  exact lv_if_ne hx hb hd ht (fun q => kt q H locs ls hP hS hl) (fun q => kf q H locs ls hP hS hl)
theorem ph_getA (C : ph_C sh Γ h ad cc nL ret d) {k idx : Nat} (hk : k ∈ sh_al sh) (hlink : Cond.fieldLink (sh_C sh) idx (sh_T sh k).1 (sh_T sh k).2.1 (sh_T sh k).2.2.1 ∈ lw_all) (hd : decode cc pc = .ok (.getfield idx, 3)) (kk : ph_V sh Γ h ad post S (pc + 3) L (.ref (ad k) :: st)) : ph_V sh Γ h ad post S pc L (.ref h :: st) := by
  obtain ⟨p, l, e, R, s, m, args, below, meth, c, D, cs, A, nL', mc, ms⟩ := Γ
  obtain ⟨hx, hb, hml, rfl, hr, hlk, hown, hts, hK, hD, hA, rfl, hsh⟩ := C
  intro H locs ls hP hS hl
  obtain ⟨s1, s2, s3, s4, s5, s6⟩ := hsh
  exact va_get (C := sh_C sh) (T := sh_T sh) (N := sh_N sh) hx hb hts s2 hown hK hP 0 pw_obj s1 k (s6 k hk).1 (hts _ hlink) (fun _ h9 => h9) (pwf_A hk (s6 k hk).1) hd (kk H locs ls hP hS hl)
theorem ph_getI (C : ph_C sh Γ h ad cc nL ret d) {k idx : Nat} (hk : k ∉ sh_al sh) (hkn : k < sh_N sh) (hlink : Cond.fieldLink (sh_C sh) idx (sh_T sh k).1 (sh_T sh k).2.1 (sh_T sh k).2.2.1 ∈ lw_all) (hd : decode cc pc = .ok (.getfield idx, 3)) (kk : ph_V sh Γ h ad post S (pc + 3) L (.int (iI (S k 0)) :: st)) : ph_V sh Γ h ad post S pc L (.ref h :: st) := by
  obtain ⟨p, l, e, R, s, m, args, below, meth, c, D, cs, A, nL', mc, ms⟩ := Γ
  obtain ⟨hx, hb, hml, rfl, hr, hlk, hown, hts, hK, hD, hA, rfl, hsh⟩ := C
  intro H locs ls hP hS hl
  obtain ⟨s1, s2, s3, s4, s5, s6⟩ := hsh
  exact va_get (C := sh_C sh) (T := sh_T sh) (N := sh_N sh) hx hb hts s2 hown hK hP 0 pw_obj s1 k hkn (hts _ hlink) (fun _ h9 => h9) (pwf_I hk hkn) hd (kk H locs ls hP hS hl)
theorem ph_putI (C : ph_C sh Γ h ad cc nL ret d) {k idx : Nat} {z : Int} (hk : k ∉ sh_al sh) (hkn : k < sh_N sh) (hlink : Cond.fieldLink (sh_C sh) idx (sh_T sh k).1 (sh_T sh k).2.1 (sh_T sh k).2.2.1 ∈ lw_all) (hfin : (sh_T sh k).2.2.2 = false) (hty : parseFieldDescriptor (sh_T sh k).2.2.1 = some .int) (hd : decode cc pc = .ok (.putfield idx, 3)) (kk : ph_V sh Γ h ad post (wr S k 0 z) (pc + 3) L (st)) : ph_V sh Γ h ad post S pc L (.int (iI z) :: .ref h :: st) := by
  obtain ⟨p, l, e, R, s, m, args, below, meth, c, D, cs, A, nL', mc, ms⟩ := Γ
  obtain ⟨hx, hb, hml, rfl, hr, hlk, hown, hts, hK, hD, hA, rfl, hsh⟩ := C
  intro H locs ls hP hS hl
  obtain ⟨s1, s2, ⟨ty0, s3⟩, s4, s5, s6⟩ := hsh
  refine va_put (C := sh_C sh) (T := sh_T sh) (N := sh_N sh) (ty := .int) hx hb hts s2 ty0 s3 s4 hown hK hP (hD S) hS 0 pw_obj s1 k hkn (hts _ hlink) (fun _ h9 => h9) hfin hty rfl rfl (by unfold pwf; rw [List.length_map, List.length_range]; exact hkn) hd (fun H1 locs1 hP1 hD1 hS1 => ?_)
  rw [pw_setI hk hkn] at hP1
  exact kk H1 locs1 ls hP1 hS1 hl
theorem ph_iald (C : ph_C sh Γ h ad cc nL ret d) {k : Nat} {z : Int} (hk : k ∈ sh_al sh) (hty : sh_ty sh k = .int) (h0 : 0 ≤ z) (h1 : z < (sh_len sh k : Int)) (hd : decode cc pc = .ok (.iaload, 1)) (kk : ph_V sh Γ h ad post S (pc + 1) L (.int (iI (S k z)) :: st)) : ph_V sh Γ h ad post S pc L (.int (iI z) :: .ref (ad k) :: st) := by
  obtain ⟨p, l, e, R, s, m, args, below, meth, c, D, cs, A, nL', mc, ms⟩ := Γ
  obtain ⟨hx, hb, hml, rfl, hr, hlk, hown, hts, hK, hD, hA, rfl, hsh⟩ := C
  intro H locs ls hP hS hl
  obtain ⟨s1, s2, s3, s4, s5, s6⟩ := hsh
  obtain ⟨q, hq, hq1, hq2⟩ := pw_arr (h := h) (ad := ad) (cs := cs) (S := S) hk
  have hle := (s6 k hk).2
  rw [hty] at hq2
  refine va_iald hx hb hK hP (q + 1) q hq1 hq2 (iI_in h0 h1 hle) hd ?_
  have he : pwr S k (iI z).toNatClampNeg = iI (S k z) := by
    unfold pwr
    rw [iI_clamp h0 (by omega), Int.toNat_of_nonneg h0]
  rw [he]
  exact kk H locs ls hP hS hl
theorem ph_bald (C : ph_C sh Γ h ad cc nL ret d) {k : Nat} {z : Int} (hk : k ∈ sh_al sh) (hty : sh_ty sh k = .byte) (h0 : 0 ≤ z) (h1 : z < (sh_len sh k : Int)) (hd : decode cc pc = .ok (.baload, 1)) (kk : ph_V sh Γ h ad post S (pc + 1) L (.int (iI (S k z)) :: st)) : ph_V sh Γ h ad post S pc L (.int (iI z) :: .ref (ad k) :: st) := by
  obtain ⟨p, l, e, R, s, m, args, below, meth, c, D, cs, A, nL', mc, ms⟩ := Γ
  obtain ⟨hx, hb, hml, rfl, hr, hlk, hown, hts, hK, hD, hA, rfl, hsh⟩ := C
  intro H locs ls hP hS hl
  obtain ⟨s1, s2, s3, s4, s5, s6⟩ := hsh
  obtain ⟨q, hq, hq1, hq2⟩ := pw_arr (h := h) (ad := ad) (cs := cs) (S := S) hk
  have hle := (s6 k hk).2
  rw [hty] at hq2
  refine va_bald hx hb hK hP (q + 1) q hq1 hq2 (iI_in h0 h1 hle) hd ?_
  have he : pwr S k (iI z).toNatClampNeg = iI (S k z) := by
    unfold pwr
    rw [iI_clamp h0 (by omega), Int.toNat_of_nonneg h0]
  rw [he]
  exact kk H locs ls hP hS hl
theorem ph_zald (C : ph_C sh Γ h ad cc nL ret d) {k : Nat} {z : Int} (hk : k ∈ sh_al sh) (hty : sh_ty sh k = .boolean) (h0 : 0 ≤ z) (h1 : z < (sh_len sh k : Int)) (hd : decode cc pc = .ok (.baload, 1)) (kk : ph_V sh Γ h ad post S (pc + 1) L (.int (iI (S k z)) :: st)) : ph_V sh Γ h ad post S pc L (.int (iI z) :: .ref (ad k) :: st) := by
  obtain ⟨p, l, e, R, s, m, args, below, meth, c, D, cs, A, nL', mc, ms⟩ := Γ
  obtain ⟨hx, hb, hml, rfl, hr, hlk, hown, hts, hK, hD, hA, rfl, hsh⟩ := C
  intro H locs ls hP hS hl
  obtain ⟨s1, s2, s3, s4, s5, s6⟩ := hsh
  obtain ⟨q, hq, hq1, hq2⟩ := pw_arr (h := h) (ad := ad) (cs := cs) (S := S) hk
  have hle := (s6 k hk).2
  rw [hty] at hq2
  refine va_zald hx hb hK hP (q + 1) q hq1 hq2 (iI_in h0 h1 hle) hd ?_
  have he : pwr S k (iI z).toNatClampNeg = iI (S k z) := by
    unfold pwr
    rw [iI_clamp h0 (by omega), Int.toNat_of_nonneg h0]
  rw [he]
  exact kk H locs ls hP hS hl
theorem ph_iast (C : ph_C sh Γ h ad cc nL ret d) {k : Nat} {z v : Int} (hk : k ∈ sh_al sh) (hty : sh_ty sh k = .int) (h0 : 0 ≤ z) (h1 : z < (sh_len sh k : Int))  (hd : decode cc pc = .ok (.iastore, 1)) (kk : ph_V sh Γ h ad post (wr S k z v) (pc + 1) L (st)) : ph_V sh Γ h ad post S pc L (.int (iI v) :: .int (iI z) :: .ref (ad k) :: st) := by
  obtain ⟨p, l, e, R, s, m, args, below, meth, c, D, cs, A, nL', mc, ms⟩ := Γ
  obtain ⟨hx, hb, hml, rfl, hr, hlk, hown, hts, hK, hD, hA, rfl, hsh⟩ := C
  intro H locs ls hP hS hl
  obtain ⟨s1, s2, s3, s4, s5, s6⟩ := hsh
  obtain ⟨q, hq, hq1, hq2⟩ := pw_arr (h := h) (ad := ad) (cs := cs) (S := S) hk
  have hle := (s6 k hk).2
  rw [hty] at hq2
  refine va_iast hx hb hK hP (hD S) hS (q + 1) q hq1 hq2 (iI_in h0 h1 hle) hd (fun H1 locs1 hP1 hD1 hS1 => ?_)
  rw [iI_clamp h0 (by omega), pw_setA s5 hq h0] at hP1
  exact kk H1 locs1 ls hP1 hS1 hl
theorem ph_bast (C : ph_C sh Γ h ad cc nL ret d) {k : Nat} {z v : Int} (hk : k ∈ sh_al sh) (hty : sh_ty sh k = .byte) (h0 : 0 ≤ z) (h1 : z < (sh_len sh k : Int)) (hv : -128 ≤ v ∧ v ≤ 127) (hd : decode cc pc = .ok (.bastore, 1)) (kk : ph_V sh Γ h ad post (wr S k z v) (pc + 1) L (st)) : ph_V sh Γ h ad post S pc L (.int (iI v) :: .int (iI z) :: .ref (ad k) :: st) := by
  obtain ⟨p, l, e, R, s, m, args, below, meth, c, D, cs, A, nL', mc, ms⟩ := Γ
  obtain ⟨hx, hb, hml, rfl, hr, hlk, hown, hts, hK, hD, hA, rfl, hsh⟩ := C
  intro H locs ls hP hS hl
  obtain ⟨s1, s2, s3, s4, s5, s6⟩ := hsh
  obtain ⟨q, hq, hq1, hq2⟩ := pw_arr (h := h) (ad := ad) (cs := cs) (S := S) hk
  have hle := (s6 k hk).2
  rw [hty] at hq2
  refine va_bast hx hb hK hP (hD S) hS (q + 1) q hq1 hq2 (iI_in h0 h1 hle) hd (fun H1 locs1 hP1 hD1 hS1 => ?_)
  rw [iI_nb hv.1 hv.2, iI_clamp h0 (by omega), pw_setA s5 hq h0] at hP1
  exact kk H1 locs1 ls hP1 hS1 hl
theorem ph_zast (C : ph_C sh Γ h ad cc nL ret d) {k : Nat} {z v : Int} (hk : k ∈ sh_al sh) (hty : sh_ty sh k = .boolean) (h0 : 0 ≤ z) (h1 : z < (sh_len sh k : Int)) (hv : v = 0 ∨ v = 1) (hd : decode cc pc = .ok (.bastore, 1)) (kk : ph_V sh Γ h ad post (wr S k z v) (pc + 1) L (st)) : ph_V sh Γ h ad post S pc L (.int (iI v) :: .int (iI z) :: .ref (ad k) :: st) := by
  obtain ⟨p, l, e, R, s, m, args, below, meth, c, D, cs, A, nL', mc, ms⟩ := Γ
  obtain ⟨hx, hb, hml, rfl, hr, hlk, hown, hts, hK, hD, hA, rfl, hsh⟩ := C
  intro H locs ls hP hS hl
  obtain ⟨s1, s2, s3, s4, s5, s6⟩ := hsh
  obtain ⟨q, hq, hq1, hq2⟩ := pw_arr (h := h) (ad := ad) (cs := cs) (S := S) hk
  have hle := (s6 k hk).2
  rw [hty] at hq2
  refine va_zast hx hb hK hP (hD S) hS (q + 1) q hq1 hq2 (iI_in h0 h1 hle) hd (fun H1 locs1 hP1 hD1 hS1 => ?_)
  rw [iI_nz hv, iI_clamp h0 (by omega), pw_setA s5 hq h0] at hP1
  exact kk H1 locs1 ls hP1 hS1 hl
theorem ph_top {x y : Int32} (e : x = y) (kk : ph_V sh Γ h ad post S pc L (.int y :: st)) : ph_V sh Γ h ad post S pc L (.int x :: st) := by rw [e]; exact kk
theorem ph_tab {S' : St} (e : S = S') (kk : ph_V sh Γ h ad post S' pc L (st)) : ph_V sh Γ h ad post S pc L (st) := by rw [e]; exact kk
theorem ph_drop {L' L'' : List Value} (e : L = L' ++ L'') (kk : ph_V sh Γ h ad post S pc L' (st)) : ph_V sh Γ h ad post S pc L (st) := by
  subst e
  obtain ⟨p, l, e, R, s, m, args, below, meth, c, D, cs, A, nL', mc, ms⟩ := Γ
  intro H locs ls hP hS hl
  exact kk H locs ls hP hS (lh_pre hl)
theorem ph_iret (C : ph_C sh Γ h ad cc nL (some .int) d) {x : Int32} (hd : decode cc pc = .ok (.ireturn, 1)) (hp : post (some (.int x)) S) : ph_V sh Γ h ad post S pc L [.int x] := by
  obtain ⟨p, l, e, R, s, m, args, below, meth, c, D, cs, A, nL', mc, ms⟩ := Γ
  obtain ⟨hx, hb, hml, rfl, hr, hlk, hown, hts, hK, hD, hA, rfl, hsh⟩ := C
  intro H locs ls hP hS hl
  exact W.iret hx hb hr (fun t ht hW => ⟨⟨_, S, rfl, hp, by rw [ht]; exact hP, va_K.moved hW.alike hK⟩, hS.F ht⟩) hS.2.2 hd
theorem ph_zret (C : ph_C sh Γ h ad cc nL (some .boolean) d) {z : Int} (hz : z = 0 ∨ z = 1) (hd : decode cc pc = .ok (.ireturn, 1)) (hp : post (some (.int (iI z))) S) : ph_V sh Γ h ad post S pc L [.int (iI z)] := by
  obtain ⟨p, l, e, R, s, m, args, below, meth, c, D, cs, A, nL', mc, ms⟩ := Γ
  obtain ⟨hx, hb, hml, rfl, hr, hlk, hown, hts, hK, hD, hA, rfl, hsh⟩ := C
  intro H locs ls hP hS hl
  exact W.zret hx hb hr (by rcases hz with rfl | rfl <;> decide) (fun t ht hW => ⟨⟨_, S, rfl, hp, by rw [ht]; exact hP, va_K.moved hW.alike hK⟩, hS.F ht⟩) hS.2.2 hd
theorem ph_vret (C : ph_C sh Γ h ad cc nL none d) (hd : decode cc pc = .ok (.return_, 1)) (hp : post none S) : ph_V sh Γ h ad post S pc L [] := by
  obtain ⟨p, l, e, R, s, m, args, below, meth, c, D, cs, A, nL', mc, ms⟩ := Γ
  obtain ⟨hx, hb, hml, rfl, hr, hlk, hown, hts, hK, hD, hA, rfl, hsh⟩ := C
  intro H locs ls hP hS hl
  exact W.vret hx hb hr (fun t ht hW => ⟨⟨_, S, rfl, hp, by rw [ht]; exact hP, va_K.moved hW.alike hK⟩, hS.F ht⟩) hS.2.2 hd
end PHV
section PHX
variable {p : Program} {l : Launch} {e : Env} {R : Room} {s : State} {m : MethodId} {args : Array Value} {below : List Frame} {meth : Method} {c : Code} {H : Heap} {locs : List Loc} {cells slots : Nat} {Q : State → Prop}
variable {pc : Nat} {ls : Array Slot} {rest st0 : List Value} {a : Array Value} {A0 A1 : Nat → Prop} {H0 : Heap} {mc ms : Nat} {free : Addr → Prop}
theorem va_callx {post : Option Value → St → Prop} {B : St → State → Prop} (hr : va_Run p l e R s m args below meth c H locs cells slots mc ms (F0 m pc ls st0) rest (xQ post B A1 a) free) (hS : va_S A0 H0 H locs) (hA : ∀ q, q < H.size → A1 q → A0 q) (hf : ∀ q, free q → A0 q)
    (kk : ∀ (r : Option Value) (u : St) (t : State) (H1 : Heap) (locs1 : List Loc), t.heap = H1 → s.vm.Alike t.vm → post r u → B u t → H.size ≤ H1.size → (∀ q : Nat, q < H.size → ¬ A1 q → H1[q]? = H[q]?) → va_S A0 H0 H1 locs1 → W p l e R s m args below meth c H1 locs1 (cells + mc) (slots + ms) Q (F0 m (pc + 3) ls (r.toList ++ rest))) : W p l e R s m args below meth c H locs cells slots Q (F0 m pc ls st0) := by
  intro T hT X
  obtain ⟨v, st₀, t, T', L, h0, X', hL, e1, e2, ⟨⟨r, u, hv, hp, hb⟩, hz, hk⟩, st⟩ := hr T hT X
  cases hv
  rw [h0] at hz hk
  obtain ⟨t2, a1, b1⟩ := kk v u t T'.heap (locs ++ L) e1.symm (by rw [← e2]; exact X'.warmed.alike) hp hb (by rw [e1]; exact hz) (fun q h1 h2 => by rw [e1]; exact hk q h1 h2)
    ⟨Nat.le_trans hS.1 (by rw [e1]; exact hz), fun q h1 h2 => by rw [e1, hk q (Nat.lt_of_lt_of_le h1 hS.1) (fun z => h2 (hA q (Nat.lt_of_lt_of_le h1 hS.1) z))]; exact hS.2.1 q h1 h2, fun q hq => by
      rcases List.mem_append.mp hq with h | h
      · exact hS.2.2 q h
      · exact hf _ (hL q h)⟩ T' rfl X'
  exact ⟨t2, st t2 a1, b1⟩
end PHX
/-- a method's contract: from the table S, with the arguments As, it comes to a table and an answer with 'post'; nothing new, nothing else changed -/
def ph_M (sh : Sh) (y : MethodName) (cc : ByteArray) (nL : Nat) (ret : Option FieldType) (d : Nat) (As : List Value) (S : St) (post : Option Value → St → Prop) : Prop :=
  ∀ (l : Launch) (D : va_G) (h : Nat) (ad : Nat → Nat) (cs : Nat → ClassId) (sz : Nat), Met l y (ws_ y cc nL ret) (rmd d 0 0) (va_Pc (.ref h :: As) (fun U => U.heap.size = sz ∧ va_P D vwCl (pw sh h ad cs S) U.heap ∧ va_K D vwCl (tyl sh cs) U ∧ va_D (fun _ => True) (pw sh h ad cs S))) (xQ post (ph_B sh D h ad cs) (va_A (pw sh h ad cs S) sz)) 0 0 (va_A (pw sh h ad cs S) sz)
theorem ph_of {sh : Sh} {y : MethodName} {cc : ByteArray} {nL : Nat} {ret : Option FieldType} {d : Nat} {As : List Value} {S : St} {post : Option Value → St → Prop} (hsh : ShOK sh) (hy : plainName y.cls = true) (hyc : y.cls = sh_C sh) (hAs : ∀ v ∈ As, v.category = 1) (hn : As.length + 1 ≤ nL)
    (body : ∀ (Γ : Cx) (h : Nat) (ad : Nat → Nat), ph_C sh Γ h ad cc nL ret d → ph_V sh Γ h ad post S 0 (.ref h :: As) []) : ph_M sh y cc nL ret d As S post := by
  intro l D h ad cs sz
  refine Met.ofW (cc := cc) (maxL := nL) (ret := ret) hy rfl ?_
  intro p e s m args below meth c s₁ B hml hv
  obtain ⟨rfl, hsz, hP, hK, hD0⟩ := hv
  have hts := atoms_spec (ws := ws_ y cc nL ret) B.pre
  have hts : ∀ w ∈ lw_all, w.before _ s = true := fun w h => hts w (List.mem_cons_of_mem _ h)
  have hown : s.vm.findClass y.cls = some m.cls := findClass_of_methodNamed B.named
  subst hsz
  have hD := hD0.self (sz := s.heap.size)
  have hA : ∀ q : Nat, s.heap.size ≤ q → va_A (pw sh h ad cs S) s.heap.size q := fun q h => Or.inr h
  have hcat : ∀ v ∈ (Value.ref h :: As), v.category = 1 := fun v hv => by
    rcases List.mem_cons.mp hv with rfl | hv
    · rfl
    · exact hAs v hv
  rw [entry_eq m (Value.ref h :: As) hcat nL]
  exact body (p, l, e, _, s, m, _, below, meth, c, D, cs, _, nL, 0, 0) h ad ⟨B.exec, B.bytes, hml, rfl, B.returns, B.notSynchronized, by rw [← hyc]; exact hown, hts, hK, fun S' => pw_D hD, hA, rfl, hsh⟩ s.heap [] _ hP va_S.rf (lh_entry _ hcat (by simpa using hn))
/-- what a call asks of the tables -/
def ph_K (own : String) (idx : Nat) (y : MethodName) (cc : ByteArray) (nL : Nat) (ret : Option FieldType) (n : Nat) : Prop := GoodIn lw_all (wsV own idx y.cls y (ws_ y cc nL ret)) ∧ (y.cls ≠ "java/lang/invoke/MethodHandle" ∧ y.cls ≠ "java/lang/invoke/VarHandle" ∧ (parseMethodDescriptor y.desc).map (fun d => d.parameters.length) = some n)
theorem ph_call {sh : Sh} {Γ : Cx} {h : Nat} {ad : Nat → Nat} {post : Option Value → St → Prop} {S : St} {pc : Nat} {L st rest : List Value} {cc : ByteArray} {nL : Nat} {ret : Option FieldType} {d : Nat} (C : ph_C sh Γ h ad cc nL ret d)
    {y : MethodName} {cc' : ByteArray} {nL' : Nat} {ret' : Option FieldType} {d' idx n : Nat} {As : List Value} {post' : Option Value → St → Prop} (hM : ph_M sh y cc' nL' ret' d' As S post') (hk : ph_K (sh_C sh) idx y cc' nL' ret' n) (hyc : y.cls = sh_C sh) (hn : As.length = n) (hst : st = As.reverse ++ .ref h :: rest) (hroom : (rest.map fun v => v.category).sum ≤ 8) (hd : decode cc pc = .ok (.invokevirtual idx, 3)) (hdd : d' + 1 ≤ d) (hnl : nL' ≤ 13)
    (kk : ∀ (r : Option Value) (S' : St), post' r S' → ph_V sh Γ h ad post S' (pc + 3) L (r.toList ++ rest)) : ph_V sh Γ h ad post S pc L st := by
  subst hst
  obtain ⟨p, l, e, R, s, m, args, below, meth, c, D, cs, A, nL', mc, ms⟩ := Γ
  obtain ⟨hx, hb, hml, rfl, hr, hlk, hown, hts, hK, hD, hA, rfl, hsh⟩ := C
  intro H locs ls hP hS hl
  have hF : ∀ q, va_A (pw sh h ad cs S) H.size q → A q := pw_A (hD S) (fun q hq => hA q (Nat.le_trans hS.1 hq))
  have hrec : ∃ cell : Cell, H[h]? = some cell ∧ cell.vm.isStatics = false ∧ s.vm.findClass y.cls = some cell.cls := by
    rw [hyc]
    exact va_recv hK hP (ci := sh.1) (q0 := 0) hsh.1 pw_obj
  refine va_callx (va_runV (As := As) (rest := rest) ⟨hx, hb, hml, hown, hts⟩ (hM l D h ad cs H.size) (cwV n hts hk.1 rfl rfl rfl ⟨rfl, hk.2⟩ ⟨hdd, by show 8 + (_ + 11) + 32 * d' ≤ 32 * d; omega⟩) ⟨fun a U g mk q => by obtain ⟨q0, q1, qP, qK, qD⟩ := q; exact ⟨q0, q1, qP, va_K.moved (u := U) (U := U.calling g mk a) (Vm.Alike.refl U.vm) qK, qD⟩, hrec, fun U hU hW => ⟨rfl, by rw [hU], by rw [hU]; exact hP, va_K.moved hW.alike hK, (hD S).weaken (fun _ _ _ _ => trivial)⟩⟩ rfl hn hl.1.1 rfl (lv_room hroom) hd ⟨Nat.le_refl _, Nat.le_refl _⟩) hS (fun q _ hq => hF q hq) hF (fun r u t H1 locs1 ht hvm hp hB hz hk1 hS1 => ?_)
  have hP1 := hB.1
  rw [ht] at hP1
  exact kk r u hp H1 locs1 ls hP1 hS1 hl
end
section
set_option maxRecDepth 100000
def lenX (k : Nat) : Nat := match k with
  | 1 => 128
  | 2 => 64
  | 3 => 6
  | 4 => 2
  | 5 => 198
  | 6 => 198
  | 7 => 4
  | 9 => 32
  | 10 => 99
  | 11 => 32
  | 12 => 32
  | 15 => 32
  | _ => 1
def elX (k : Nat) : FieldType := match k with
  | 1 => .byte
  | 2 => .int
  | 3 => .byte
  | 4 => .byte
  | 5 => .byte
  | 6 => .int
  | 7 => .byte
  | 9 => .boolean
  | 10 => .boolean
  | 11 => .byte
  | 12 => .byte
  | 15 => .boolean
  | _ => .int
def shX : Sh := (0, RX0, TX0, 16, [1, 2, 3, 4, 5, 6, 7, 9, 10, 11, 12, 15], lenX, elX)
theorem shX_ok : ShOK shX := ⟨rfl, in_X0, ⟨tyX0, tyX0_ok⟩, nmX0, by decide, by decide⟩
def lenM (k : Nat) : Nat := match k with
  | 0 => 24
  | 1 => 24
  | 2 => 48
  | 3 => 48
  | 4 => 24
  | 5 => 3
  | 6 => 3
  | 7 => 4
  | 8 => 25
  | _ => 1
def elM (k : Nat) : FieldType := match k with
  | 0 => .int
  | 1 => .int
  | 2 => .int
  | 3 => .int
  | 4 => .boolean
  | 5 => .int
  | 6 => .int
  | 7 => .int
  | 8 => .boolean
  | _ => .int
def shM : Sh := (1, RX1, TX1, 9, [0, 1, 2, 3, 4, 5, 6, 7, 8], lenM, elM)
theorem shM_ok : ShOK shM := ⟨rfl, in_X1, ⟨tyX1, tyX1_ok⟩, nmX1, by decide, by decide⟩
section PHF
variable {Γ : Cx} {h : Nat} {ad : Nat → Nat} {post : Option Value → St → Prop} {S : St} {pc : Nat} {L st : List Value} {cc : ByteArray} {nL : Nat} {ret : Option FieldType} {d : Nat}
theorem gX0 (C : ph_C shX Γ h ad cc nL ret d) (hd : decode cc pc = .ok (.getfield 67, 3)) (kk : ph_V shX Γ h ad post S (pc + 3) L (.int (iI (S 0 0)) :: st)) : ph_V shX Γ h ad post S pc L (.ref h :: st) := ph_getI (k := 0) C (by decide) (by decide) q35 hd kk
theorem pX0 (C : ph_C shX Γ h ad cc nL ret d) {z : Int} (hd : decode cc pc = .ok (.putfield 67, 3)) (kk : ph_V shX Γ h ad post (wr S 0 0 z) (pc + 3) L (st)) : ph_V shX Γ h ad post S pc L (.int (iI z) :: .ref h :: st) := ph_putI (k := 0) C (by decide) (by decide) q35 rfl (by decide +kernel) hd kk
theorem gX1 (C : ph_C shX Γ h ad cc nL ret d) (hd : decode cc pc = .ok (.getfield 7, 3)) (kk : ph_V shX Γ h ad post S (pc + 3) L (.ref (ad 1) :: st)) : ph_V shX Γ h ad post S pc L (.ref h :: st) := ph_getA (k := 1) C (by decide) q36 hd kk
theorem lX1 (C : ph_C shX Γ h ad cc nL ret d) {z : Int} (h0 : 0 ≤ z) (h1 : z < 128) (hd : decode cc pc = .ok (.baload, 1)) (kk : ph_V shX Γ h ad post S (pc + 1) L (.int (iI (S 1 z)) :: st)) : ph_V shX Γ h ad post S pc L (.int (iI z) :: .ref (ad 1) :: st) := ph_bald (k := 1) C (by decide) rfl h0 h1 hd kk
theorem sX1 (C : ph_C shX Γ h ad cc nL ret d) {z v : Int} (h0 : 0 ≤ z) (h1 : z < 128) (hv : -128 ≤ v ∧ v ≤ 127) (hd : decode cc pc = .ok (.bastore, 1)) (kk : ph_V shX Γ h ad post (wr S 1 z v) (pc + 1) L (st)) : ph_V shX Γ h ad post S pc L (.int (iI v) :: .int (iI z) :: .ref (ad 1) :: st) := ph_bast (k := 1) C (by decide) rfl h0 h1 hv hd kk
theorem gX2 (C : ph_C shX Γ h ad cc nL ret d) (hd : decode cc pc = .ok (.getfield 13, 3)) (kk : ph_V shX Γ h ad post S (pc + 3) L (.ref (ad 2) :: st)) : ph_V shX Γ h ad post S pc L (.ref h :: st) := ph_getA (k := 2) C (by decide) q37 hd kk
theorem lX2 (C : ph_C shX Γ h ad cc nL ret d) {z : Int} (h0 : 0 ≤ z) (h1 : z < 64) (hd : decode cc pc = .ok (.iaload, 1)) (kk : ph_V shX Γ h ad post S (pc + 1) L (.int (iI (S 2 z)) :: st)) : ph_V shX Γ h ad post S pc L (.int (iI z) :: .ref (ad 2) :: st) := ph_iald (k := 2) C (by decide) rfl h0 h1 hd kk
theorem sX2 (C : ph_C shX Γ h ad cc nL ret d) {z v : Int} (h0 : 0 ≤ z) (h1 : z < 64) (hd : decode cc pc = .ok (.iastore, 1)) (kk : ph_V shX Γ h ad post (wr S 2 z v) (pc + 1) L (st)) : ph_V shX Γ h ad post S pc L (.int (iI v) :: .int (iI z) :: .ref (ad 2) :: st) := ph_iast (k := 2) C (by decide) rfl h0 h1 hd kk
theorem gX3 (C : ph_C shX Γ h ad cc nL ret d) (hd : decode cc pc = .ok (.getfield 17, 3)) (kk : ph_V shX Γ h ad post S (pc + 3) L (.ref (ad 3) :: st)) : ph_V shX Γ h ad post S pc L (.ref h :: st) := ph_getA (k := 3) C (by decide) q38 hd kk
theorem lX3 (C : ph_C shX Γ h ad cc nL ret d) {z : Int} (h0 : 0 ≤ z) (h1 : z < 6) (hd : decode cc pc = .ok (.baload, 1)) (kk : ph_V shX Γ h ad post S (pc + 1) L (.int (iI (S 3 z)) :: st)) : ph_V shX Γ h ad post S pc L (.int (iI z) :: .ref (ad 3) :: st) := ph_bald (k := 3) C (by decide) rfl h0 h1 hd kk
theorem sX3 (C : ph_C shX Γ h ad cc nL ret d) {z v : Int} (h0 : 0 ≤ z) (h1 : z < 6) (hv : -128 ≤ v ∧ v ≤ 127) (hd : decode cc pc = .ok (.bastore, 1)) (kk : ph_V shX Γ h ad post (wr S 3 z v) (pc + 1) L (st)) : ph_V shX Γ h ad post S pc L (.int (iI v) :: .int (iI z) :: .ref (ad 3) :: st) := ph_bast (k := 3) C (by decide) rfl h0 h1 hv hd kk
theorem gX4 (C : ph_C shX Γ h ad cc nL ret d) (hd : decode cc pc = .ok (.getfield 20, 3)) (kk : ph_V shX Γ h ad post S (pc + 3) L (.ref (ad 4) :: st)) : ph_V shX Γ h ad post S pc L (.ref h :: st) := ph_getA (k := 4) C (by decide) q39 hd kk
theorem lX4 (C : ph_C shX Γ h ad cc nL ret d) {z : Int} (h0 : 0 ≤ z) (h1 : z < 2) (hd : decode cc pc = .ok (.baload, 1)) (kk : ph_V shX Γ h ad post S (pc + 1) L (.int (iI (S 4 z)) :: st)) : ph_V shX Γ h ad post S pc L (.int (iI z) :: .ref (ad 4) :: st) := ph_bald (k := 4) C (by decide) rfl h0 h1 hd kk
theorem sX4 (C : ph_C shX Γ h ad cc nL ret d) {z v : Int} (h0 : 0 ≤ z) (h1 : z < 2) (hv : -128 ≤ v ∧ v ≤ 127) (hd : decode cc pc = .ok (.bastore, 1)) (kk : ph_V shX Γ h ad post (wr S 4 z v) (pc + 1) L (st)) : ph_V shX Γ h ad post S pc L (.int (iI v) :: .int (iI z) :: .ref (ad 4) :: st) := ph_bast (k := 4) C (by decide) rfl h0 h1 hv hd kk
theorem gX5 (C : ph_C shX Γ h ad cc nL ret d) (hd : decode cc pc = .ok (.getfield 23, 3)) (kk : ph_V shX Γ h ad post S (pc + 3) L (.ref (ad 5) :: st)) : ph_V shX Γ h ad post S pc L (.ref h :: st) := ph_getA (k := 5) C (by decide) q40 hd kk
theorem lX5 (C : ph_C shX Γ h ad cc nL ret d) {z : Int} (h0 : 0 ≤ z) (h1 : z < 198) (hd : decode cc pc = .ok (.baload, 1)) (kk : ph_V shX Γ h ad post S (pc + 1) L (.int (iI (S 5 z)) :: st)) : ph_V shX Γ h ad post S pc L (.int (iI z) :: .ref (ad 5) :: st) := ph_bald (k := 5) C (by decide) rfl h0 h1 hd kk
theorem sX5 (C : ph_C shX Γ h ad cc nL ret d) {z v : Int} (h0 : 0 ≤ z) (h1 : z < 198) (hv : -128 ≤ v ∧ v ≤ 127) (hd : decode cc pc = .ok (.bastore, 1)) (kk : ph_V shX Γ h ad post (wr S 5 z v) (pc + 1) L (st)) : ph_V shX Γ h ad post S pc L (.int (iI v) :: .int (iI z) :: .ref (ad 5) :: st) := ph_bast (k := 5) C (by decide) rfl h0 h1 hv hd kk
theorem gX6 (C : ph_C shX Γ h ad cc nL ret d) (hd : decode cc pc = .ok (.getfield 26, 3)) (kk : ph_V shX Γ h ad post S (pc + 3) L (.ref (ad 6) :: st)) : ph_V shX Γ h ad post S pc L (.ref h :: st) := ph_getA (k := 6) C (by decide) q41 hd kk
theorem lX6 (C : ph_C shX Γ h ad cc nL ret d) {z : Int} (h0 : 0 ≤ z) (h1 : z < 198) (hd : decode cc pc = .ok (.iaload, 1)) (kk : ph_V shX Γ h ad post S (pc + 1) L (.int (iI (S 6 z)) :: st)) : ph_V shX Γ h ad post S pc L (.int (iI z) :: .ref (ad 6) :: st) := ph_iald (k := 6) C (by decide) rfl h0 h1 hd kk
theorem sX6 (C : ph_C shX Γ h ad cc nL ret d) {z v : Int} (h0 : 0 ≤ z) (h1 : z < 198) (hd : decode cc pc = .ok (.iastore, 1)) (kk : ph_V shX Γ h ad post (wr S 6 z v) (pc + 1) L (st)) : ph_V shX Γ h ad post S pc L (.int (iI v) :: .int (iI z) :: .ref (ad 6) :: st) := ph_iast (k := 6) C (by decide) rfl h0 h1 hd kk
theorem gX7 (C : ph_C shX Γ h ad cc nL ret d) (hd : decode cc pc = .ok (.getfield 29, 3)) (kk : ph_V shX Γ h ad post S (pc + 3) L (.ref (ad 7) :: st)) : ph_V shX Γ h ad post S pc L (.ref h :: st) := ph_getA (k := 7) C (by decide) q42 hd kk
theorem lX7 (C : ph_C shX Γ h ad cc nL ret d) {z : Int} (h0 : 0 ≤ z) (h1 : z < 4) (hd : decode cc pc = .ok (.baload, 1)) (kk : ph_V shX Γ h ad post S (pc + 1) L (.int (iI (S 7 z)) :: st)) : ph_V shX Γ h ad post S pc L (.int (iI z) :: .ref (ad 7) :: st) := ph_bald (k := 7) C (by decide) rfl h0 h1 hd kk
theorem sX7 (C : ph_C shX Γ h ad cc nL ret d) {z v : Int} (h0 : 0 ≤ z) (h1 : z < 4) (hv : -128 ≤ v ∧ v ≤ 127) (hd : decode cc pc = .ok (.bastore, 1)) (kk : ph_V shX Γ h ad post (wr S 7 z v) (pc + 1) L (st)) : ph_V shX Γ h ad post S pc L (.int (iI v) :: .int (iI z) :: .ref (ad 7) :: st) := ph_bast (k := 7) C (by decide) rfl h0 h1 hv hd kk
theorem gX8 (C : ph_C shX Γ h ad cc nL ret d) (hd : decode cc pc = .ok (.getfield 60, 3)) (kk : ph_V shX Γ h ad post S (pc + 3) L (.int (iI (S 8 0)) :: st)) : ph_V shX Γ h ad post S pc L (.ref h :: st) := ph_getI (k := 8) C (by decide) (by decide) q43 hd kk
theorem pX8 (C : ph_C shX Γ h ad cc nL ret d) {z : Int} (hd : decode cc pc = .ok (.putfield 60, 3)) (kk : ph_V shX Γ h ad post (wr S 8 0 z) (pc + 3) L (st)) : ph_V shX Γ h ad post S pc L (.int (iI z) :: .ref h :: st) := ph_putI (k := 8) C (by decide) (by decide) q43 rfl (by decide +kernel) hd kk
theorem gX9 (C : ph_C shX Γ h ad cc nL ret d) (hd : decode cc pc = .ok (.getfield 32, 3)) (kk : ph_V shX Γ h ad post S (pc + 3) L (.ref (ad 9) :: st)) : ph_V shX Γ h ad post S pc L (.ref h :: st) := ph_getA (k := 9) C (by decide) q44 hd kk
theorem lX9 (C : ph_C shX Γ h ad cc nL ret d) {z : Int} (h0 : 0 ≤ z) (h1 : z < 32) (hd : decode cc pc = .ok (.baload, 1)) (kk : ph_V shX Γ h ad post S (pc + 1) L (.int (iI (S 9 z)) :: st)) : ph_V shX Γ h ad post S pc L (.int (iI z) :: .ref (ad 9) :: st) := ph_zald (k := 9) C (by decide) rfl h0 h1 hd kk
theorem sX9 (C : ph_C shX Γ h ad cc nL ret d) {z v : Int} (h0 : 0 ≤ z) (h1 : z < 32) (hv : v = 0 ∨ v = 1) (hd : decode cc pc = .ok (.bastore, 1)) (kk : ph_V shX Γ h ad post (wr S 9 z v) (pc + 1) L (st)) : ph_V shX Γ h ad post S pc L (.int (iI v) :: .int (iI z) :: .ref (ad 9) :: st) := ph_zast (k := 9) C (by decide) rfl h0 h1 hv hd kk
theorem gX10 (C : ph_C shX Γ h ad cc nL ret d) (hd : decode cc pc = .ok (.getfield 36, 3)) (kk : ph_V shX Γ h ad post S (pc + 3) L (.ref (ad 10) :: st)) : ph_V shX Γ h ad post S pc L (.ref h :: st) := ph_getA (k := 10) C (by decide) q45 hd kk
theorem lX10 (C : ph_C shX Γ h ad cc nL ret d) {z : Int} (h0 : 0 ≤ z) (h1 : z < 99) (hd : decode cc pc = .ok (.baload, 1)) (kk : ph_V shX Γ h ad post S (pc + 1) L (.int (iI (S 10 z)) :: st)) : ph_V shX Γ h ad post S pc L (.int (iI z) :: .ref (ad 10) :: st) := ph_zald (k := 10) C (by decide) rfl h0 h1 hd kk
theorem sX10 (C : ph_C shX Γ h ad cc nL ret d) {z v : Int} (h0 : 0 ≤ z) (h1 : z < 99) (hv : v = 0 ∨ v = 1) (hd : decode cc pc = .ok (.bastore, 1)) (kk : ph_V shX Γ h ad post (wr S 10 z v) (pc + 1) L (st)) : ph_V shX Γ h ad post S pc L (.int (iI v) :: .int (iI z) :: .ref (ad 10) :: st) := ph_zast (k := 10) C (by decide) rfl h0 h1 hv hd kk
theorem gX11 (C : ph_C shX Γ h ad cc nL ret d) (hd : decode cc pc = .ok (.getfield 39, 3)) (kk : ph_V shX Γ h ad post S (pc + 3) L (.ref (ad 11) :: st)) : ph_V shX Γ h ad post S pc L (.ref h :: st) := ph_getA (k := 11) C (by decide) q46 hd kk
theorem lX11 (C : ph_C shX Γ h ad cc nL ret d) {z : Int} (h0 : 0 ≤ z) (h1 : z < 32) (hd : decode cc pc = .ok (.baload, 1)) (kk : ph_V shX Γ h ad post S (pc + 1) L (.int (iI (S 11 z)) :: st)) : ph_V shX Γ h ad post S pc L (.int (iI z) :: .ref (ad 11) :: st) := ph_bald (k := 11) C (by decide) rfl h0 h1 hd kk
theorem sX11 (C : ph_C shX Γ h ad cc nL ret d) {z v : Int} (h0 : 0 ≤ z) (h1 : z < 32) (hv : -128 ≤ v ∧ v ≤ 127) (hd : decode cc pc = .ok (.bastore, 1)) (kk : ph_V shX Γ h ad post (wr S 11 z v) (pc + 1) L (st)) : ph_V shX Γ h ad post S pc L (.int (iI v) :: .int (iI z) :: .ref (ad 11) :: st) := ph_bast (k := 11) C (by decide) rfl h0 h1 hv hd kk
theorem gX12 (C : ph_C shX Γ h ad cc nL ret d) (hd : decode cc pc = .ok (.getfield 42, 3)) (kk : ph_V shX Γ h ad post S (pc + 3) L (.ref (ad 12) :: st)) : ph_V shX Γ h ad post S pc L (.ref h :: st) := ph_getA (k := 12) C (by decide) q47 hd kk
theorem lX12 (C : ph_C shX Γ h ad cc nL ret d) {z : Int} (h0 : 0 ≤ z) (h1 : z < 32) (hd : decode cc pc = .ok (.baload, 1)) (kk : ph_V shX Γ h ad post S (pc + 1) L (.int (iI (S 12 z)) :: st)) : ph_V shX Γ h ad post S pc L (.int (iI z) :: .ref (ad 12) :: st) := ph_bald (k := 12) C (by decide) rfl h0 h1 hd kk
theorem sX12 (C : ph_C shX Γ h ad cc nL ret d) {z v : Int} (h0 : 0 ≤ z) (h1 : z < 32) (hv : -128 ≤ v ∧ v ≤ 127) (hd : decode cc pc = .ok (.bastore, 1)) (kk : ph_V shX Γ h ad post (wr S 12 z v) (pc + 1) L (st)) : ph_V shX Γ h ad post S pc L (.int (iI v) :: .int (iI z) :: .ref (ad 12) :: st) := ph_bast (k := 12) C (by decide) rfl h0 h1 hv hd kk
theorem gX13 (C : ph_C shX Γ h ad cc nL ret d) (hd : decode cc pc = .ok (.getfield 96, 3)) (kk : ph_V shX Γ h ad post S (pc + 3) L (.int (iI (S 13 0)) :: st)) : ph_V shX Γ h ad post S pc L (.ref h :: st) := ph_getI (k := 13) C (by decide) (by decide) q48 hd kk
theorem pX13 (C : ph_C shX Γ h ad cc nL ret d) {z : Int} (hd : decode cc pc = .ok (.putfield 96, 3)) (kk : ph_V shX Γ h ad post (wr S 13 0 z) (pc + 3) L (st)) : ph_V shX Γ h ad post S pc L (.int (iI z) :: .ref h :: st) := ph_putI (k := 13) C (by decide) (by decide) q48 rfl (by decide +kernel) hd kk
theorem gX14 (C : ph_C shX Γ h ad cc nL ret d) (hd : decode cc pc = .ok (.getfield 112, 3)) (kk : ph_V shX Γ h ad post S (pc + 3) L (.int (iI (S 14 0)) :: st)) : ph_V shX Γ h ad post S pc L (.ref h :: st) := ph_getI (k := 14) C (by decide) (by decide) q49 hd kk
theorem pX14 (C : ph_C shX Γ h ad cc nL ret d) {z : Int} (hd : decode cc pc = .ok (.putfield 112, 3)) (kk : ph_V shX Γ h ad post (wr S 14 0 z) (pc + 3) L (st)) : ph_V shX Γ h ad post S pc L (.int (iI z) :: .ref h :: st) := ph_putI (k := 14) C (by decide) (by decide) q49 rfl (by decide +kernel) hd kk
theorem gX15 (C : ph_C shX Γ h ad cc nL ret d) (hd : decode cc pc = .ok (.getfield 45, 3)) (kk : ph_V shX Γ h ad post S (pc + 3) L (.ref (ad 15) :: st)) : ph_V shX Γ h ad post S pc L (.ref h :: st) := ph_getA (k := 15) C (by decide) q50 hd kk
theorem lX15 (C : ph_C shX Γ h ad cc nL ret d) {z : Int} (h0 : 0 ≤ z) (h1 : z < 32) (hd : decode cc pc = .ok (.baload, 1)) (kk : ph_V shX Γ h ad post S (pc + 1) L (.int (iI (S 15 z)) :: st)) : ph_V shX Γ h ad post S pc L (.int (iI z) :: .ref (ad 15) :: st) := ph_zald (k := 15) C (by decide) rfl h0 h1 hd kk
theorem sX15 (C : ph_C shX Γ h ad cc nL ret d) {z v : Int} (h0 : 0 ≤ z) (h1 : z < 32) (hv : v = 0 ∨ v = 1) (hd : decode cc pc = .ok (.bastore, 1)) (kk : ph_V shX Γ h ad post (wr S 15 z v) (pc + 1) L (st)) : ph_V shX Γ h ad post S pc L (.int (iI v) :: .int (iI z) :: .ref (ad 15) :: st) := ph_zast (k := 15) C (by decide) rfl h0 h1 hv hd kk
theorem gM0 (C : ph_C shM Γ h ad cc nL ret d) (hd : decode cc pc = .ok (.getfield 7, 3)) (kk : ph_V shM Γ h ad post S (pc + 3) L (.ref (ad 0) :: st)) : ph_V shM Γ h ad post S pc L (.ref h :: st) := ph_getA (k := 0) C (by decide) q230 hd kk
theorem lM0 (C : ph_C shM Γ h ad cc nL ret d) {z : Int} (h0 : 0 ≤ z) (h1 : z < 24) (hd : decode cc pc = .ok (.iaload, 1)) (kk : ph_V shM Γ h ad post S (pc + 1) L (.int (iI (S 0 z)) :: st)) : ph_V shM Γ h ad post S pc L (.int (iI z) :: .ref (ad 0) :: st) := ph_iald (k := 0) C (by decide) rfl h0 h1 hd kk
theorem sM0 (C : ph_C shM Γ h ad cc nL ret d) {z v : Int} (h0 : 0 ≤ z) (h1 : z < 24) (hd : decode cc pc = .ok (.iastore, 1)) (kk : ph_V shM Γ h ad post (wr S 0 z v) (pc + 1) L (st)) : ph_V shM Γ h ad post S pc L (.int (iI v) :: .int (iI z) :: .ref (ad 0) :: st) := ph_iast (k := 0) C (by decide) rfl h0 h1 hd kk
theorem gM1 (C : ph_C shM Γ h ad cc nL ret d) (hd : decode cc pc = .ok (.getfield 13, 3)) (kk : ph_V shM Γ h ad post S (pc + 3) L (.ref (ad 1) :: st)) : ph_V shM Γ h ad post S pc L (.ref h :: st) := ph_getA (k := 1) C (by decide) q231 hd kk
theorem lM1 (C : ph_C shM Γ h ad cc nL ret d) {z : Int} (h0 : 0 ≤ z) (h1 : z < 24) (hd : decode cc pc = .ok (.iaload, 1)) (kk : ph_V shM Γ h ad post S (pc + 1) L (.int (iI (S 1 z)) :: st)) : ph_V shM Γ h ad post S pc L (.int (iI z) :: .ref (ad 1) :: st) := ph_iald (k := 1) C (by decide) rfl h0 h1 hd kk
theorem sM1 (C : ph_C shM Γ h ad cc nL ret d) {z v : Int} (h0 : 0 ≤ z) (h1 : z < 24) (hd : decode cc pc = .ok (.iastore, 1)) (kk : ph_V shM Γ h ad post (wr S 1 z v) (pc + 1) L (st)) : ph_V shM Γ h ad post S pc L (.int (iI v) :: .int (iI z) :: .ref (ad 1) :: st) := ph_iast (k := 1) C (by decide) rfl h0 h1 hd kk
theorem gM2 (C : ph_C shM Γ h ad cc nL ret d) (hd : decode cc pc = .ok (.getfield 16, 3)) (kk : ph_V shM Γ h ad post S (pc + 3) L (.ref (ad 2) :: st)) : ph_V shM Γ h ad post S pc L (.ref h :: st) := ph_getA (k := 2) C (by decide) q232 hd kk
theorem lM2 (C : ph_C shM Γ h ad cc nL ret d) {z : Int} (h0 : 0 ≤ z) (h1 : z < 48) (hd : decode cc pc = .ok (.iaload, 1)) (kk : ph_V shM Γ h ad post S (pc + 1) L (.int (iI (S 2 z)) :: st)) : ph_V shM Γ h ad post S pc L (.int (iI z) :: .ref (ad 2) :: st) := ph_iald (k := 2) C (by decide) rfl h0 h1 hd kk
theorem sM2 (C : ph_C shM Γ h ad cc nL ret d) {z v : Int} (h0 : 0 ≤ z) (h1 : z < 48) (hd : decode cc pc = .ok (.iastore, 1)) (kk : ph_V shM Γ h ad post (wr S 2 z v) (pc + 1) L (st)) : ph_V shM Γ h ad post S pc L (.int (iI v) :: .int (iI z) :: .ref (ad 2) :: st) := ph_iast (k := 2) C (by decide) rfl h0 h1 hd kk
theorem gM3 (C : ph_C shM Γ h ad cc nL ret d) (hd : decode cc pc = .ok (.getfield 19, 3)) (kk : ph_V shM Γ h ad post S (pc + 3) L (.ref (ad 3) :: st)) : ph_V shM Γ h ad post S pc L (.ref h :: st) := ph_getA (k := 3) C (by decide) q233 hd kk
theorem lM3 (C : ph_C shM Γ h ad cc nL ret d) {z : Int} (h0 : 0 ≤ z) (h1 : z < 48) (hd : decode cc pc = .ok (.iaload, 1)) (kk : ph_V shM Γ h ad post S (pc + 1) L (.int (iI (S 3 z)) :: st)) : ph_V shM Γ h ad post S pc L (.int (iI z) :: .ref (ad 3) :: st) := ph_iald (k := 3) C (by decide) rfl h0 h1 hd kk
theorem sM3 (C : ph_C shM Γ h ad cc nL ret d) {z v : Int} (h0 : 0 ≤ z) (h1 : z < 48) (hd : decode cc pc = .ok (.iastore, 1)) (kk : ph_V shM Γ h ad post (wr S 3 z v) (pc + 1) L (st)) : ph_V shM Γ h ad post S pc L (.int (iI v) :: .int (iI z) :: .ref (ad 3) :: st) := ph_iast (k := 3) C (by decide) rfl h0 h1 hd kk
theorem gM4 (C : ph_C shM Γ h ad cc nL ret d) (hd : decode cc pc = .ok (.getfield 22, 3)) (kk : ph_V shM Γ h ad post S (pc + 3) L (.ref (ad 4) :: st)) : ph_V shM Γ h ad post S pc L (.ref h :: st) := ph_getA (k := 4) C (by decide) q234 hd kk
theorem lM4 (C : ph_C shM Γ h ad cc nL ret d) {z : Int} (h0 : 0 ≤ z) (h1 : z < 24) (hd : decode cc pc = .ok (.baload, 1)) (kk : ph_V shM Γ h ad post S (pc + 1) L (.int (iI (S 4 z)) :: st)) : ph_V shM Γ h ad post S pc L (.int (iI z) :: .ref (ad 4) :: st) := ph_zald (k := 4) C (by decide) rfl h0 h1 hd kk
theorem sM4 (C : ph_C shM Γ h ad cc nL ret d) {z v : Int} (h0 : 0 ≤ z) (h1 : z < 24) (hv : v = 0 ∨ v = 1) (hd : decode cc pc = .ok (.bastore, 1)) (kk : ph_V shM Γ h ad post (wr S 4 z v) (pc + 1) L (st)) : ph_V shM Γ h ad post S pc L (.int (iI v) :: .int (iI z) :: .ref (ad 4) :: st) := ph_zast (k := 4) C (by decide) rfl h0 h1 hv hd kk
theorem gM5 (C : ph_C shM Γ h ad cc nL ret d) (hd : decode cc pc = .ok (.getfield 26, 3)) (kk : ph_V shM Γ h ad post S (pc + 3) L (.ref (ad 5) :: st)) : ph_V shM Γ h ad post S pc L (.ref h :: st) := ph_getA (k := 5) C (by decide) q235 hd kk
theorem lM5 (C : ph_C shM Γ h ad cc nL ret d) {z : Int} (h0 : 0 ≤ z) (h1 : z < 3) (hd : decode cc pc = .ok (.iaload, 1)) (kk : ph_V shM Γ h ad post S (pc + 1) L (.int (iI (S 5 z)) :: st)) : ph_V shM Γ h ad post S pc L (.int (iI z) :: .ref (ad 5) :: st) := ph_iald (k := 5) C (by decide) rfl h0 h1 hd kk
theorem sM5 (C : ph_C shM Γ h ad cc nL ret d) {z v : Int} (h0 : 0 ≤ z) (h1 : z < 3) (hd : decode cc pc = .ok (.iastore, 1)) (kk : ph_V shM Γ h ad post (wr S 5 z v) (pc + 1) L (st)) : ph_V shM Γ h ad post S pc L (.int (iI v) :: .int (iI z) :: .ref (ad 5) :: st) := ph_iast (k := 5) C (by decide) rfl h0 h1 hd kk
theorem gM6 (C : ph_C shM Γ h ad cc nL ret d) (hd : decode cc pc = .ok (.getfield 29, 3)) (kk : ph_V shM Γ h ad post S (pc + 3) L (.ref (ad 6) :: st)) : ph_V shM Γ h ad post S pc L (.ref h :: st) := ph_getA (k := 6) C (by decide) q236 hd kk
theorem lM6 (C : ph_C shM Γ h ad cc nL ret d) {z : Int} (h0 : 0 ≤ z) (h1 : z < 3) (hd : decode cc pc = .ok (.iaload, 1)) (kk : ph_V shM Γ h ad post S (pc + 1) L (.int (iI (S 6 z)) :: st)) : ph_V shM Γ h ad post S pc L (.int (iI z) :: .ref (ad 6) :: st) := ph_iald (k := 6) C (by decide) rfl h0 h1 hd kk
theorem sM6 (C : ph_C shM Γ h ad cc nL ret d) {z v : Int} (h0 : 0 ≤ z) (h1 : z < 3) (hd : decode cc pc = .ok (.iastore, 1)) (kk : ph_V shM Γ h ad post (wr S 6 z v) (pc + 1) L (st)) : ph_V shM Γ h ad post S pc L (.int (iI v) :: .int (iI z) :: .ref (ad 6) :: st) := ph_iast (k := 6) C (by decide) rfl h0 h1 hd kk
theorem gM7 (C : ph_C shM Γ h ad cc nL ret d) (hd : decode cc pc = .ok (.getfield 32, 3)) (kk : ph_V shM Γ h ad post S (pc + 3) L (.ref (ad 7) :: st)) : ph_V shM Γ h ad post S pc L (.ref h :: st) := ph_getA (k := 7) C (by decide) q237 hd kk
theorem lM7 (C : ph_C shM Γ h ad cc nL ret d) {z : Int} (h0 : 0 ≤ z) (h1 : z < 4) (hd : decode cc pc = .ok (.iaload, 1)) (kk : ph_V shM Γ h ad post S (pc + 1) L (.int (iI (S 7 z)) :: st)) : ph_V shM Γ h ad post S pc L (.int (iI z) :: .ref (ad 7) :: st) := ph_iald (k := 7) C (by decide) rfl h0 h1 hd kk
theorem sM7 (C : ph_C shM Γ h ad cc nL ret d) {z v : Int} (h0 : 0 ≤ z) (h1 : z < 4) (hd : decode cc pc = .ok (.iastore, 1)) (kk : ph_V shM Γ h ad post (wr S 7 z v) (pc + 1) L (st)) : ph_V shM Γ h ad post S pc L (.int (iI v) :: .int (iI z) :: .ref (ad 7) :: st) := ph_iast (k := 7) C (by decide) rfl h0 h1 hd kk
theorem gM8 (C : ph_C shM Γ h ad cc nL ret d) (hd : decode cc pc = .ok (.getfield 35, 3)) (kk : ph_V shM Γ h ad post S (pc + 3) L (.ref (ad 8) :: st)) : ph_V shM Γ h ad post S pc L (.ref h :: st) := ph_getA (k := 8) C (by decide) q238 hd kk
theorem lM8 (C : ph_C shM Γ h ad cc nL ret d) {z : Int} (h0 : 0 ≤ z) (h1 : z < 25) (hd : decode cc pc = .ok (.baload, 1)) (kk : ph_V shM Γ h ad post S (pc + 1) L (.int (iI (S 8 z)) :: st)) : ph_V shM Γ h ad post S pc L (.int (iI z) :: .ref (ad 8) :: st) := ph_zald (k := 8) C (by decide) rfl h0 h1 hd kk
theorem sM8 (C : ph_C shM Γ h ad cc nL ret d) {z v : Int} (h0 : 0 ≤ z) (h1 : z < 25) (hv : v = 0 ∨ v = 1) (hd : decode cc pc = .ok (.bastore, 1)) (kk : ph_V shM Γ h ad post (wr S 8 z v) (pc + 1) L (st)) : ph_V shM Γ h ad post S pc L (.int (iI v) :: .int (iI z) :: .ref (ad 8) :: st) := ph_zast (k := 8) C (by decide) rfl h0 h1 hv hd kk
end PHF
end
section
set_option maxRecDepth 100000
/-! the law's own entry -/
abbrev cL_law : ByteArray := code
theorem dL_law_0 : decode cL_law 0 = .ok (.new 7, 3) := by decide +kernel
theorem dL_law_3 : decode cL_law 3 = .ok (.dup, 1) := by decide +kernel
theorem dL_law_4 : decode cL_law 4 = .ok (.invokespecial 9, 3) := by decide +kernel
theorem dL_law_7 : decode cL_law 7 = .ok (.astore_n 1, 1) := by decide +kernel
theorem dL_law_8 : decode cL_law 8 = .ok (.new 10, 3) := by decide +kernel
theorem dL_law_11 : decode cL_law 11 = .ok (.dup, 1) := by decide +kernel
theorem dL_law_12 : decode cL_law 12 = .ok (.invokespecial 12, 3) := by decide +kernel
theorem dL_law_15 : decode cL_law 15 = .ok (.astore_n 2, 1) := by decide +kernel
theorem dL_law_16 : decode cL_law 16 = .ok (.iconst 0, 1) := by decide +kernel
theorem dL_law_17 : decode cL_law 17 = .ok (.istore_n 3, 1) := by decide +kernel
theorem dL_law_18 : decode cL_law 18 = .ok (.iload_n 3, 1) := by decide +kernel
theorem dL_law_19 : decode cL_law 19 = .ok (.aload_n 0, 1) := by decide +kernel
theorem dL_law_20 : decode cL_law 20 = .ok (.arraylength, 1) := by decide +kernel
theorem dL_law_21 : decode cL_law 21 = .ok (.iconst 4, 1) := by decide +kernel
theorem dL_law_22 : decode cL_law 22 = .ok (.isub, 1) := by decide +kernel
theorem dL_law_23 : decode cL_law 23 = .ok (.if_icmp .gt 513, 3) := by decide +kernel
theorem dL_law_26 : decode cL_law 26 = .ok (.aload_n 0, 1) := by decide +kernel
theorem dL_law_27 : decode cL_law 27 = .ok (.iload_n 3, 1) := by decide +kernel
theorem dL_law_28 : decode cL_law 28 = .ok (.iaload, 1) := by decide +kernel
theorem dL_law_29 : decode cL_law 29 = .ok (.bipush 15, 2) := by decide +kernel
theorem dL_law_31 : decode cL_law 31 = .ok (.iand, 1) := by decide +kernel
theorem dL_law_32 : decode cL_law 32 = .ok (.tableswitch 498 0 15 #[80, 113, 146, 179, 222, 265, 288, 311, 344, 377, 390, 403, 426, 439, 462, 475], 80) := by decide +kernel
theorem dL_law_112 : decode cL_law 112 = .ok (.aload_n 1, 1) := by decide +kernel
theorem dL_law_113 : decode cL_law 113 = .ok (.aload_n 0, 1) := by decide +kernel
theorem dL_law_114 : decode cL_law 114 = .ok (.iload_n 3, 1) := by decide +kernel
theorem dL_law_115 : decode cL_law 115 = .ok (.iconst 1, 1) := by decide +kernel
theorem dL_law_116 : decode cL_law 116 = .ok (.iadd, 1) := by decide +kernel
theorem dL_law_117 : decode cL_law 117 = .ok (.iaload, 1) := by decide +kernel
theorem dL_law_118 : decode cL_law 118 = .ok (.aload_n 0, 1) := by decide +kernel
theorem dL_law_119 : decode cL_law 119 = .ok (.iload_n 3, 1) := by decide +kernel
theorem dL_law_120 : decode cL_law 120 = .ok (.iconst 2, 1) := by decide +kernel
theorem dL_law_121 : decode cL_law 121 = .ok (.iadd, 1) := by decide +kernel
theorem dL_law_122 : decode cL_law 122 = .ok (.iaload, 1) := by decide +kernel
theorem dL_law_123 : decode cL_law 123 = .ok (.invokevirtual 13, 3) := by decide +kernel
theorem dL_law_126 : decode cL_law 126 = .ok (.aload_n 2, 1) := by decide +kernel
theorem dL_law_127 : decode cL_law 127 = .ok (.aload_n 0, 1) := by decide +kernel
theorem dL_law_128 : decode cL_law 128 = .ok (.iload_n 3, 1) := by decide +kernel
theorem dL_law_129 : decode cL_law 129 = .ok (.iconst 1, 1) := by decide +kernel
theorem dL_law_130 : decode cL_law 130 = .ok (.iadd, 1) := by decide +kernel
theorem dL_law_131 : decode cL_law 131 = .ok (.iaload, 1) := by decide +kernel
theorem dL_law_132 : decode cL_law 132 = .ok (.aload_n 0, 1) := by decide +kernel
theorem dL_law_133 : decode cL_law 133 = .ok (.iload_n 3, 1) := by decide +kernel
theorem dL_law_134 : decode cL_law 134 = .ok (.iconst 2, 1) := by decide +kernel
theorem dL_law_135 : decode cL_law 135 = .ok (.iadd, 1) := by decide +kernel
theorem dL_law_136 : decode cL_law 136 = .ok (.iaload, 1) := by decide +kernel
theorem dL_law_137 : decode cL_law 137 = .ok (.invokevirtual 17, 3) := by decide +kernel
theorem dL_law_140 : decode cL_law 140 = .ok (.if_icmp .eq 390, 3) := by decide +kernel
theorem dL_law_143 : decode cL_law 143 = .ok (.iconst 0, 1) := by decide +kernel
theorem dL_law_144 : decode cL_law 144 = .ok (.ireturn, 1) := by decide +kernel
theorem dL_law_145 : decode cL_law 145 = .ok (.aload_n 1, 1) := by decide +kernel
theorem dL_law_146 : decode cL_law 146 = .ok (.aload_n 0, 1) := by decide +kernel
theorem dL_law_147 : decode cL_law 147 = .ok (.iload_n 3, 1) := by decide +kernel
theorem dL_law_148 : decode cL_law 148 = .ok (.iconst 1, 1) := by decide +kernel
theorem dL_law_149 : decode cL_law 149 = .ok (.iadd, 1) := by decide +kernel
theorem dL_law_150 : decode cL_law 150 = .ok (.iaload, 1) := by decide +kernel
theorem dL_law_151 : decode cL_law 151 = .ok (.aload_n 0, 1) := by decide +kernel
theorem dL_law_152 : decode cL_law 152 = .ok (.iload_n 3, 1) := by decide +kernel
theorem dL_law_153 : decode cL_law 153 = .ok (.iconst 2, 1) := by decide +kernel
theorem dL_law_154 : decode cL_law 154 = .ok (.iadd, 1) := by decide +kernel
theorem dL_law_155 : decode cL_law 155 = .ok (.iaload, 1) := by decide +kernel
theorem dL_law_156 : decode cL_law 156 = .ok (.invokevirtual 18, 3) := by decide +kernel
theorem dL_law_159 : decode cL_law 159 = .ok (.aload_n 2, 1) := by decide +kernel
theorem dL_law_160 : decode cL_law 160 = .ok (.aload_n 0, 1) := by decide +kernel
theorem dL_law_161 : decode cL_law 161 = .ok (.iload_n 3, 1) := by decide +kernel
theorem dL_law_162 : decode cL_law 162 = .ok (.iconst 1, 1) := by decide +kernel
theorem dL_law_163 : decode cL_law 163 = .ok (.iadd, 1) := by decide +kernel
theorem dL_law_164 : decode cL_law 164 = .ok (.iaload, 1) := by decide +kernel
theorem dL_law_165 : decode cL_law 165 = .ok (.aload_n 0, 1) := by decide +kernel
theorem dL_law_166 : decode cL_law 166 = .ok (.iload_n 3, 1) := by decide +kernel
theorem dL_law_167 : decode cL_law 167 = .ok (.iconst 2, 1) := by decide +kernel
theorem dL_law_168 : decode cL_law 168 = .ok (.iadd, 1) := by decide +kernel
theorem dL_law_169 : decode cL_law 169 = .ok (.iaload, 1) := by decide +kernel
theorem dL_law_170 : decode cL_law 170 = .ok (.invokevirtual 21, 3) := by decide +kernel
theorem dL_law_173 : decode cL_law 173 = .ok (.if_icmp .eq 357, 3) := by decide +kernel
theorem dL_law_176 : decode cL_law 176 = .ok (.iconst 0, 1) := by decide +kernel
theorem dL_law_177 : decode cL_law 177 = .ok (.ireturn, 1) := by decide +kernel
theorem dL_law_178 : decode cL_law 178 = .ok (.aload_n 1, 1) := by decide +kernel
theorem dL_law_179 : decode cL_law 179 = .ok (.aload_n 0, 1) := by decide +kernel
theorem dL_law_180 : decode cL_law 180 = .ok (.iload_n 3, 1) := by decide +kernel
theorem dL_law_181 : decode cL_law 181 = .ok (.iconst 1, 1) := by decide +kernel
theorem dL_law_182 : decode cL_law 182 = .ok (.iadd, 1) := by decide +kernel
theorem dL_law_183 : decode cL_law 183 = .ok (.iaload, 1) := by decide +kernel
theorem dL_law_184 : decode cL_law 184 = .ok (.aload_n 0, 1) := by decide +kernel
theorem dL_law_185 : decode cL_law 185 = .ok (.iload_n 3, 1) := by decide +kernel
theorem dL_law_186 : decode cL_law 186 = .ok (.iconst 2, 1) := by decide +kernel
theorem dL_law_187 : decode cL_law 187 = .ok (.iadd, 1) := by decide +kernel
theorem dL_law_188 : decode cL_law 188 = .ok (.iaload, 1) := by decide +kernel
theorem dL_law_189 : decode cL_law 189 = .ok (.invokevirtual 22, 3) := by decide +kernel
theorem dL_law_192 : decode cL_law 192 = .ok (.aload_n 2, 1) := by decide +kernel
theorem dL_law_193 : decode cL_law 193 = .ok (.aload_n 0, 1) := by decide +kernel
theorem dL_law_194 : decode cL_law 194 = .ok (.iload_n 3, 1) := by decide +kernel
theorem dL_law_195 : decode cL_law 195 = .ok (.iconst 1, 1) := by decide +kernel
theorem dL_law_196 : decode cL_law 196 = .ok (.iadd, 1) := by decide +kernel
theorem dL_law_197 : decode cL_law 197 = .ok (.iaload, 1) := by decide +kernel
theorem dL_law_198 : decode cL_law 198 = .ok (.aload_n 0, 1) := by decide +kernel
theorem dL_law_199 : decode cL_law 199 = .ok (.iload_n 3, 1) := by decide +kernel
theorem dL_law_200 : decode cL_law 200 = .ok (.iconst 2, 1) := by decide +kernel
theorem dL_law_201 : decode cL_law 201 = .ok (.iadd, 1) := by decide +kernel
theorem dL_law_202 : decode cL_law 202 = .ok (.iaload, 1) := by decide +kernel
theorem dL_law_203 : decode cL_law 203 = .ok (.invokevirtual 25, 3) := by decide +kernel
theorem dL_law_206 : decode cL_law 206 = .ok (.if_icmp .eq 324, 3) := by decide +kernel
theorem dL_law_209 : decode cL_law 209 = .ok (.iconst 0, 1) := by decide +kernel
theorem dL_law_210 : decode cL_law 210 = .ok (.ireturn, 1) := by decide +kernel
theorem dL_law_211 : decode cL_law 211 = .ok (.aload_n 1, 1) := by decide +kernel
theorem dL_law_212 : decode cL_law 212 = .ok (.aload_n 0, 1) := by decide +kernel
theorem dL_law_213 : decode cL_law 213 = .ok (.iload_n 3, 1) := by decide +kernel
theorem dL_law_214 : decode cL_law 214 = .ok (.iconst 1, 1) := by decide +kernel
theorem dL_law_215 : decode cL_law 215 = .ok (.iadd, 1) := by decide +kernel
theorem dL_law_216 : decode cL_law 216 = .ok (.iaload, 1) := by decide +kernel
theorem dL_law_217 : decode cL_law 217 = .ok (.aload_n 0, 1) := by decide +kernel
theorem dL_law_218 : decode cL_law 218 = .ok (.iload_n 3, 1) := by decide +kernel
theorem dL_law_219 : decode cL_law 219 = .ok (.iconst 2, 1) := by decide +kernel
theorem dL_law_220 : decode cL_law 220 = .ok (.iadd, 1) := by decide +kernel
theorem dL_law_221 : decode cL_law 221 = .ok (.iaload, 1) := by decide +kernel
theorem dL_law_222 : decode cL_law 222 = .ok (.aload_n 0, 1) := by decide +kernel
theorem dL_law_223 : decode cL_law 223 = .ok (.iload_n 3, 1) := by decide +kernel
theorem dL_law_224 : decode cL_law 224 = .ok (.iconst 3, 1) := by decide +kernel
theorem dL_law_225 : decode cL_law 225 = .ok (.iadd, 1) := by decide +kernel
theorem dL_law_226 : decode cL_law 226 = .ok (.iaload, 1) := by decide +kernel
theorem dL_law_227 : decode cL_law 227 = .ok (.invokevirtual 26, 3) := by decide +kernel
theorem dL_law_230 : decode cL_law 230 = .ok (.aload_n 2, 1) := by decide +kernel
theorem dL_law_231 : decode cL_law 231 = .ok (.aload_n 0, 1) := by decide +kernel
theorem dL_law_232 : decode cL_law 232 = .ok (.iload_n 3, 1) := by decide +kernel
theorem dL_law_233 : decode cL_law 233 = .ok (.iconst 1, 1) := by decide +kernel
theorem dL_law_234 : decode cL_law 234 = .ok (.iadd, 1) := by decide +kernel
theorem dL_law_235 : decode cL_law 235 = .ok (.iaload, 1) := by decide +kernel
theorem dL_law_236 : decode cL_law 236 = .ok (.aload_n 0, 1) := by decide +kernel
theorem dL_law_237 : decode cL_law 237 = .ok (.iload_n 3, 1) := by decide +kernel
theorem dL_law_238 : decode cL_law 238 = .ok (.iconst 2, 1) := by decide +kernel
theorem dL_law_239 : decode cL_law 239 = .ok (.iadd, 1) := by decide +kernel
theorem dL_law_240 : decode cL_law 240 = .ok (.iaload, 1) := by decide +kernel
theorem dL_law_241 : decode cL_law 241 = .ok (.aload_n 0, 1) := by decide +kernel
theorem dL_law_242 : decode cL_law 242 = .ok (.iload_n 3, 1) := by decide +kernel
theorem dL_law_243 : decode cL_law 243 = .ok (.iconst 3, 1) := by decide +kernel
theorem dL_law_244 : decode cL_law 244 = .ok (.iadd, 1) := by decide +kernel
theorem dL_law_245 : decode cL_law 245 = .ok (.iaload, 1) := by decide +kernel
theorem dL_law_246 : decode cL_law 246 = .ok (.invokevirtual 30, 3) := by decide +kernel
theorem dL_law_249 : decode cL_law 249 = .ok (.if_icmp .eq 281, 3) := by decide +kernel
theorem dL_law_252 : decode cL_law 252 = .ok (.iconst 0, 1) := by decide +kernel
theorem dL_law_253 : decode cL_law 253 = .ok (.ireturn, 1) := by decide +kernel
theorem dL_law_254 : decode cL_law 254 = .ok (.aload_n 1, 1) := by decide +kernel
theorem dL_law_255 : decode cL_law 255 = .ok (.aload_n 0, 1) := by decide +kernel
theorem dL_law_256 : decode cL_law 256 = .ok (.iload_n 3, 1) := by decide +kernel
theorem dL_law_257 : decode cL_law 257 = .ok (.iconst 1, 1) := by decide +kernel
theorem dL_law_258 : decode cL_law 258 = .ok (.iadd, 1) := by decide +kernel
theorem dL_law_259 : decode cL_law 259 = .ok (.iaload, 1) := by decide +kernel
theorem dL_law_260 : decode cL_law 260 = .ok (.aload_n 0, 1) := by decide +kernel
theorem dL_law_261 : decode cL_law 261 = .ok (.iload_n 3, 1) := by decide +kernel
theorem dL_law_262 : decode cL_law 262 = .ok (.iconst 2, 1) := by decide +kernel
theorem dL_law_263 : decode cL_law 263 = .ok (.iadd, 1) := by decide +kernel
theorem dL_law_264 : decode cL_law 264 = .ok (.iaload, 1) := by decide +kernel
theorem dL_law_265 : decode cL_law 265 = .ok (.aload_n 0, 1) := by decide +kernel
theorem dL_law_266 : decode cL_law 266 = .ok (.iload_n 3, 1) := by decide +kernel
theorem dL_law_267 : decode cL_law 267 = .ok (.iconst 3, 1) := by decide +kernel
theorem dL_law_268 : decode cL_law 268 = .ok (.iadd, 1) := by decide +kernel
theorem dL_law_269 : decode cL_law 269 = .ok (.iaload, 1) := by decide +kernel
theorem dL_law_270 : decode cL_law 270 = .ok (.invokevirtual 31, 3) := by decide +kernel
theorem dL_law_273 : decode cL_law 273 = .ok (.aload_n 2, 1) := by decide +kernel
theorem dL_law_274 : decode cL_law 274 = .ok (.aload_n 0, 1) := by decide +kernel
theorem dL_law_275 : decode cL_law 275 = .ok (.iload_n 3, 1) := by decide +kernel
theorem dL_law_276 : decode cL_law 276 = .ok (.iconst 1, 1) := by decide +kernel
theorem dL_law_277 : decode cL_law 277 = .ok (.iadd, 1) := by decide +kernel
theorem dL_law_278 : decode cL_law 278 = .ok (.iaload, 1) := by decide +kernel
theorem dL_law_279 : decode cL_law 279 = .ok (.aload_n 0, 1) := by decide +kernel
theorem dL_law_280 : decode cL_law 280 = .ok (.iload_n 3, 1) := by decide +kernel
theorem dL_law_281 : decode cL_law 281 = .ok (.iconst 2, 1) := by decide +kernel
theorem dL_law_282 : decode cL_law 282 = .ok (.iadd, 1) := by decide +kernel
theorem dL_law_283 : decode cL_law 283 = .ok (.iaload, 1) := by decide +kernel
theorem dL_law_284 : decode cL_law 284 = .ok (.aload_n 0, 1) := by decide +kernel
theorem dL_law_285 : decode cL_law 285 = .ok (.iload_n 3, 1) := by decide +kernel
theorem dL_law_286 : decode cL_law 286 = .ok (.iconst 3, 1) := by decide +kernel
theorem dL_law_287 : decode cL_law 287 = .ok (.iadd, 1) := by decide +kernel
theorem dL_law_288 : decode cL_law 288 = .ok (.iaload, 1) := by decide +kernel
theorem dL_law_289 : decode cL_law 289 = .ok (.invokevirtual 34, 3) := by decide +kernel
theorem dL_law_292 : decode cL_law 292 = .ok (.if_icmp .eq 238, 3) := by decide +kernel
theorem dL_law_295 : decode cL_law 295 = .ok (.iconst 0, 1) := by decide +kernel
theorem dL_law_296 : decode cL_law 296 = .ok (.ireturn, 1) := by decide +kernel
theorem dL_law_297 : decode cL_law 297 = .ok (.aload_n 1, 1) := by decide +kernel
theorem dL_law_298 : decode cL_law 298 = .ok (.aload_n 0, 1) := by decide +kernel
theorem dL_law_299 : decode cL_law 299 = .ok (.iload_n 3, 1) := by decide +kernel
theorem dL_law_300 : decode cL_law 300 = .ok (.iconst 1, 1) := by decide +kernel
theorem dL_law_301 : decode cL_law 301 = .ok (.iadd, 1) := by decide +kernel
theorem dL_law_302 : decode cL_law 302 = .ok (.iaload, 1) := by decide +kernel
theorem dL_law_303 : decode cL_law 303 = .ok (.invokevirtual 35, 3) := by decide +kernel
theorem dL_law_306 : decode cL_law 306 = .ok (.aload_n 2, 1) := by decide +kernel
theorem dL_law_307 : decode cL_law 307 = .ok (.aload_n 0, 1) := by decide +kernel
theorem dL_law_308 : decode cL_law 308 = .ok (.iload_n 3, 1) := by decide +kernel
theorem dL_law_309 : decode cL_law 309 = .ok (.iconst 1, 1) := by decide +kernel
theorem dL_law_310 : decode cL_law 310 = .ok (.iadd, 1) := by decide +kernel
theorem dL_law_311 : decode cL_law 311 = .ok (.iaload, 1) := by decide +kernel
theorem dL_law_312 : decode cL_law 312 = .ok (.invokevirtual 39, 3) := by decide +kernel
theorem dL_law_315 : decode cL_law 315 = .ok (.if_icmp .eq 215, 3) := by decide +kernel
theorem dL_law_318 : decode cL_law 318 = .ok (.iconst 0, 1) := by decide +kernel
theorem dL_law_319 : decode cL_law 319 = .ok (.ireturn, 1) := by decide +kernel
theorem dL_law_320 : decode cL_law 320 = .ok (.aload_n 1, 1) := by decide +kernel
theorem dL_law_321 : decode cL_law 321 = .ok (.aload_n 0, 1) := by decide +kernel
theorem dL_law_322 : decode cL_law 322 = .ok (.iload_n 3, 1) := by decide +kernel
theorem dL_law_323 : decode cL_law 323 = .ok (.iconst 1, 1) := by decide +kernel
theorem dL_law_324 : decode cL_law 324 = .ok (.iadd, 1) := by decide +kernel
theorem dL_law_325 : decode cL_law 325 = .ok (.iaload, 1) := by decide +kernel
theorem dL_law_326 : decode cL_law 326 = .ok (.invokevirtual 40, 3) := by decide +kernel
theorem dL_law_329 : decode cL_law 329 = .ok (.aload_n 2, 1) := by decide +kernel
theorem dL_law_330 : decode cL_law 330 = .ok (.aload_n 0, 1) := by decide +kernel
theorem dL_law_331 : decode cL_law 331 = .ok (.iload_n 3, 1) := by decide +kernel
theorem dL_law_332 : decode cL_law 332 = .ok (.iconst 1, 1) := by decide +kernel
theorem dL_law_333 : decode cL_law 333 = .ok (.iadd, 1) := by decide +kernel
theorem dL_law_334 : decode cL_law 334 = .ok (.iaload, 1) := by decide +kernel
theorem dL_law_335 : decode cL_law 335 = .ok (.invokevirtual 43, 3) := by decide +kernel
theorem dL_law_338 : decode cL_law 338 = .ok (.if_icmp .eq 192, 3) := by decide +kernel
theorem dL_law_341 : decode cL_law 341 = .ok (.iconst 0, 1) := by decide +kernel
theorem dL_law_342 : decode cL_law 342 = .ok (.ireturn, 1) := by decide +kernel
theorem dL_law_343 : decode cL_law 343 = .ok (.aload_n 1, 1) := by decide +kernel
theorem dL_law_344 : decode cL_law 344 = .ok (.aload_n 0, 1) := by decide +kernel
theorem dL_law_345 : decode cL_law 345 = .ok (.iload_n 3, 1) := by decide +kernel
theorem dL_law_346 : decode cL_law 346 = .ok (.iconst 1, 1) := by decide +kernel
theorem dL_law_347 : decode cL_law 347 = .ok (.iadd, 1) := by decide +kernel
theorem dL_law_348 : decode cL_law 348 = .ok (.iaload, 1) := by decide +kernel
theorem dL_law_349 : decode cL_law 349 = .ok (.aload_n 0, 1) := by decide +kernel
theorem dL_law_350 : decode cL_law 350 = .ok (.iload_n 3, 1) := by decide +kernel
theorem dL_law_351 : decode cL_law 351 = .ok (.iconst 2, 1) := by decide +kernel
theorem dL_law_352 : decode cL_law 352 = .ok (.iadd, 1) := by decide +kernel
theorem dL_law_353 : decode cL_law 353 = .ok (.iaload, 1) := by decide +kernel
theorem dL_law_354 : decode cL_law 354 = .ok (.invokevirtual 44, 3) := by decide +kernel
theorem dL_law_357 : decode cL_law 357 = .ok (.aload_n 2, 1) := by decide +kernel
theorem dL_law_358 : decode cL_law 358 = .ok (.aload_n 0, 1) := by decide +kernel
theorem dL_law_359 : decode cL_law 359 = .ok (.iload_n 3, 1) := by decide +kernel
theorem dL_law_360 : decode cL_law 360 = .ok (.iconst 1, 1) := by decide +kernel
theorem dL_law_361 : decode cL_law 361 = .ok (.iadd, 1) := by decide +kernel
theorem dL_law_362 : decode cL_law 362 = .ok (.iaload, 1) := by decide +kernel
theorem dL_law_363 : decode cL_law 363 = .ok (.aload_n 0, 1) := by decide +kernel
theorem dL_law_364 : decode cL_law 364 = .ok (.iload_n 3, 1) := by decide +kernel
theorem dL_law_365 : decode cL_law 365 = .ok (.iconst 2, 1) := by decide +kernel
theorem dL_law_366 : decode cL_law 366 = .ok (.iadd, 1) := by decide +kernel
theorem dL_law_367 : decode cL_law 367 = .ok (.iaload, 1) := by decide +kernel
theorem dL_law_368 : decode cL_law 368 = .ok (.invokevirtual 47, 3) := by decide +kernel
theorem dL_law_371 : decode cL_law 371 = .ok (.if_icmp .eq 159, 3) := by decide +kernel
theorem dL_law_374 : decode cL_law 374 = .ok (.iconst 0, 1) := by decide +kernel
theorem dL_law_375 : decode cL_law 375 = .ok (.ireturn, 1) := by decide +kernel
theorem dL_law_376 : decode cL_law 376 = .ok (.aload_n 1, 1) := by decide +kernel
theorem dL_law_377 : decode cL_law 377 = .ok (.aload_n 0, 1) := by decide +kernel
theorem dL_law_378 : decode cL_law 378 = .ok (.iload_n 3, 1) := by decide +kernel
theorem dL_law_379 : decode cL_law 379 = .ok (.iconst 1, 1) := by decide +kernel
theorem dL_law_380 : decode cL_law 380 = .ok (.iadd, 1) := by decide +kernel
theorem dL_law_381 : decode cL_law 381 = .ok (.iaload, 1) := by decide +kernel
theorem dL_law_382 : decode cL_law 382 = .ok (.aload_n 0, 1) := by decide +kernel
theorem dL_law_383 : decode cL_law 383 = .ok (.iload_n 3, 1) := by decide +kernel
theorem dL_law_384 : decode cL_law 384 = .ok (.iconst 2, 1) := by decide +kernel
theorem dL_law_385 : decode cL_law 385 = .ok (.iadd, 1) := by decide +kernel
theorem dL_law_386 : decode cL_law 386 = .ok (.iaload, 1) := by decide +kernel
theorem dL_law_387 : decode cL_law 387 = .ok (.invokevirtual 48, 3) := by decide +kernel
theorem dL_law_390 : decode cL_law 390 = .ok (.aload_n 2, 1) := by decide +kernel
theorem dL_law_391 : decode cL_law 391 = .ok (.aload_n 0, 1) := by decide +kernel
theorem dL_law_392 : decode cL_law 392 = .ok (.iload_n 3, 1) := by decide +kernel
theorem dL_law_393 : decode cL_law 393 = .ok (.iconst 1, 1) := by decide +kernel
theorem dL_law_394 : decode cL_law 394 = .ok (.iadd, 1) := by decide +kernel
theorem dL_law_395 : decode cL_law 395 = .ok (.iaload, 1) := by decide +kernel
theorem dL_law_396 : decode cL_law 396 = .ok (.aload_n 0, 1) := by decide +kernel
theorem dL_law_397 : decode cL_law 397 = .ok (.iload_n 3, 1) := by decide +kernel
theorem dL_law_398 : decode cL_law 398 = .ok (.iconst 2, 1) := by decide +kernel
theorem dL_law_399 : decode cL_law 399 = .ok (.iadd, 1) := by decide +kernel
theorem dL_law_400 : decode cL_law 400 = .ok (.iaload, 1) := by decide +kernel
theorem dL_law_401 : decode cL_law 401 = .ok (.invokevirtual 52, 3) := by decide +kernel
theorem dL_law_404 : decode cL_law 404 = .ok (.if_icmp .eq 126, 3) := by decide +kernel
theorem dL_law_407 : decode cL_law 407 = .ok (.iconst 0, 1) := by decide +kernel
theorem dL_law_408 : decode cL_law 408 = .ok (.ireturn, 1) := by decide +kernel
theorem dL_law_409 : decode cL_law 409 = .ok (.aload_n 1, 1) := by decide +kernel
theorem dL_law_410 : decode cL_law 410 = .ok (.invokevirtual 53, 3) := by decide +kernel
theorem dL_law_413 : decode cL_law 413 = .ok (.aload_n 2, 1) := by decide +kernel
theorem dL_law_414 : decode cL_law 414 = .ok (.invokevirtual 57, 3) := by decide +kernel
theorem dL_law_417 : decode cL_law 417 = .ok (.if_icmp .eq 113, 3) := by decide +kernel
theorem dL_law_420 : decode cL_law 420 = .ok (.iconst 0, 1) := by decide +kernel
theorem dL_law_421 : decode cL_law 421 = .ok (.ireturn, 1) := by decide +kernel
theorem dL_law_422 : decode cL_law 422 = .ok (.aload_n 1, 1) := by decide +kernel
theorem dL_law_423 : decode cL_law 423 = .ok (.invokevirtual 58, 3) := by decide +kernel
theorem dL_law_426 : decode cL_law 426 = .ok (.aload_n 2, 1) := by decide +kernel
theorem dL_law_427 : decode cL_law 427 = .ok (.invokevirtual 61, 3) := by decide +kernel
theorem dL_law_430 : decode cL_law 430 = .ok (.if_icmp .eq 100, 3) := by decide +kernel
theorem dL_law_433 : decode cL_law 433 = .ok (.iconst 0, 1) := by decide +kernel
theorem dL_law_434 : decode cL_law 434 = .ok (.ireturn, 1) := by decide +kernel
theorem dL_law_435 : decode cL_law 435 = .ok (.aload_n 1, 1) := by decide +kernel
theorem dL_law_436 : decode cL_law 436 = .ok (.aload_n 0, 1) := by decide +kernel
theorem dL_law_437 : decode cL_law 437 = .ok (.iload_n 3, 1) := by decide +kernel
theorem dL_law_438 : decode cL_law 438 = .ok (.iconst 1, 1) := by decide +kernel
theorem dL_law_439 : decode cL_law 439 = .ok (.iadd, 1) := by decide +kernel
theorem dL_law_440 : decode cL_law 440 = .ok (.iaload, 1) := by decide +kernel
theorem dL_law_441 : decode cL_law 441 = .ok (.invokevirtual 62, 3) := by decide +kernel
theorem dL_law_444 : decode cL_law 444 = .ok (.aload_n 2, 1) := by decide +kernel
theorem dL_law_445 : decode cL_law 445 = .ok (.aload_n 0, 1) := by decide +kernel
theorem dL_law_446 : decode cL_law 446 = .ok (.iload_n 3, 1) := by decide +kernel
theorem dL_law_447 : decode cL_law 447 = .ok (.iconst 1, 1) := by decide +kernel
theorem dL_law_448 : decode cL_law 448 = .ok (.iadd, 1) := by decide +kernel
theorem dL_law_449 : decode cL_law 449 = .ok (.iaload, 1) := by decide +kernel
theorem dL_law_450 : decode cL_law 450 = .ok (.invokevirtual 65, 3) := by decide +kernel
theorem dL_law_453 : decode cL_law 453 = .ok (.if_icmp .eq 77, 3) := by decide +kernel
theorem dL_law_456 : decode cL_law 456 = .ok (.iconst 0, 1) := by decide +kernel
theorem dL_law_457 : decode cL_law 457 = .ok (.ireturn, 1) := by decide +kernel
theorem dL_law_458 : decode cL_law 458 = .ok (.aload_n 1, 1) := by decide +kernel
theorem dL_law_459 : decode cL_law 459 = .ok (.invokevirtual 66, 3) := by decide +kernel
theorem dL_law_462 : decode cL_law 462 = .ok (.aload_n 2, 1) := by decide +kernel
theorem dL_law_463 : decode cL_law 463 = .ok (.invokevirtual 69, 3) := by decide +kernel
theorem dL_law_466 : decode cL_law 466 = .ok (.if_icmp .eq 64, 3) := by decide +kernel
theorem dL_law_469 : decode cL_law 469 = .ok (.iconst 0, 1) := by decide +kernel
theorem dL_law_470 : decode cL_law 470 = .ok (.ireturn, 1) := by decide +kernel
theorem dL_law_471 : decode cL_law 471 = .ok (.aload_n 1, 1) := by decide +kernel
theorem dL_law_472 : decode cL_law 472 = .ok (.aload_n 0, 1) := by decide +kernel
theorem dL_law_473 : decode cL_law 473 = .ok (.iload_n 3, 1) := by decide +kernel
theorem dL_law_474 : decode cL_law 474 = .ok (.iconst 1, 1) := by decide +kernel
theorem dL_law_475 : decode cL_law 475 = .ok (.iadd, 1) := by decide +kernel
theorem dL_law_476 : decode cL_law 476 = .ok (.iaload, 1) := by decide +kernel
theorem dL_law_477 : decode cL_law 477 = .ok (.invokevirtual 70, 3) := by decide +kernel
theorem dL_law_480 : decode cL_law 480 = .ok (.aload_n 2, 1) := by decide +kernel
theorem dL_law_481 : decode cL_law 481 = .ok (.aload_n 0, 1) := by decide +kernel
theorem dL_law_482 : decode cL_law 482 = .ok (.iload_n 3, 1) := by decide +kernel
theorem dL_law_483 : decode cL_law 483 = .ok (.iconst 1, 1) := by decide +kernel
theorem dL_law_484 : decode cL_law 484 = .ok (.iadd, 1) := by decide +kernel
theorem dL_law_485 : decode cL_law 485 = .ok (.iaload, 1) := by decide +kernel
theorem dL_law_486 : decode cL_law 486 = .ok (.invokevirtual 73, 3) := by decide +kernel
theorem dL_law_489 : decode cL_law 489 = .ok (.if_icmp .eq 41, 3) := by decide +kernel
theorem dL_law_492 : decode cL_law 492 = .ok (.iconst 0, 1) := by decide +kernel
theorem dL_law_493 : decode cL_law 493 = .ok (.ireturn, 1) := by decide +kernel
theorem dL_law_494 : decode cL_law 494 = .ok (.aload_n 1, 1) := by decide +kernel
theorem dL_law_495 : decode cL_law 495 = .ok (.invokevirtual 74, 3) := by decide +kernel
theorem dL_law_498 : decode cL_law 498 = .ok (.aload_n 2, 1) := by decide +kernel
theorem dL_law_499 : decode cL_law 499 = .ok (.invokevirtual 77, 3) := by decide +kernel
theorem dL_law_502 : decode cL_law 502 = .ok (.if_icmp .eq 28, 3) := by decide +kernel
theorem dL_law_505 : decode cL_law 505 = .ok (.iconst 0, 1) := by decide +kernel
theorem dL_law_506 : decode cL_law 506 = .ok (.ireturn, 1) := by decide +kernel
theorem dL_law_507 : decode cL_law 507 = .ok (.aload_n 1, 1) := by decide +kernel
theorem dL_law_508 : decode cL_law 508 = .ok (.aload_n 0, 1) := by decide +kernel
theorem dL_law_509 : decode cL_law 509 = .ok (.iload_n 3, 1) := by decide +kernel
theorem dL_law_510 : decode cL_law 510 = .ok (.iconst 1, 1) := by decide +kernel
theorem dL_law_511 : decode cL_law 511 = .ok (.iadd, 1) := by decide +kernel
theorem dL_law_512 : decode cL_law 512 = .ok (.iaload, 1) := by decide +kernel
theorem dL_law_513 : decode cL_law 513 = .ok (.invokevirtual 78, 3) := by decide +kernel
theorem dL_law_516 : decode cL_law 516 = .ok (.aload_n 2, 1) := by decide +kernel
theorem dL_law_517 : decode cL_law 517 = .ok (.aload_n 0, 1) := by decide +kernel
theorem dL_law_518 : decode cL_law 518 = .ok (.iload_n 3, 1) := by decide +kernel
theorem dL_law_519 : decode cL_law 519 = .ok (.iconst 1, 1) := by decide +kernel
theorem dL_law_520 : decode cL_law 520 = .ok (.iadd, 1) := by decide +kernel
theorem dL_law_521 : decode cL_law 521 = .ok (.iaload, 1) := by decide +kernel
theorem dL_law_522 : decode cL_law 522 = .ok (.invokevirtual 81, 3) := by decide +kernel
theorem dL_law_525 : decode cL_law 525 = .ok (.if_icmp .eq 5, 3) := by decide +kernel
theorem dL_law_528 : decode cL_law 528 = .ok (.iconst 0, 1) := by decide +kernel
theorem dL_law_529 : decode cL_law 529 = .ok (.ireturn, 1) := by decide +kernel
theorem dL_law_530 : decode cL_law 530 = .ok (.iinc 3 4, 3) := by decide +kernel
theorem dL_law_533 : decode cL_law 533 = .ok (.goto (-515), 3) := by decide +kernel
theorem dL_law_536 : decode cL_law 536 = .ok (.iconst 1, 1) := by decide +kernel
theorem dL_law_537 : decode cL_law 537 = .ok (.ireturn, 1) := by decide +kernel
end
section
set_option maxRecDepth 100000
theorem dX0_init_0 : decode cX0_init 0 = .ok (.aload_n 0, 1) := by decide +kernel
theorem dX0_init_1 : decode cX0_init 1 = .ok (.invokespecial 1, 3) := by decide +kernel
theorem dX0_init_4 : decode cX0_init 4 = .ok (.aload_n 0, 1) := by decide +kernel
theorem dX0_init_5 : decode cX0_init 5 = .ok (.sipush 128, 3) := by decide +kernel
theorem dX0_init_8 : decode cX0_init 8 = .ok (.newarray .byte, 2) := by decide +kernel
theorem dX0_init_10 : decode cX0_init 10 = .ok (.putfield 7, 3) := by decide +kernel
theorem dX0_init_13 : decode cX0_init 13 = .ok (.aload_n 0, 1) := by decide +kernel
theorem dX0_init_14 : decode cX0_init 14 = .ok (.bipush 64, 2) := by decide +kernel
theorem dX0_init_16 : decode cX0_init 16 = .ok (.newarray .int, 2) := by decide +kernel
theorem dX0_init_18 : decode cX0_init 18 = .ok (.putfield 13, 3) := by decide +kernel
theorem dX0_init_21 : decode cX0_init 21 = .ok (.aload_n 0, 1) := by decide +kernel
theorem dX0_init_22 : decode cX0_init 22 = .ok (.bipush 6, 2) := by decide +kernel
theorem dX0_init_24 : decode cX0_init 24 = .ok (.newarray .byte, 2) := by decide +kernel
theorem dX0_init_26 : decode cX0_init 26 = .ok (.putfield 17, 3) := by decide +kernel
theorem dX0_init_29 : decode cX0_init 29 = .ok (.aload_n 0, 1) := by decide +kernel
theorem dX0_init_30 : decode cX0_init 30 = .ok (.iconst 2, 1) := by decide +kernel
theorem dX0_init_31 : decode cX0_init 31 = .ok (.newarray .byte, 2) := by decide +kernel
theorem dX0_init_33 : decode cX0_init 33 = .ok (.putfield 20, 3) := by decide +kernel
theorem dX0_init_36 : decode cX0_init 36 = .ok (.aload_n 0, 1) := by decide +kernel
theorem dX0_init_37 : decode cX0_init 37 = .ok (.sipush 198, 3) := by decide +kernel
theorem dX0_init_40 : decode cX0_init 40 = .ok (.newarray .byte, 2) := by decide +kernel
theorem dX0_init_42 : decode cX0_init 42 = .ok (.putfield 23, 3) := by decide +kernel
theorem dX0_init_45 : decode cX0_init 45 = .ok (.aload_n 0, 1) := by decide +kernel
theorem dX0_init_46 : decode cX0_init 46 = .ok (.sipush 198, 3) := by decide +kernel
theorem dX0_init_49 : decode cX0_init 49 = .ok (.newarray .int, 2) := by decide +kernel
theorem dX0_init_51 : decode cX0_init 51 = .ok (.putfield 26, 3) := by decide +kernel
theorem dX0_init_54 : decode cX0_init 54 = .ok (.aload_n 0, 1) := by decide +kernel
theorem dX0_init_55 : decode cX0_init 55 = .ok (.iconst 4, 1) := by decide +kernel
theorem dX0_init_56 : decode cX0_init 56 = .ok (.newarray .byte, 2) := by decide +kernel
theorem dX0_init_58 : decode cX0_init 58 = .ok (.putfield 29, 3) := by decide +kernel
theorem dX0_init_61 : decode cX0_init 61 = .ok (.aload_n 0, 1) := by decide +kernel
theorem dX0_init_62 : decode cX0_init 62 = .ok (.bipush 32, 2) := by decide +kernel
theorem dX0_init_64 : decode cX0_init 64 = .ok (.newarray .boolean, 2) := by decide +kernel
theorem dX0_init_66 : decode cX0_init 66 = .ok (.putfield 32, 3) := by decide +kernel
theorem dX0_init_69 : decode cX0_init 69 = .ok (.aload_n 0, 1) := by decide +kernel
theorem dX0_init_70 : decode cX0_init 70 = .ok (.bipush 99, 2) := by decide +kernel
theorem dX0_init_72 : decode cX0_init 72 = .ok (.newarray .boolean, 2) := by decide +kernel
theorem dX0_init_74 : decode cX0_init 74 = .ok (.putfield 36, 3) := by decide +kernel
theorem dX0_init_77 : decode cX0_init 77 = .ok (.aload_n 0, 1) := by decide +kernel
theorem dX0_init_78 : decode cX0_init 78 = .ok (.bipush 32, 2) := by decide +kernel
theorem dX0_init_80 : decode cX0_init 80 = .ok (.newarray .byte, 2) := by decide +kernel
theorem dX0_init_82 : decode cX0_init 82 = .ok (.putfield 39, 3) := by decide +kernel
theorem dX0_init_85 : decode cX0_init 85 = .ok (.aload_n 0, 1) := by decide +kernel
theorem dX0_init_86 : decode cX0_init 86 = .ok (.bipush 32, 2) := by decide +kernel
theorem dX0_init_88 : decode cX0_init 88 = .ok (.newarray .byte, 2) := by decide +kernel
theorem dX0_init_90 : decode cX0_init 90 = .ok (.putfield 42, 3) := by decide +kernel
theorem dX0_init_93 : decode cX0_init 93 = .ok (.aload_n 0, 1) := by decide +kernel
theorem dX0_init_94 : decode cX0_init 94 = .ok (.bipush 32, 2) := by decide +kernel
theorem dX0_init_96 : decode cX0_init 96 = .ok (.newarray .boolean, 2) := by decide +kernel
theorem dX0_init_98 : decode cX0_init 98 = .ok (.putfield 45, 3) := by decide +kernel
theorem dX0_init_101 : decode cX0_init 101 = .ok (.iconst 0, 1) := by decide +kernel
theorem dX0_init_102 : decode cX0_init 102 = .ok (.istore_n 1, 1) := by decide +kernel
theorem dX0_init_103 : decode cX0_init 103 = .ok (.iload_n 1, 1) := by decide +kernel
theorem dX0_init_104 : decode cX0_init 104 = .ok (.bipush 6, 2) := by decide +kernel
theorem dX0_init_106 : decode cX0_init 106 = .ok (.if_icmp .ge 16, 3) := by decide +kernel
theorem dX0_init_109 : decode cX0_init 109 = .ok (.aload_n 0, 1) := by decide +kernel
theorem dX0_init_110 : decode cX0_init 110 = .ok (.getfield 17, 3) := by decide +kernel
theorem dX0_init_113 : decode cX0_init 113 = .ok (.iload_n 1, 1) := by decide +kernel
theorem dX0_init_114 : decode cX0_init 114 = .ok (.iconst (-1), 1) := by decide +kernel
theorem dX0_init_115 : decode cX0_init 115 = .ok (.bastore, 1) := by decide +kernel
theorem dX0_init_116 : decode cX0_init 116 = .ok (.iinc 1 1, 3) := by decide +kernel
theorem dX0_init_119 : decode cX0_init 119 = .ok (.goto (-16), 3) := by decide +kernel
theorem dX0_init_122 : decode cX0_init 122 = .ok (.iconst 0, 1) := by decide +kernel
theorem dX0_init_123 : decode cX0_init 123 = .ok (.istore_n 1, 1) := by decide +kernel
theorem dX0_init_124 : decode cX0_init 124 = .ok (.iload_n 1, 1) := by decide +kernel
theorem dX0_init_125 : decode cX0_init 125 = .ok (.iconst 4, 1) := by decide +kernel
theorem dX0_init_126 : decode cX0_init 126 = .ok (.if_icmp .ge 16, 3) := by decide +kernel
theorem dX0_init_129 : decode cX0_init 129 = .ok (.aload_n 0, 1) := by decide +kernel
theorem dX0_init_130 : decode cX0_init 130 = .ok (.getfield 29, 3) := by decide +kernel
theorem dX0_init_133 : decode cX0_init 133 = .ok (.iload_n 1, 1) := by decide +kernel
theorem dX0_init_134 : decode cX0_init 134 = .ok (.iconst (-1), 1) := by decide +kernel
theorem dX0_init_135 : decode cX0_init 135 = .ok (.bastore, 1) := by decide +kernel
theorem dX0_init_136 : decode cX0_init 136 = .ok (.iinc 1 1, 3) := by decide +kernel
theorem dX0_init_139 : decode cX0_init 139 = .ok (.goto (-15), 3) := by decide +kernel
theorem dX0_init_142 : decode cX0_init 142 = .ok (.return_, 1) := by decide +kernel
theorem dX0_make_0 : decode cX0_make 0 = .ok (.aload_n 0, 1) := by decide +kernel
theorem dX0_make_1 : decode cX0_make 1 = .ok (.iload_n 1, 1) := by decide +kernel
theorem dX0_make_2 : decode cX0_make 2 = .ok (.invokevirtual 48, 3) := by decide +kernel
theorem dX0_make_5 : decode cX0_make 5 = .ok (.ifCond .ne 5, 3) := by decide +kernel
theorem dX0_make_8 : decode cX0_make 8 = .ok (.iconst (-1), 1) := by decide +kernel
theorem dX0_make_9 : decode cX0_make 9 = .ok (.ireturn, 1) := by decide +kernel
theorem dX0_make_10 : decode cX0_make 10 = .ok (.aload_n 0, 1) := by decide +kernel
theorem dX0_make_11 : decode cX0_make 11 = .ok (.invokevirtual 52, 3) := by decide +kernel
theorem dX0_make_14 : decode cX0_make 14 = .ok (.istore_n 3, 1) := by decide +kernel
theorem dX0_make_15 : decode cX0_make 15 = .ok (.aload_n 0, 1) := by decide +kernel
theorem dX0_make_16 : decode cX0_make 16 = .ok (.iload_n 3, 1) := by decide +kernel
theorem dX0_make_17 : decode cX0_make 17 = .ok (.invokevirtual 56, 3) := by decide +kernel
theorem dX0_make_20 : decode cX0_make 20 = .ok (.bipush 24, 2) := by decide +kernel
theorem dX0_make_22 : decode cX0_make 22 = .ok (.if_icmp .lt 6, 3) := by decide +kernel
theorem dX0_make_25 : decode cX0_make 25 = .ok (.bipush (-2), 2) := by decide +kernel
theorem dX0_make_27 : decode cX0_make 27 = .ok (.ireturn, 1) := by decide +kernel
theorem dX0_make_28 : decode cX0_make 28 = .ok (.aload_n 0, 1) := by decide +kernel
theorem dX0_make_29 : decode cX0_make 29 = .ok (.getfield 60, 3) := by decide +kernel
theorem dX0_make_32 : decode cX0_make 32 = .ok (.bipush 32, 2) := by decide +kernel
theorem dX0_make_34 : decode cX0_make 34 = .ok (.if_icmp .ne 8, 3) := by decide +kernel
theorem dX0_make_37 : decode cX0_make 37 = .ok (.aload_n 0, 1) := by decide +kernel
theorem dX0_make_38 : decode cX0_make 38 = .ok (.invokevirtual 64, 3) := by decide +kernel
theorem dX0_make_41 : decode cX0_make 41 = .ok (.pop, 1) := by decide +kernel
theorem dX0_make_42 : decode cX0_make 42 = .ok (.aload_n 0, 1) := by decide +kernel
theorem dX0_make_43 : decode cX0_make 43 = .ok (.getfield 60, 3) := by decide +kernel
theorem dX0_make_46 : decode cX0_make 46 = .ok (.istore 4, 2) := by decide +kernel
theorem dX0_make_48 : decode cX0_make 48 = .ok (.aload_n 0, 1) := by decide +kernel
theorem dX0_make_49 : decode cX0_make 49 = .ok (.dup, 1) := by decide +kernel
theorem dX0_make_50 : decode cX0_make 50 = .ok (.getfield 60, 3) := by decide +kernel
theorem dX0_make_53 : decode cX0_make 53 = .ok (.iconst 1, 1) := by decide +kernel
theorem dX0_make_54 : decode cX0_make 54 = .ok (.iadd, 1) := by decide +kernel
theorem dX0_make_55 : decode cX0_make 55 = .ok (.putfield 60, 3) := by decide +kernel
theorem dX0_make_58 : decode cX0_make 58 = .ok (.aload_n 0, 1) := by decide +kernel
theorem dX0_make_59 : decode cX0_make 59 = .ok (.getfield 13, 3) := by decide +kernel
theorem dX0_make_62 : decode cX0_make 62 = .ok (.bipush 32, 2) := by decide +kernel
theorem dX0_make_64 : decode cX0_make 64 = .ok (.aload_n 0, 1) := by decide +kernel
theorem dX0_make_65 : decode cX0_make 65 = .ok (.getfield 67, 3) := by decide +kernel
theorem dX0_make_68 : decode cX0_make 68 = .ok (.imul, 1) := by decide +kernel
theorem dX0_make_69 : decode cX0_make 69 = .ok (.iload 4, 2) := by decide +kernel
theorem dX0_make_71 : decode cX0_make 71 = .ok (.iadd, 1) := by decide +kernel
theorem dX0_make_72 : decode cX0_make 72 = .ok (.iload_n 2, 1) := by decide +kernel
theorem dX0_make_73 : decode cX0_make 73 = .ok (.iastore, 1) := by decide +kernel
theorem dX0_make_74 : decode cX0_make 74 = .ok (.aload_n 0, 1) := by decide +kernel
theorem dX0_make_75 : decode cX0_make 75 = .ok (.getfield 7, 3) := by decide +kernel
theorem dX0_make_78 : decode cX0_make 78 = .ok (.iconst 2, 1) := by decide +kernel
theorem dX0_make_79 : decode cX0_make 79 = .ok (.bipush 32, 2) := by decide +kernel
theorem dX0_make_81 : decode cX0_make 81 = .ok (.aload_n 0, 1) := by decide +kernel
theorem dX0_make_82 : decode cX0_make 82 = .ok (.getfield 67, 3) := by decide +kernel
theorem dX0_make_85 : decode cX0_make 85 = .ok (.imul, 1) := by decide +kernel
theorem dX0_make_86 : decode cX0_make 86 = .ok (.iload 4, 2) := by decide +kernel
theorem dX0_make_88 : decode cX0_make 88 = .ok (.iadd, 1) := by decide +kernel
theorem dX0_make_89 : decode cX0_make 89 = .ok (.imul, 1) := by decide +kernel
theorem dX0_make_90 : decode cX0_make 90 = .ok (.iconst (-1), 1) := by decide +kernel
theorem dX0_make_91 : decode cX0_make 91 = .ok (.bastore, 1) := by decide +kernel
theorem dX0_make_92 : decode cX0_make 92 = .ok (.aload_n 0, 1) := by decide +kernel
theorem dX0_make_93 : decode cX0_make 93 = .ok (.getfield 7, 3) := by decide +kernel
theorem dX0_make_96 : decode cX0_make 96 = .ok (.iconst 2, 1) := by decide +kernel
theorem dX0_make_97 : decode cX0_make 97 = .ok (.bipush 32, 2) := by decide +kernel
theorem dX0_make_99 : decode cX0_make 99 = .ok (.aload_n 0, 1) := by decide +kernel
theorem dX0_make_100 : decode cX0_make 100 = .ok (.getfield 67, 3) := by decide +kernel
theorem dX0_make_103 : decode cX0_make 103 = .ok (.imul, 1) := by decide +kernel
theorem dX0_make_104 : decode cX0_make 104 = .ok (.iload 4, 2) := by decide +kernel
theorem dX0_make_106 : decode cX0_make 106 = .ok (.iadd, 1) := by decide +kernel
theorem dX0_make_107 : decode cX0_make 107 = .ok (.imul, 1) := by decide +kernel
theorem dX0_make_108 : decode cX0_make 108 = .ok (.iconst 1, 1) := by decide +kernel
theorem dX0_make_109 : decode cX0_make 109 = .ok (.iadd, 1) := by decide +kernel
theorem dX0_make_110 : decode cX0_make 110 = .ok (.iconst (-1), 1) := by decide +kernel
theorem dX0_make_111 : decode cX0_make 111 = .ok (.bastore, 1) := by decide +kernel
theorem dX0_make_112 : decode cX0_make 112 = .ok (.aload_n 0, 1) := by decide +kernel
theorem dX0_make_113 : decode cX0_make 113 = .ok (.getfield 32, 3) := by decide +kernel
theorem dX0_make_116 : decode cX0_make 116 = .ok (.iload 4, 2) := by decide +kernel
theorem dX0_make_118 : decode cX0_make 118 = .ok (.iconst 1, 1) := by decide +kernel
theorem dX0_make_119 : decode cX0_make 119 = .ok (.bastore, 1) := by decide +kernel
theorem dX0_make_120 : decode cX0_make 120 = .ok (.aload_n 0, 1) := by decide +kernel
theorem dX0_make_121 : decode cX0_make 121 = .ok (.getfield 29, 3) := by decide +kernel
theorem dX0_make_124 : decode cX0_make 124 = .ok (.iload_n 1, 1) := by decide +kernel
theorem dX0_make_125 : decode cX0_make 125 = .ok (.iload 4, 2) := by decide +kernel
theorem dX0_make_127 : decode cX0_make 127 = .ok (.i2b, 1) := by decide +kernel
theorem dX0_make_128 : decode cX0_make 128 = .ok (.bastore, 1) := by decide +kernel
theorem dX0_make_129 : decode cX0_make 129 = .ok (.iconst 0, 1) := by decide +kernel
theorem dX0_make_130 : decode cX0_make 130 = .ok (.ireturn, 1) := by decide +kernel
theorem dX0_isRegister_0 : decode cX0_isRegister 0 = .ok (.iload_n 1, 1) := by decide +kernel
theorem dX0_isRegister_1 : decode cX0_isRegister 1 = .ok (.ifCond .lt 12, 3) := by decide +kernel
theorem dX0_isRegister_4 : decode cX0_isRegister 4 = .ok (.iload_n 1, 1) := by decide +kernel
theorem dX0_isRegister_5 : decode cX0_isRegister 5 = .ok (.iconst 3, 1) := by decide +kernel
theorem dX0_isRegister_6 : decode cX0_isRegister 6 = .ok (.if_icmp .gt 7, 3) := by decide +kernel
theorem dX0_isRegister_9 : decode cX0_isRegister 9 = .ok (.iconst 1, 1) := by decide +kernel
theorem dX0_isRegister_10 : decode cX0_isRegister 10 = .ok (.goto 4, 3) := by decide +kernel
theorem dX0_isRegister_13 : decode cX0_isRegister 13 = .ok (.iconst 0, 1) := by decide +kernel
theorem dX0_isRegister_14 : decode cX0_isRegister 14 = .ok (.ireturn, 1) := by decide +kernel
theorem dX0_neededSet_0 : decode cX0_neededSet 0 = .ok (.aload_n 0, 1) := by decide +kernel
theorem dX0_neededSet_1 : decode cX0_neededSet 1 = .ok (.invokevirtual 106, 3) := by decide +kernel
theorem dX0_neededSet_4 : decode cX0_neededSet 4 = .ok (.istore_n 1, 1) := by decide +kernel
theorem dX0_neededSet_5 : decode cX0_neededSet 5 = .ok (.iconst 0, 1) := by decide +kernel
theorem dX0_neededSet_6 : decode cX0_neededSet 6 = .ok (.istore_n 2, 1) := by decide +kernel
theorem dX0_neededSet_7 : decode cX0_neededSet 7 = .ok (.iload_n 2, 1) := by decide +kernel
theorem dX0_neededSet_8 : decode cX0_neededSet 8 = .ok (.iconst 4, 1) := by decide +kernel
theorem dX0_neededSet_9 : decode cX0_neededSet 9 = .ok (.if_icmp .ge 22, 3) := by decide +kernel
theorem dX0_neededSet_12 : decode cX0_neededSet 12 = .ok (.iload_n 1, 1) := by decide +kernel
theorem dX0_neededSet_13 : decode cX0_neededSet 13 = .ok (.aload_n 0, 1) := by decide +kernel
theorem dX0_neededSet_14 : decode cX0_neededSet 14 = .ok (.aload_n 0, 1) := by decide +kernel
theorem dX0_neededSet_15 : decode cX0_neededSet 15 = .ok (.getfield 29, 3) := by decide +kernel
theorem dX0_neededSet_18 : decode cX0_neededSet 18 = .ok (.iload_n 2, 1) := by decide +kernel
theorem dX0_neededSet_19 : decode cX0_neededSet 19 = .ok (.baload, 1) := by decide +kernel
theorem dX0_neededSet_20 : decode cX0_neededSet 20 = .ok (.invokevirtual 103, 3) := by decide +kernel
theorem dX0_neededSet_23 : decode cX0_neededSet 23 = .ok (.ior, 1) := by decide +kernel
theorem dX0_neededSet_24 : decode cX0_neededSet 24 = .ok (.istore_n 1, 1) := by decide +kernel
theorem dX0_neededSet_25 : decode cX0_neededSet 25 = .ok (.iinc 2 1, 3) := by decide +kernel
theorem dX0_neededSet_28 : decode cX0_neededSet 28 = .ok (.goto (-21), 3) := by decide +kernel
theorem dX0_neededSet_31 : decode cX0_neededSet 31 = .ok (.bipush 99, 2) := by decide +kernel
theorem dX0_neededSet_33 : decode cX0_neededSet 33 = .ok (.aload_n 0, 1) := by decide +kernel
theorem dX0_neededSet_34 : decode cX0_neededSet 34 = .ok (.getfield 67, 3) := by decide +kernel
theorem dX0_neededSet_37 : decode cX0_neededSet 37 = .ok (.imul, 1) := by decide +kernel
theorem dX0_neededSet_38 : decode cX0_neededSet 38 = .ok (.istore_n 2, 1) := by decide +kernel
theorem dX0_neededSet_39 : decode cX0_neededSet 39 = .ok (.iload_n 2, 1) := by decide +kernel
theorem dX0_neededSet_40 : decode cX0_neededSet 40 = .ok (.bipush 99, 2) := by decide +kernel
theorem dX0_neededSet_42 : decode cX0_neededSet 42 = .ok (.aload_n 0, 1) := by decide +kernel
theorem dX0_neededSet_43 : decode cX0_neededSet 43 = .ok (.getfield 67, 3) := by decide +kernel
theorem dX0_neededSet_46 : decode cX0_neededSet 46 = .ok (.imul, 1) := by decide +kernel
theorem dX0_neededSet_47 : decode cX0_neededSet 47 = .ok (.aload_n 0, 1) := by decide +kernel
theorem dX0_neededSet_48 : decode cX0_neededSet 48 = .ok (.getfield 20, 3) := by decide +kernel
theorem dX0_neededSet_51 : decode cX0_neededSet 51 = .ok (.aload_n 0, 1) := by decide +kernel
theorem dX0_neededSet_52 : decode cX0_neededSet 52 = .ok (.getfield 67, 3) := by decide +kernel
theorem dX0_neededSet_55 : decode cX0_neededSet 55 = .ok (.baload, 1) := by decide +kernel
theorem dX0_neededSet_56 : decode cX0_neededSet 56 = .ok (.iadd, 1) := by decide +kernel
theorem dX0_neededSet_57 : decode cX0_neededSet 57 = .ok (.if_icmp .ge 33, 3) := by decide +kernel
theorem dX0_neededSet_60 : decode cX0_neededSet 60 = .ok (.aload_n 0, 1) := by decide +kernel
theorem dX0_neededSet_61 : decode cX0_neededSet 61 = .ok (.getfield 23, 3) := by decide +kernel
theorem dX0_neededSet_64 : decode cX0_neededSet 64 = .ok (.iload_n 2, 1) := by decide +kernel
theorem dX0_neededSet_65 : decode cX0_neededSet 65 = .ok (.baload, 1) := by decide +kernel
theorem dX0_neededSet_66 : decode cX0_neededSet 66 = .ok (.bipush 96, 2) := by decide +kernel
theorem dX0_neededSet_68 : decode cX0_neededSet 68 = .ok (.if_icmp .lt 16, 3) := by decide +kernel
theorem dX0_neededSet_71 : decode cX0_neededSet 71 = .ok (.iload_n 1, 1) := by decide +kernel
theorem dX0_neededSet_72 : decode cX0_neededSet 72 = .ok (.aload_n 0, 1) := by decide +kernel
theorem dX0_neededSet_73 : decode cX0_neededSet 73 = .ok (.aload_n 0, 1) := by decide +kernel
theorem dX0_neededSet_74 : decode cX0_neededSet 74 = .ok (.getfield 26, 3) := by decide +kernel
theorem dX0_neededSet_77 : decode cX0_neededSet 77 = .ok (.iload_n 2, 1) := by decide +kernel
theorem dX0_neededSet_78 : decode cX0_neededSet 78 = .ok (.iaload, 1) := by decide +kernel
theorem dX0_neededSet_79 : decode cX0_neededSet 79 = .ok (.invokevirtual 103, 3) := by decide +kernel
theorem dX0_neededSet_82 : decode cX0_neededSet 82 = .ok (.ior, 1) := by decide +kernel
theorem dX0_neededSet_83 : decode cX0_neededSet 83 = .ok (.istore_n 1, 1) := by decide +kernel
theorem dX0_neededSet_84 : decode cX0_neededSet 84 = .ok (.iinc 2 1, 3) := by decide +kernel
theorem dX0_neededSet_87 : decode cX0_neededSet 87 = .ok (.goto (-48), 3) := by decide +kernel
theorem dX0_neededSet_90 : decode cX0_neededSet 90 = .ok (.aload_n 0, 1) := by decide +kernel
theorem dX0_neededSet_91 : decode cX0_neededSet 91 = .ok (.iload_n 1, 1) := by decide +kernel
theorem dX0_neededSet_92 : decode cX0_neededSet 92 = .ok (.iconst 1, 1) := by decide +kernel
theorem dX0_neededSet_93 : decode cX0_neededSet 93 = .ok (.invokevirtual 99, 3) := by decide +kernel
theorem dX0_neededSet_96 : decode cX0_neededSet 96 = .ok (.ireturn, 1) := by decide +kernel
theorem dX0_presentRoots_0 : decode cX0_presentRoots 0 = .ok (.aload_n 0, 1) := by decide +kernel
theorem dX0_presentRoots_1 : decode cX0_presentRoots 1 = .ok (.aload_n 0, 1) := by decide +kernel
theorem dX0_presentRoots_2 : decode cX0_presentRoots 2 = .ok (.getfield 17, 3) := by decide +kernel
theorem dX0_presentRoots_5 : decode cX0_presentRoots 5 = .ok (.iconst 3, 1) := by decide +kernel
theorem dX0_presentRoots_6 : decode cX0_presentRoots 6 = .ok (.aload_n 0, 1) := by decide +kernel
theorem dX0_presentRoots_7 : decode cX0_presentRoots 7 = .ok (.getfield 67, 3) := by decide +kernel
theorem dX0_presentRoots_10 : decode cX0_presentRoots 10 = .ok (.imul, 1) := by decide +kernel
theorem dX0_presentRoots_11 : decode cX0_presentRoots 11 = .ok (.baload, 1) := by decide +kernel
theorem dX0_presentRoots_12 : decode cX0_presentRoots 12 = .ok (.invokevirtual 103, 3) := by decide +kernel
theorem dX0_presentRoots_15 : decode cX0_presentRoots 15 = .ok (.aload_n 0, 1) := by decide +kernel
theorem dX0_presentRoots_16 : decode cX0_presentRoots 16 = .ok (.aload_n 0, 1) := by decide +kernel
theorem dX0_presentRoots_17 : decode cX0_presentRoots 17 = .ok (.getfield 17, 3) := by decide +kernel
theorem dX0_presentRoots_20 : decode cX0_presentRoots 20 = .ok (.iconst 3, 1) := by decide +kernel
theorem dX0_presentRoots_21 : decode cX0_presentRoots 21 = .ok (.aload_n 0, 1) := by decide +kernel
theorem dX0_presentRoots_22 : decode cX0_presentRoots 22 = .ok (.getfield 67, 3) := by decide +kernel
theorem dX0_presentRoots_25 : decode cX0_presentRoots 25 = .ok (.imul, 1) := by decide +kernel
theorem dX0_presentRoots_26 : decode cX0_presentRoots 26 = .ok (.iconst 1, 1) := by decide +kernel
theorem dX0_presentRoots_27 : decode cX0_presentRoots 27 = .ok (.iadd, 1) := by decide +kernel
theorem dX0_presentRoots_28 : decode cX0_presentRoots 28 = .ok (.baload, 1) := by decide +kernel
theorem dX0_presentRoots_29 : decode cX0_presentRoots 29 = .ok (.invokevirtual 103, 3) := by decide +kernel
theorem dX0_presentRoots_32 : decode cX0_presentRoots 32 = .ok (.ior, 1) := by decide +kernel
theorem dX0_presentRoots_33 : decode cX0_presentRoots 33 = .ok (.aload_n 0, 1) := by decide +kernel
theorem dX0_presentRoots_34 : decode cX0_presentRoots 34 = .ok (.aload_n 0, 1) := by decide +kernel
theorem dX0_presentRoots_35 : decode cX0_presentRoots 35 = .ok (.getfield 17, 3) := by decide +kernel
theorem dX0_presentRoots_38 : decode cX0_presentRoots 38 = .ok (.iconst 3, 1) := by decide +kernel
theorem dX0_presentRoots_39 : decode cX0_presentRoots 39 = .ok (.aload_n 0, 1) := by decide +kernel
theorem dX0_presentRoots_40 : decode cX0_presentRoots 40 = .ok (.getfield 67, 3) := by decide +kernel
theorem dX0_presentRoots_43 : decode cX0_presentRoots 43 = .ok (.imul, 1) := by decide +kernel
theorem dX0_presentRoots_44 : decode cX0_presentRoots 44 = .ok (.iconst 2, 1) := by decide +kernel
theorem dX0_presentRoots_45 : decode cX0_presentRoots 45 = .ok (.iadd, 1) := by decide +kernel
theorem dX0_presentRoots_46 : decode cX0_presentRoots 46 = .ok (.baload, 1) := by decide +kernel
theorem dX0_presentRoots_47 : decode cX0_presentRoots 47 = .ok (.invokevirtual 103, 3) := by decide +kernel
theorem dX0_presentRoots_50 : decode cX0_presentRoots 50 = .ok (.ior, 1) := by decide +kernel
theorem dX0_presentRoots_51 : decode cX0_presentRoots 51 = .ok (.ireturn, 1) := by decide +kernel
theorem dX0_bitOf_0 : decode cX0_bitOf 0 = .ok (.iload_n 1, 1) := by decide +kernel
theorem dX0_bitOf_1 : decode cX0_bitOf 1 = .ok (.ifCond .ge 7, 3) := by decide +kernel
theorem dX0_bitOf_4 : decode cX0_bitOf 4 = .ok (.iconst 0, 1) := by decide +kernel
theorem dX0_bitOf_5 : decode cX0_bitOf 5 = .ok (.goto 6, 3) := by decide +kernel
theorem dX0_bitOf_8 : decode cX0_bitOf 8 = .ok (.iconst 1, 1) := by decide +kernel
theorem dX0_bitOf_9 : decode cX0_bitOf 9 = .ok (.iload_n 1, 1) := by decide +kernel
theorem dX0_bitOf_10 : decode cX0_bitOf 10 = .ok (.ishl, 1) := by decide +kernel
theorem dX0_bitOf_11 : decode cX0_bitOf 11 = .ok (.ireturn, 1) := by decide +kernel
theorem dX0_spread_0 : decode cX0_spread 0 = .ok (.iload_n 1, 1) := by decide +kernel
theorem dX0_spread_1 : decode cX0_spread 1 = .ok (.istore_n 3, 1) := by decide +kernel
theorem dX0_spread_2 : decode cX0_spread 2 = .ok (.iconst 0, 1) := by decide +kernel
theorem dX0_spread_3 : decode cX0_spread 3 = .ok (.istore 4, 2) := by decide +kernel
theorem dX0_spread_5 : decode cX0_spread 5 = .ok (.iload_n 3, 1) := by decide +kernel
theorem dX0_spread_6 : decode cX0_spread 6 = .ok (.iload 4, 2) := by decide +kernel
theorem dX0_spread_8 : decode cX0_spread 8 = .ok (.if_icmp .eq 93, 3) := by decide +kernel
theorem dX0_spread_11 : decode cX0_spread 11 = .ok (.iload_n 3, 1) := by decide +kernel
theorem dX0_spread_12 : decode cX0_spread 12 = .ok (.istore 4, 2) := by decide +kernel
theorem dX0_spread_14 : decode cX0_spread 14 = .ok (.iconst 0, 1) := by decide +kernel
theorem dX0_spread_15 : decode cX0_spread 15 = .ok (.istore 5, 2) := by decide +kernel
theorem dX0_spread_17 : decode cX0_spread 17 = .ok (.iload 5, 2) := by decide +kernel
theorem dX0_spread_19 : decode cX0_spread 19 = .ok (.aload_n 0, 1) := by decide +kernel
theorem dX0_spread_20 : decode cX0_spread 20 = .ok (.getfield 60, 3) := by decide +kernel
theorem dX0_spread_23 : decode cX0_spread 23 = .ok (.if_icmp .ge 63, 3) := by decide +kernel
theorem dX0_spread_26 : decode cX0_spread 26 = .ok (.iload_n 3, 1) := by decide +kernel
theorem dX0_spread_27 : decode cX0_spread 27 = .ok (.iload 5, 2) := by decide +kernel
theorem dX0_spread_29 : decode cX0_spread 29 = .ok (.iushr, 1) := by decide +kernel
theorem dX0_spread_30 : decode cX0_spread 30 = .ok (.iconst 1, 1) := by decide +kernel
theorem dX0_spread_31 : decode cX0_spread 31 = .ok (.iand, 1) := by decide +kernel
theorem dX0_spread_32 : decode cX0_spread 32 = .ok (.ifCond .ne 6, 3) := by decide +kernel
theorem dX0_spread_35 : decode cX0_spread 35 = .ok (.goto 45, 3) := by decide +kernel
theorem dX0_spread_38 : decode cX0_spread 38 = .ok (.iconst 2, 1) := by decide +kernel
theorem dX0_spread_39 : decode cX0_spread 39 = .ok (.bipush 32, 2) := by decide +kernel
theorem dX0_spread_41 : decode cX0_spread 41 = .ok (.aload_n 0, 1) := by decide +kernel
theorem dX0_spread_42 : decode cX0_spread 42 = .ok (.getfield 67, 3) := by decide +kernel
theorem dX0_spread_45 : decode cX0_spread 45 = .ok (.imul, 1) := by decide +kernel
theorem dX0_spread_46 : decode cX0_spread 46 = .ok (.iload 5, 2) := by decide +kernel
theorem dX0_spread_48 : decode cX0_spread 48 = .ok (.iadd, 1) := by decide +kernel
theorem dX0_spread_49 : decode cX0_spread 49 = .ok (.imul, 1) := by decide +kernel
theorem dX0_spread_50 : decode cX0_spread 50 = .ok (.istore 6, 2) := by decide +kernel
theorem dX0_spread_52 : decode cX0_spread 52 = .ok (.iload_n 3, 1) := by decide +kernel
theorem dX0_spread_53 : decode cX0_spread 53 = .ok (.aload_n 0, 1) := by decide +kernel
theorem dX0_spread_54 : decode cX0_spread 54 = .ok (.aload_n 0, 1) := by decide +kernel
theorem dX0_spread_55 : decode cX0_spread 55 = .ok (.getfield 7, 3) := by decide +kernel
theorem dX0_spread_58 : decode cX0_spread 58 = .ok (.iload 6, 2) := by decide +kernel
theorem dX0_spread_60 : decode cX0_spread 60 = .ok (.baload, 1) := by decide +kernel
theorem dX0_spread_61 : decode cX0_spread 61 = .ok (.invokevirtual 103, 3) := by decide +kernel
theorem dX0_spread_64 : decode cX0_spread 64 = .ok (.aload_n 0, 1) := by decide +kernel
theorem dX0_spread_65 : decode cX0_spread 65 = .ok (.aload_n 0, 1) := by decide +kernel
theorem dX0_spread_66 : decode cX0_spread 66 = .ok (.getfield 7, 3) := by decide +kernel
theorem dX0_spread_69 : decode cX0_spread 69 = .ok (.iload 6, 2) := by decide +kernel
theorem dX0_spread_71 : decode cX0_spread 71 = .ok (.iconst 1, 1) := by decide +kernel
theorem dX0_spread_72 : decode cX0_spread 72 = .ok (.iadd, 1) := by decide +kernel
theorem dX0_spread_73 : decode cX0_spread 73 = .ok (.baload, 1) := by decide +kernel
theorem dX0_spread_74 : decode cX0_spread 74 = .ok (.invokevirtual 103, 3) := by decide +kernel
theorem dX0_spread_77 : decode cX0_spread 77 = .ok (.ior, 1) := by decide +kernel
theorem dX0_spread_78 : decode cX0_spread 78 = .ok (.ior, 1) := by decide +kernel
theorem dX0_spread_79 : decode cX0_spread 79 = .ok (.istore_n 3, 1) := by decide +kernel
theorem dX0_spread_80 : decode cX0_spread 80 = .ok (.iinc 5 1, 3) := by decide +kernel
theorem dX0_spread_83 : decode cX0_spread 83 = .ok (.goto (-66), 3) := by decide +kernel
theorem dX0_spread_86 : decode cX0_spread 86 = .ok (.iload_n 2, 1) := by decide +kernel
theorem dX0_spread_87 : decode cX0_spread 87 = .ok (.ifCond .eq (-82), 3) := by decide +kernel
theorem dX0_spread_90 : decode cX0_spread 90 = .ok (.iload_n 3, 1) := by decide +kernel
theorem dX0_spread_91 : decode cX0_spread 91 = .ok (.aload_n 0, 1) := by decide +kernel
theorem dX0_spread_92 : decode cX0_spread 92 = .ok (.iload_n 3, 1) := by decide +kernel
theorem dX0_spread_93 : decode cX0_spread 93 = .ok (.invokevirtual 109, 3) := by decide +kernel
theorem dX0_spread_96 : decode cX0_spread 96 = .ok (.ior, 1) := by decide +kernel
theorem dX0_spread_97 : decode cX0_spread 97 = .ok (.istore_n 3, 1) := by decide +kernel
theorem dX0_spread_98 : decode cX0_spread 98 = .ok (.goto (-93), 3) := by decide +kernel
theorem dX0_spread_101 : decode cX0_spread 101 = .ok (.iload_n 3, 1) := by decide +kernel
theorem dX0_spread_102 : decode cX0_spread 102 = .ok (.ireturn, 1) := by decide +kernel
theorem dX0_oldFields_0 : decode cX0_oldFields 0 = .ok (.iconst 0, 1) := by decide +kernel
theorem dX0_oldFields_1 : decode cX0_oldFields 1 = .ok (.istore_n 2, 1) := by decide +kernel
theorem dX0_oldFields_2 : decode cX0_oldFields 2 = .ok (.bipush 99, 2) := by decide +kernel
theorem dX0_oldFields_4 : decode cX0_oldFields 4 = .ok (.aload_n 0, 1) := by decide +kernel
theorem dX0_oldFields_5 : decode cX0_oldFields 5 = .ok (.getfield 67, 3) := by decide +kernel
theorem dX0_oldFields_8 : decode cX0_oldFields 8 = .ok (.imul, 1) := by decide +kernel
theorem dX0_oldFields_9 : decode cX0_oldFields 9 = .ok (.istore_n 3, 1) := by decide +kernel
theorem dX0_oldFields_10 : decode cX0_oldFields 10 = .ok (.iload_n 3, 1) := by decide +kernel
theorem dX0_oldFields_11 : decode cX0_oldFields 11 = .ok (.bipush 99, 2) := by decide +kernel
theorem dX0_oldFields_13 : decode cX0_oldFields 13 = .ok (.aload_n 0, 1) := by decide +kernel
theorem dX0_oldFields_14 : decode cX0_oldFields 14 = .ok (.getfield 67, 3) := by decide +kernel
theorem dX0_oldFields_17 : decode cX0_oldFields 17 = .ok (.imul, 1) := by decide +kernel
theorem dX0_oldFields_18 : decode cX0_oldFields 18 = .ok (.aload_n 0, 1) := by decide +kernel
theorem dX0_oldFields_19 : decode cX0_oldFields 19 = .ok (.getfield 20, 3) := by decide +kernel
theorem dX0_oldFields_22 : decode cX0_oldFields 22 = .ok (.aload_n 0, 1) := by decide +kernel
theorem dX0_oldFields_23 : decode cX0_oldFields 23 = .ok (.getfield 67, 3) := by decide +kernel
theorem dX0_oldFields_26 : decode cX0_oldFields 26 = .ok (.baload, 1) := by decide +kernel
theorem dX0_oldFields_27 : decode cX0_oldFields 27 = .ok (.iadd, 1) := by decide +kernel
theorem dX0_oldFields_28 : decode cX0_oldFields 28 = .ok (.if_icmp .ge 56, 3) := by decide +kernel
theorem dX0_oldFields_31 : decode cX0_oldFields 31 = .ok (.aload_n 0, 1) := by decide +kernel
theorem dX0_oldFields_32 : decode cX0_oldFields 32 = .ok (.getfield 23, 3) := by decide +kernel
theorem dX0_oldFields_35 : decode cX0_oldFields 35 = .ok (.iload_n 3, 1) := by decide +kernel
theorem dX0_oldFields_36 : decode cX0_oldFields 36 = .ok (.baload, 1) := by decide +kernel
theorem dX0_oldFields_37 : decode cX0_oldFields 37 = .ok (.istore 4, 2) := by decide +kernel
theorem dX0_oldFields_39 : decode cX0_oldFields 39 = .ok (.iload 4, 2) := by decide +kernel
theorem dX0_oldFields_41 : decode cX0_oldFields 41 = .ok (.bipush 96, 2) := by decide +kernel
theorem dX0_oldFields_43 : decode cX0_oldFields 43 = .ok (.if_icmp .ge 35, 3) := by decide +kernel
theorem dX0_oldFields_46 : decode cX0_oldFields 46 = .ok (.iload 4, 2) := by decide +kernel
theorem dX0_oldFields_48 : decode cX0_oldFields 48 = .ok (.iconst 3, 1) := by decide +kernel
theorem dX0_oldFields_49 : decode cX0_oldFields 49 = .ok (.irem, 1) := by decide +kernel
theorem dX0_oldFields_50 : decode cX0_oldFields 50 = .ok (.iconst 2, 1) := by decide +kernel
theorem dX0_oldFields_51 : decode cX0_oldFields 51 = .ok (.if_icmp .eq 27, 3) := by decide +kernel
theorem dX0_oldFields_54 : decode cX0_oldFields 54 = .ok (.iload_n 1, 1) := by decide +kernel
theorem dX0_oldFields_55 : decode cX0_oldFields 55 = .ok (.iload 4, 2) := by decide +kernel
theorem dX0_oldFields_57 : decode cX0_oldFields 57 = .ok (.iconst 3, 1) := by decide +kernel
theorem dX0_oldFields_58 : decode cX0_oldFields 58 = .ok (.idiv, 1) := by decide +kernel
theorem dX0_oldFields_59 : decode cX0_oldFields 59 = .ok (.iushr, 1) := by decide +kernel
theorem dX0_oldFields_60 : decode cX0_oldFields 60 = .ok (.iconst 1, 1) := by decide +kernel
theorem dX0_oldFields_61 : decode cX0_oldFields 61 = .ok (.iand, 1) := by decide +kernel
theorem dX0_oldFields_62 : decode cX0_oldFields 62 = .ok (.ifCond .eq 16, 3) := by decide +kernel
theorem dX0_oldFields_65 : decode cX0_oldFields 65 = .ok (.iload_n 2, 1) := by decide +kernel
theorem dX0_oldFields_66 : decode cX0_oldFields 66 = .ok (.aload_n 0, 1) := by decide +kernel
theorem dX0_oldFields_67 : decode cX0_oldFields 67 = .ok (.aload_n 0, 1) := by decide +kernel
theorem dX0_oldFields_68 : decode cX0_oldFields 68 = .ok (.getfield 26, 3) := by decide +kernel
theorem dX0_oldFields_71 : decode cX0_oldFields 71 = .ok (.iload_n 3, 1) := by decide +kernel
theorem dX0_oldFields_72 : decode cX0_oldFields 72 = .ok (.iaload, 1) := by decide +kernel
theorem dX0_oldFields_73 : decode cX0_oldFields 73 = .ok (.invokevirtual 103, 3) := by decide +kernel
theorem dX0_oldFields_76 : decode cX0_oldFields 76 = .ok (.ior, 1) := by decide +kernel
theorem dX0_oldFields_77 : decode cX0_oldFields 77 = .ok (.istore_n 2, 1) := by decide +kernel
theorem dX0_oldFields_78 : decode cX0_oldFields 78 = .ok (.iinc 3 1, 3) := by decide +kernel
theorem dX0_oldFields_81 : decode cX0_oldFields 81 = .ok (.goto (-71), 3) := by decide +kernel
theorem dX0_oldFields_84 : decode cX0_oldFields 84 = .ok (.iload_n 2, 1) := by decide +kernel
theorem dX0_oldFields_85 : decode cX0_oldFields 85 = .ok (.ireturn, 1) := by decide +kernel
theorem dX0_countOf_0 : decode cX0_countOf 0 = .ok (.iconst 0, 1) := by decide +kernel
theorem dX0_countOf_1 : decode cX0_countOf 1 = .ok (.istore_n 2, 1) := by decide +kernel
theorem dX0_countOf_2 : decode cX0_countOf 2 = .ok (.iconst 0, 1) := by decide +kernel
theorem dX0_countOf_3 : decode cX0_countOf 3 = .ok (.istore_n 3, 1) := by decide +kernel
theorem dX0_countOf_4 : decode cX0_countOf 4 = .ok (.iload_n 3, 1) := by decide +kernel
theorem dX0_countOf_5 : decode cX0_countOf 5 = .ok (.bipush 32, 2) := by decide +kernel
theorem dX0_countOf_7 : decode cX0_countOf 7 = .ok (.if_icmp .ge 17, 3) := by decide +kernel
theorem dX0_countOf_10 : decode cX0_countOf 10 = .ok (.iload_n 2, 1) := by decide +kernel
theorem dX0_countOf_11 : decode cX0_countOf 11 = .ok (.iload_n 1, 1) := by decide +kernel
theorem dX0_countOf_12 : decode cX0_countOf 12 = .ok (.iload_n 3, 1) := by decide +kernel
theorem dX0_countOf_13 : decode cX0_countOf 13 = .ok (.iushr, 1) := by decide +kernel
theorem dX0_countOf_14 : decode cX0_countOf 14 = .ok (.iconst 1, 1) := by decide +kernel
theorem dX0_countOf_15 : decode cX0_countOf 15 = .ok (.iand, 1) := by decide +kernel
theorem dX0_countOf_16 : decode cX0_countOf 16 = .ok (.iadd, 1) := by decide +kernel
theorem dX0_countOf_17 : decode cX0_countOf 17 = .ok (.istore_n 2, 1) := by decide +kernel
theorem dX0_countOf_18 : decode cX0_countOf 18 = .ok (.iinc 3 1, 3) := by decide +kernel
theorem dX0_countOf_21 : decode cX0_countOf 21 = .ok (.goto (-17), 3) := by decide +kernel
theorem dX0_countOf_24 : decode cX0_countOf 24 = .ok (.iload_n 2, 1) := by decide +kernel
theorem dX0_countOf_25 : decode cX0_countOf 25 = .ok (.ireturn, 1) := by decide +kernel
theorem dX0_collect_0 : decode cX0_collect 0 = .ok (.aload_n 0, 1) := by decide +kernel
end
section
set_option maxRecDepth 100000
theorem dX0_collect_1 : decode cX0_collect 1 = .ok (.bipush 32, 2) := by decide +kernel
theorem dX0_collect_3 : decode cX0_collect 3 = .ok (.invokevirtual 89, 3) := by decide +kernel
theorem dX0_collect_6 : decode cX0_collect 6 = .ok (.aload_n 0, 1) := by decide +kernel
theorem dX0_collect_7 : decode cX0_collect 7 = .ok (.invokevirtual 93, 3) := by decide +kernel
theorem dX0_collect_10 : decode cX0_collect 10 = .ok (.aload_n 0, 1) := by decide +kernel
theorem dX0_collect_11 : decode cX0_collect 11 = .ok (.getfield 96, 3) := by decide +kernel
theorem dX0_collect_14 : decode cX0_collect 14 = .ok (.ireturn, 1) := by decide +kernel
theorem dX0_move_0 : decode cX0_move 0 = .ok (.aload_n 0, 1) := by decide +kernel
theorem dX0_move_1 : decode cX0_move 1 = .ok (.iconst 0, 1) := by decide +kernel
theorem dX0_move_2 : decode cX0_move 2 = .ok (.putfield 96, 3) := by decide +kernel
theorem dX0_move_5 : decode cX0_move 5 = .ok (.aload_n 0, 1) := by decide +kernel
theorem dX0_move_6 : decode cX0_move 6 = .ok (.iload_n 1, 1) := by decide +kernel
theorem dX0_move_7 : decode cX0_move 7 = .ok (.putfield 112, 3) := by decide +kernel
theorem dX0_move_10 : decode cX0_move 10 = .ok (.iconst 0, 1) := by decide +kernel
theorem dX0_move_11 : decode cX0_move 11 = .ok (.istore_n 2, 1) := by decide +kernel
theorem dX0_move_12 : decode cX0_move 12 = .ok (.iload_n 2, 1) := by decide +kernel
theorem dX0_move_13 : decode cX0_move 13 = .ok (.bipush 32, 2) := by decide +kernel
theorem dX0_move_15 : decode cX0_move 15 = .ok (.if_icmp .ge 16, 3) := by decide +kernel
theorem dX0_move_18 : decode cX0_move 18 = .ok (.aload_n 0, 1) := by decide +kernel
theorem dX0_move_19 : decode cX0_move 19 = .ok (.getfield 39, 3) := by decide +kernel
theorem dX0_move_22 : decode cX0_move 22 = .ok (.iload_n 2, 1) := by decide +kernel
theorem dX0_move_23 : decode cX0_move 23 = .ok (.iconst (-1), 1) := by decide +kernel
theorem dX0_move_24 : decode cX0_move 24 = .ok (.bastore, 1) := by decide +kernel
theorem dX0_move_25 : decode cX0_move 25 = .ok (.iinc 2 1, 3) := by decide +kernel
theorem dX0_move_28 : decode cX0_move 28 = .ok (.goto (-16), 3) := by decide +kernel
theorem dX0_move_31 : decode cX0_move 31 = .ok (.iconst 1, 1) := by decide +kernel
theorem dX0_move_32 : decode cX0_move 32 = .ok (.aload_n 0, 1) := by decide +kernel
theorem dX0_move_33 : decode cX0_move 33 = .ok (.getfield 67, 3) := by decide +kernel
theorem dX0_move_36 : decode cX0_move 36 = .ok (.isub, 1) := by decide +kernel
theorem dX0_move_37 : decode cX0_move 37 = .ok (.istore_n 2, 1) := by decide +kernel
theorem dX0_move_38 : decode cX0_move 38 = .ok (.iconst 0, 1) := by decide +kernel
theorem dX0_move_39 : decode cX0_move 39 = .ok (.istore_n 3, 1) := by decide +kernel
theorem dX0_move_40 : decode cX0_move 40 = .ok (.iload_n 3, 1) := by decide +kernel
theorem dX0_move_41 : decode cX0_move 41 = .ok (.iconst 3, 1) := by decide +kernel
theorem dX0_move_42 : decode cX0_move 42 = .ok (.if_icmp .ge 37, 3) := by decide +kernel
theorem dX0_move_45 : decode cX0_move 45 = .ok (.aload_n 0, 1) := by decide +kernel
theorem dX0_move_46 : decode cX0_move 46 = .ok (.getfield 17, 3) := by decide +kernel
theorem dX0_move_49 : decode cX0_move 49 = .ok (.iconst 3, 1) := by decide +kernel
theorem dX0_move_50 : decode cX0_move 50 = .ok (.iload_n 2, 1) := by decide +kernel
theorem dX0_move_51 : decode cX0_move 51 = .ok (.imul, 1) := by decide +kernel
theorem dX0_move_52 : decode cX0_move 52 = .ok (.iload_n 3, 1) := by decide +kernel
theorem dX0_move_53 : decode cX0_move 53 = .ok (.iadd, 1) := by decide +kernel
theorem dX0_move_54 : decode cX0_move 54 = .ok (.aload_n 0, 1) := by decide +kernel
theorem dX0_move_55 : decode cX0_move 55 = .ok (.aload_n 0, 1) := by decide +kernel
theorem dX0_move_56 : decode cX0_move 56 = .ok (.getfield 17, 3) := by decide +kernel
theorem dX0_move_59 : decode cX0_move 59 = .ok (.iconst 3, 1) := by decide +kernel
theorem dX0_move_60 : decode cX0_move 60 = .ok (.aload_n 0, 1) := by decide +kernel
theorem dX0_move_61 : decode cX0_move 61 = .ok (.getfield 67, 3) := by decide +kernel
theorem dX0_move_64 : decode cX0_move 64 = .ok (.imul, 1) := by decide +kernel
theorem dX0_move_65 : decode cX0_move 65 = .ok (.iload_n 3, 1) := by decide +kernel
theorem dX0_move_66 : decode cX0_move 66 = .ok (.iadd, 1) := by decide +kernel
theorem dX0_move_67 : decode cX0_move 67 = .ok (.baload, 1) := by decide +kernel
theorem dX0_move_68 : decode cX0_move 68 = .ok (.invokevirtual 115, 3) := by decide +kernel
theorem dX0_move_71 : decode cX0_move 71 = .ok (.i2b, 1) := by decide +kernel
theorem dX0_move_72 : decode cX0_move 72 = .ok (.bastore, 1) := by decide +kernel
theorem dX0_move_73 : decode cX0_move 73 = .ok (.iinc 3 1, 3) := by decide +kernel
theorem dX0_move_76 : decode cX0_move 76 = .ok (.goto (-36), 3) := by decide +kernel
theorem dX0_move_79 : decode cX0_move 79 = .ok (.iconst 0, 1) := by decide +kernel
theorem dX0_move_80 : decode cX0_move 80 = .ok (.istore_n 3, 1) := by decide +kernel
theorem dX0_move_81 : decode cX0_move 81 = .ok (.iload_n 3, 1) := by decide +kernel
theorem dX0_move_82 : decode cX0_move 82 = .ok (.iconst 4, 1) := by decide +kernel
theorem dX0_move_83 : decode cX0_move 83 = .ok (.if_icmp .ge 20, 3) := by decide +kernel
theorem dX0_move_86 : decode cX0_move 86 = .ok (.aload_n 0, 1) := by decide +kernel
theorem dX0_move_87 : decode cX0_move 87 = .ok (.aload_n 0, 1) := by decide +kernel
theorem dX0_move_88 : decode cX0_move 88 = .ok (.getfield 29, 3) := by decide +kernel
theorem dX0_move_91 : decode cX0_move 91 = .ok (.iload_n 3, 1) := by decide +kernel
theorem dX0_move_92 : decode cX0_move 92 = .ok (.baload, 1) := by decide +kernel
theorem dX0_move_93 : decode cX0_move 93 = .ok (.invokevirtual 115, 3) := by decide +kernel
theorem dX0_move_96 : decode cX0_move 96 = .ok (.pop, 1) := by decide +kernel
theorem dX0_move_97 : decode cX0_move 97 = .ok (.iinc 3 1, 3) := by decide +kernel
theorem dX0_move_100 : decode cX0_move 100 = .ok (.goto (-19), 3) := by decide +kernel
theorem dX0_move_103 : decode cX0_move 103 = .ok (.bipush 99, 2) := by decide +kernel
theorem dX0_move_105 : decode cX0_move 105 = .ok (.aload_n 0, 1) := by decide +kernel
theorem dX0_move_106 : decode cX0_move 106 = .ok (.getfield 67, 3) := by decide +kernel
theorem dX0_move_109 : decode cX0_move 109 = .ok (.imul, 1) := by decide +kernel
theorem dX0_move_110 : decode cX0_move 110 = .ok (.istore_n 3, 1) := by decide +kernel
theorem dX0_move_111 : decode cX0_move 111 = .ok (.iload_n 3, 1) := by decide +kernel
theorem dX0_move_112 : decode cX0_move 112 = .ok (.bipush 99, 2) := by decide +kernel
theorem dX0_move_114 : decode cX0_move 114 = .ok (.aload_n 0, 1) := by decide +kernel
theorem dX0_move_115 : decode cX0_move 115 = .ok (.getfield 67, 3) := by decide +kernel
theorem dX0_move_118 : decode cX0_move 118 = .ok (.imul, 1) := by decide +kernel
theorem dX0_move_119 : decode cX0_move 119 = .ok (.aload_n 0, 1) := by decide +kernel
theorem dX0_move_120 : decode cX0_move 120 = .ok (.getfield 20, 3) := by decide +kernel
theorem dX0_move_123 : decode cX0_move 123 = .ok (.aload_n 0, 1) := by decide +kernel
theorem dX0_move_124 : decode cX0_move 124 = .ok (.getfield 67, 3) := by decide +kernel
theorem dX0_move_127 : decode cX0_move 127 = .ok (.baload, 1) := by decide +kernel
theorem dX0_move_128 : decode cX0_move 128 = .ok (.iadd, 1) := by decide +kernel
theorem dX0_move_129 : decode cX0_move 129 = .ok (.if_icmp .ge 31, 3) := by decide +kernel
theorem dX0_move_132 : decode cX0_move 132 = .ok (.aload_n 0, 1) := by decide +kernel
theorem dX0_move_133 : decode cX0_move 133 = .ok (.getfield 23, 3) := by decide +kernel
theorem dX0_move_136 : decode cX0_move 136 = .ok (.iload_n 3, 1) := by decide +kernel
theorem dX0_move_137 : decode cX0_move 137 = .ok (.baload, 1) := by decide +kernel
theorem dX0_move_138 : decode cX0_move 138 = .ok (.bipush 96, 2) := by decide +kernel
theorem dX0_move_140 : decode cX0_move 140 = .ok (.if_icmp .lt 14, 3) := by decide +kernel
theorem dX0_move_143 : decode cX0_move 143 = .ok (.aload_n 0, 1) := by decide +kernel
theorem dX0_move_144 : decode cX0_move 144 = .ok (.aload_n 0, 1) := by decide +kernel
theorem dX0_move_145 : decode cX0_move 145 = .ok (.getfield 26, 3) := by decide +kernel
theorem dX0_move_148 : decode cX0_move 148 = .ok (.iload_n 3, 1) := by decide +kernel
theorem dX0_move_149 : decode cX0_move 149 = .ok (.iaload, 1) := by decide +kernel
theorem dX0_move_150 : decode cX0_move 150 = .ok (.invokevirtual 115, 3) := by decide +kernel
theorem dX0_move_153 : decode cX0_move 153 = .ok (.pop, 1) := by decide +kernel
theorem dX0_move_154 : decode cX0_move 154 = .ok (.iinc 3 1, 3) := by decide +kernel
theorem dX0_move_157 : decode cX0_move 157 = .ok (.goto (-46), 3) := by decide +kernel
theorem dX0_move_160 : decode cX0_move 160 = .ok (.iconst 0, 1) := by decide +kernel
theorem dX0_move_161 : decode cX0_move 161 = .ok (.istore_n 3, 1) := by decide +kernel
theorem dX0_move_162 : decode cX0_move 162 = .ok (.iload_n 3, 1) := by decide +kernel
theorem dX0_move_163 : decode cX0_move 163 = .ok (.aload_n 0, 1) := by decide +kernel
theorem dX0_move_164 : decode cX0_move 164 = .ok (.getfield 96, 3) := by decide +kernel
theorem dX0_move_167 : decode cX0_move 167 = .ok (.if_icmp .ge 71, 3) := by decide +kernel
theorem dX0_move_170 : decode cX0_move 170 = .ok (.iconst 2, 1) := by decide +kernel
theorem dX0_move_171 : decode cX0_move 171 = .ok (.bipush 32, 2) := by decide +kernel
theorem dX0_move_173 : decode cX0_move 173 = .ok (.iload_n 2, 1) := by decide +kernel
theorem dX0_move_174 : decode cX0_move 174 = .ok (.imul, 1) := by decide +kernel
theorem dX0_move_175 : decode cX0_move 175 = .ok (.iload_n 3, 1) := by decide +kernel
theorem dX0_move_176 : decode cX0_move 176 = .ok (.iadd, 1) := by decide +kernel
theorem dX0_move_177 : decode cX0_move 177 = .ok (.imul, 1) := by decide +kernel
theorem dX0_move_178 : decode cX0_move 178 = .ok (.istore 4, 2) := by decide +kernel
theorem dX0_move_180 : decode cX0_move 180 = .ok (.aload_n 0, 1) := by decide +kernel
theorem dX0_move_181 : decode cX0_move 181 = .ok (.getfield 7, 3) := by decide +kernel
theorem dX0_move_184 : decode cX0_move 184 = .ok (.iload 4, 2) := by decide +kernel
theorem dX0_move_186 : decode cX0_move 186 = .ok (.aload_n 0, 1) := by decide +kernel
theorem dX0_move_187 : decode cX0_move 187 = .ok (.aload_n 0, 1) := by decide +kernel
theorem dX0_move_188 : decode cX0_move 188 = .ok (.getfield 7, 3) := by decide +kernel
theorem dX0_move_191 : decode cX0_move 191 = .ok (.iload 4, 2) := by decide +kernel
theorem dX0_move_193 : decode cX0_move 193 = .ok (.baload, 1) := by decide +kernel
theorem dX0_move_194 : decode cX0_move 194 = .ok (.invokevirtual 115, 3) := by decide +kernel
theorem dX0_move_197 : decode cX0_move 197 = .ok (.i2b, 1) := by decide +kernel
theorem dX0_move_198 : decode cX0_move 198 = .ok (.bastore, 1) := by decide +kernel
theorem dX0_move_199 : decode cX0_move 199 = .ok (.aload_n 0, 1) := by decide +kernel
theorem dX0_move_200 : decode cX0_move 200 = .ok (.getfield 7, 3) := by decide +kernel
theorem dX0_move_203 : decode cX0_move 203 = .ok (.iload 4, 2) := by decide +kernel
theorem dX0_move_205 : decode cX0_move 205 = .ok (.iconst 1, 1) := by decide +kernel
theorem dX0_move_206 : decode cX0_move 206 = .ok (.iadd, 1) := by decide +kernel
theorem dX0_move_207 : decode cX0_move 207 = .ok (.aload_n 0, 1) := by decide +kernel
theorem dX0_move_208 : decode cX0_move 208 = .ok (.aload_n 0, 1) := by decide +kernel
theorem dX0_move_209 : decode cX0_move 209 = .ok (.getfield 7, 3) := by decide +kernel
theorem dX0_move_212 : decode cX0_move 212 = .ok (.iload 4, 2) := by decide +kernel
theorem dX0_move_214 : decode cX0_move 214 = .ok (.iconst 1, 1) := by decide +kernel
theorem dX0_move_215 : decode cX0_move 215 = .ok (.iadd, 1) := by decide +kernel
theorem dX0_move_216 : decode cX0_move 216 = .ok (.baload, 1) := by decide +kernel
theorem dX0_move_217 : decode cX0_move 217 = .ok (.invokevirtual 115, 3) := by decide +kernel
theorem dX0_move_220 : decode cX0_move 220 = .ok (.i2b, 1) := by decide +kernel
theorem dX0_move_221 : decode cX0_move 221 = .ok (.bastore, 1) := by decide +kernel
theorem dX0_move_222 : decode cX0_move 222 = .ok (.aload_n 0, 1) := by decide +kernel
theorem dX0_move_223 : decode cX0_move 223 = .ok (.aload_n 0, 1) := by decide +kernel
theorem dX0_move_224 : decode cX0_move 224 = .ok (.getfield 42, 3) := by decide +kernel
theorem dX0_move_227 : decode cX0_move 227 = .ok (.iload_n 3, 1) := by decide +kernel
theorem dX0_move_228 : decode cX0_move 228 = .ok (.baload, 1) := by decide +kernel
theorem dX0_move_229 : decode cX0_move 229 = .ok (.invokevirtual 118, 3) := by decide +kernel
theorem dX0_move_232 : decode cX0_move 232 = .ok (.iinc 3 1, 3) := by decide +kernel
theorem dX0_move_235 : decode cX0_move 235 = .ok (.goto (-73), 3) := by decide +kernel
theorem dX0_move_238 : decode cX0_move 238 = .ok (.aload_n 0, 1) := by decide +kernel
theorem dX0_move_239 : decode cX0_move 239 = .ok (.iload_n 2, 1) := by decide +kernel
theorem dX0_move_240 : decode cX0_move 240 = .ok (.invokevirtual 121, 3) := by decide +kernel
theorem dX0_move_243 : decode cX0_move 243 = .ok (.return_, 1) := by decide +kernel
theorem dX0_moved_0 : decode cX0_moved 0 = .ok (.iload_n 1, 1) := by decide +kernel
theorem dX0_moved_1 : decode cX0_moved 1 = .ok (.ifCond .ge 5, 3) := by decide +kernel
theorem dX0_moved_4 : decode cX0_moved 4 = .ok (.iconst (-1), 1) := by decide +kernel
theorem dX0_moved_5 : decode cX0_moved 5 = .ok (.ireturn, 1) := by decide +kernel
theorem dX0_moved_6 : decode cX0_moved 6 = .ok (.aload_n 0, 1) := by decide +kernel
theorem dX0_moved_7 : decode cX0_moved 7 = .ok (.getfield 39, 3) := by decide +kernel
theorem dX0_moved_10 : decode cX0_moved 10 = .ok (.iload_n 1, 1) := by decide +kernel
theorem dX0_moved_11 : decode cX0_moved 11 = .ok (.baload, 1) := by decide +kernel
theorem dX0_moved_12 : decode cX0_moved 12 = .ok (.ifCond .ge 14, 3) := by decide +kernel
theorem dX0_moved_15 : decode cX0_moved 15 = .ok (.aload_n 0, 1) := by decide +kernel
theorem dX0_moved_16 : decode cX0_moved 16 = .ok (.getfield 96, 3) := by decide +kernel
theorem dX0_moved_19 : decode cX0_moved 19 = .ok (.aload_n 0, 1) := by decide +kernel
theorem dX0_moved_20 : decode cX0_moved 20 = .ok (.getfield 112, 3) := by decide +kernel
theorem dX0_moved_23 : decode cX0_moved 23 = .ok (.if_icmp .ne 10, 3) := by decide +kernel
theorem dX0_moved_26 : decode cX0_moved 26 = .ok (.aload_n 0, 1) := by decide +kernel
theorem dX0_moved_27 : decode cX0_moved 27 = .ok (.getfield 39, 3) := by decide +kernel
theorem dX0_moved_30 : decode cX0_moved 30 = .ok (.iload_n 1, 1) := by decide +kernel
theorem dX0_moved_31 : decode cX0_moved 31 = .ok (.baload, 1) := by decide +kernel
theorem dX0_moved_32 : decode cX0_moved 32 = .ok (.ireturn, 1) := by decide +kernel
theorem dX0_moved_33 : decode cX0_moved 33 = .ok (.bipush 32, 2) := by decide +kernel
theorem dX0_moved_35 : decode cX0_moved 35 = .ok (.aload_n 0, 1) := by decide +kernel
theorem dX0_moved_36 : decode cX0_moved 36 = .ok (.getfield 67, 3) := by decide +kernel
theorem dX0_moved_39 : decode cX0_moved 39 = .ok (.imul, 1) := by decide +kernel
theorem dX0_moved_40 : decode cX0_moved 40 = .ok (.iload_n 1, 1) := by decide +kernel
theorem dX0_moved_41 : decode cX0_moved 41 = .ok (.iadd, 1) := by decide +kernel
theorem dX0_moved_42 : decode cX0_moved 42 = .ok (.istore_n 2, 1) := by decide +kernel
theorem dX0_moved_43 : decode cX0_moved 43 = .ok (.bipush 32, 2) := by decide +kernel
theorem dX0_moved_45 : decode cX0_moved 45 = .ok (.iconst 1, 1) := by decide +kernel
theorem dX0_moved_46 : decode cX0_moved 46 = .ok (.aload_n 0, 1) := by decide +kernel
theorem dX0_moved_47 : decode cX0_moved 47 = .ok (.getfield 67, 3) := by decide +kernel
theorem dX0_moved_50 : decode cX0_moved 50 = .ok (.isub, 1) := by decide +kernel
theorem dX0_moved_51 : decode cX0_moved 51 = .ok (.imul, 1) := by decide +kernel
theorem dX0_moved_52 : decode cX0_moved 52 = .ok (.aload_n 0, 1) := by decide +kernel
theorem dX0_moved_53 : decode cX0_moved 53 = .ok (.getfield 96, 3) := by decide +kernel
theorem dX0_moved_56 : decode cX0_moved 56 = .ok (.iadd, 1) := by decide +kernel
theorem dX0_moved_57 : decode cX0_moved 57 = .ok (.istore_n 3, 1) := by decide +kernel
theorem dX0_moved_58 : decode cX0_moved 58 = .ok (.aload_n 0, 1) := by decide +kernel
theorem dX0_moved_59 : decode cX0_moved 59 = .ok (.getfield 13, 3) := by decide +kernel
theorem dX0_moved_62 : decode cX0_moved 62 = .ok (.iload_n 3, 1) := by decide +kernel
theorem dX0_moved_63 : decode cX0_moved 63 = .ok (.aload_n 0, 1) := by decide +kernel
theorem dX0_moved_64 : decode cX0_moved 64 = .ok (.getfield 13, 3) := by decide +kernel
theorem dX0_moved_67 : decode cX0_moved 67 = .ok (.iload_n 2, 1) := by decide +kernel
theorem dX0_moved_68 : decode cX0_moved 68 = .ok (.iaload, 1) := by decide +kernel
theorem dX0_moved_69 : decode cX0_moved 69 = .ok (.iastore, 1) := by decide +kernel
theorem dX0_moved_70 : decode cX0_moved 70 = .ok (.aload_n 0, 1) := by decide +kernel
theorem dX0_moved_71 : decode cX0_moved 71 = .ok (.getfield 7, 3) := by decide +kernel
theorem dX0_moved_74 : decode cX0_moved 74 = .ok (.iconst 2, 1) := by decide +kernel
theorem dX0_moved_75 : decode cX0_moved 75 = .ok (.iload_n 3, 1) := by decide +kernel
theorem dX0_moved_76 : decode cX0_moved 76 = .ok (.imul, 1) := by decide +kernel
theorem dX0_moved_77 : decode cX0_moved 77 = .ok (.aload_n 0, 1) := by decide +kernel
theorem dX0_moved_78 : decode cX0_moved 78 = .ok (.getfield 7, 3) := by decide +kernel
theorem dX0_moved_81 : decode cX0_moved 81 = .ok (.iconst 2, 1) := by decide +kernel
theorem dX0_moved_82 : decode cX0_moved 82 = .ok (.iload_n 2, 1) := by decide +kernel
theorem dX0_moved_83 : decode cX0_moved 83 = .ok (.imul, 1) := by decide +kernel
theorem dX0_moved_84 : decode cX0_moved 84 = .ok (.baload, 1) := by decide +kernel
theorem dX0_moved_85 : decode cX0_moved 85 = .ok (.bastore, 1) := by decide +kernel
theorem dX0_moved_86 : decode cX0_moved 86 = .ok (.aload_n 0, 1) := by decide +kernel
theorem dX0_moved_87 : decode cX0_moved 87 = .ok (.getfield 7, 3) := by decide +kernel
theorem dX0_moved_90 : decode cX0_moved 90 = .ok (.iconst 2, 1) := by decide +kernel
theorem dX0_moved_91 : decode cX0_moved 91 = .ok (.iload_n 3, 1) := by decide +kernel
theorem dX0_moved_92 : decode cX0_moved 92 = .ok (.imul, 1) := by decide +kernel
theorem dX0_moved_93 : decode cX0_moved 93 = .ok (.iconst 1, 1) := by decide +kernel
theorem dX0_moved_94 : decode cX0_moved 94 = .ok (.iadd, 1) := by decide +kernel
theorem dX0_moved_95 : decode cX0_moved 95 = .ok (.aload_n 0, 1) := by decide +kernel
theorem dX0_moved_96 : decode cX0_moved 96 = .ok (.getfield 7, 3) := by decide +kernel
theorem dX0_moved_99 : decode cX0_moved 99 = .ok (.iconst 2, 1) := by decide +kernel
theorem dX0_moved_100 : decode cX0_moved 100 = .ok (.iload_n 2, 1) := by decide +kernel
theorem dX0_moved_101 : decode cX0_moved 101 = .ok (.imul, 1) := by decide +kernel
theorem dX0_moved_102 : decode cX0_moved 102 = .ok (.iconst 1, 1) := by decide +kernel
theorem dX0_moved_103 : decode cX0_moved 103 = .ok (.iadd, 1) := by decide +kernel
theorem dX0_moved_104 : decode cX0_moved 104 = .ok (.baload, 1) := by decide +kernel
theorem dX0_moved_105 : decode cX0_moved 105 = .ok (.bastore, 1) := by decide +kernel
theorem dX0_moved_106 : decode cX0_moved 106 = .ok (.aload_n 0, 1) := by decide +kernel
theorem dX0_moved_107 : decode cX0_moved 107 = .ok (.getfield 39, 3) := by decide +kernel
theorem dX0_moved_110 : decode cX0_moved 110 = .ok (.iload_n 1, 1) := by decide +kernel
theorem dX0_moved_111 : decode cX0_moved 111 = .ok (.aload_n 0, 1) := by decide +kernel
theorem dX0_moved_112 : decode cX0_moved 112 = .ok (.getfield 96, 3) := by decide +kernel
theorem dX0_moved_115 : decode cX0_moved 115 = .ok (.i2b, 1) := by decide +kernel
theorem dX0_moved_116 : decode cX0_moved 116 = .ok (.bastore, 1) := by decide +kernel
theorem dX0_moved_117 : decode cX0_moved 117 = .ok (.aload_n 0, 1) := by decide +kernel
theorem dX0_moved_118 : decode cX0_moved 118 = .ok (.getfield 42, 3) := by decide +kernel
theorem dX0_moved_121 : decode cX0_moved 121 = .ok (.aload_n 0, 1) := by decide +kernel
theorem dX0_moved_122 : decode cX0_moved 122 = .ok (.getfield 96, 3) := by decide +kernel
theorem dX0_moved_125 : decode cX0_moved 125 = .ok (.iload_n 1, 1) := by decide +kernel
theorem dX0_moved_126 : decode cX0_moved 126 = .ok (.i2b, 1) := by decide +kernel
theorem dX0_moved_127 : decode cX0_moved 127 = .ok (.bastore, 1) := by decide +kernel
theorem dX0_moved_128 : decode cX0_moved 128 = .ok (.aload_n 0, 1) := by decide +kernel
theorem dX0_moved_129 : decode cX0_moved 129 = .ok (.dup, 1) := by decide +kernel
theorem dX0_moved_130 : decode cX0_moved 130 = .ok (.getfield 96, 3) := by decide +kernel
theorem dX0_moved_133 : decode cX0_moved 133 = .ok (.iconst 1, 1) := by decide +kernel
theorem dX0_moved_134 : decode cX0_moved 134 = .ok (.iadd, 1) := by decide +kernel
theorem dX0_moved_135 : decode cX0_moved 135 = .ok (.putfield 96, 3) := by decide +kernel
theorem dX0_moved_138 : decode cX0_moved 138 = .ok (.aload_n 0, 1) := by decide +kernel
theorem dX0_moved_139 : decode cX0_moved 139 = .ok (.getfield 39, 3) := by decide +kernel
theorem dX0_moved_142 : decode cX0_moved 142 = .ok (.iload_n 1, 1) := by decide +kernel
theorem dX0_moved_143 : decode cX0_moved 143 = .ok (.baload, 1) := by decide +kernel
theorem dX0_moved_144 : decode cX0_moved 144 = .ok (.ireturn, 1) := by decide +kernel
theorem dX0_moveOldFields_0 : decode cX0_moveOldFields 0 = .ok (.bipush 99, 2) := by decide +kernel
theorem dX0_moveOldFields_2 : decode cX0_moveOldFields 2 = .ok (.aload_n 0, 1) := by decide +kernel
theorem dX0_moveOldFields_3 : decode cX0_moveOldFields 3 = .ok (.getfield 67, 3) := by decide +kernel
theorem dX0_moveOldFields_6 : decode cX0_moveOldFields 6 = .ok (.imul, 1) := by decide +kernel
theorem dX0_moveOldFields_7 : decode cX0_moveOldFields 7 = .ok (.istore_n 2, 1) := by decide +kernel
theorem dX0_moveOldFields_8 : decode cX0_moveOldFields 8 = .ok (.iload_n 2, 1) := by decide +kernel
theorem dX0_moveOldFields_9 : decode cX0_moveOldFields 9 = .ok (.bipush 99, 2) := by decide +kernel
theorem dX0_moveOldFields_11 : decode cX0_moveOldFields 11 = .ok (.aload_n 0, 1) := by decide +kernel
theorem dX0_moveOldFields_12 : decode cX0_moveOldFields 12 = .ok (.getfield 67, 3) := by decide +kernel
theorem dX0_moveOldFields_15 : decode cX0_moveOldFields 15 = .ok (.imul, 1) := by decide +kernel
theorem dX0_moveOldFields_16 : decode cX0_moveOldFields 16 = .ok (.aload_n 0, 1) := by decide +kernel
theorem dX0_moveOldFields_17 : decode cX0_moveOldFields 17 = .ok (.getfield 20, 3) := by decide +kernel
theorem dX0_moveOldFields_20 : decode cX0_moveOldFields 20 = .ok (.aload_n 0, 1) := by decide +kernel
theorem dX0_moveOldFields_21 : decode cX0_moveOldFields 21 = .ok (.getfield 67, 3) := by decide +kernel
theorem dX0_moveOldFields_24 : decode cX0_moveOldFields 24 = .ok (.baload, 1) := by decide +kernel
theorem dX0_moveOldFields_25 : decode cX0_moveOldFields 25 = .ok (.iadd, 1) := by decide +kernel
theorem dX0_moveOldFields_26 : decode cX0_moveOldFields 26 = .ok (.if_icmp .ge 47, 3) := by decide +kernel
theorem dX0_moveOldFields_29 : decode cX0_moveOldFields 29 = .ok (.aload_n 0, 1) := by decide +kernel
theorem dX0_moveOldFields_30 : decode cX0_moveOldFields 30 = .ok (.getfield 23, 3) := by decide +kernel
theorem dX0_moveOldFields_33 : decode cX0_moveOldFields 33 = .ok (.iload_n 2, 1) := by decide +kernel
theorem dX0_moveOldFields_34 : decode cX0_moveOldFields 34 = .ok (.baload, 1) := by decide +kernel
theorem dX0_moveOldFields_35 : decode cX0_moveOldFields 35 = .ok (.istore_n 3, 1) := by decide +kernel
theorem dX0_moveOldFields_36 : decode cX0_moveOldFields 36 = .ok (.iload_n 3, 1) := by decide +kernel
theorem dX0_moveOldFields_37 : decode cX0_moveOldFields 37 = .ok (.iconst 3, 1) := by decide +kernel
theorem dX0_moveOldFields_38 : decode cX0_moveOldFields 38 = .ok (.idiv, 1) := by decide +kernel
theorem dX0_moveOldFields_39 : decode cX0_moveOldFields 39 = .ok (.iload_n 1, 1) := by decide +kernel
theorem dX0_moveOldFields_40 : decode cX0_moveOldFields 40 = .ok (.if_icmp .ne 27, 3) := by decide +kernel
theorem dX0_moveOldFields_43 : decode cX0_moveOldFields 43 = .ok (.iload_n 3, 1) := by decide +kernel
theorem dX0_moveOldFields_44 : decode cX0_moveOldFields 44 = .ok (.bipush 96, 2) := by decide +kernel
theorem dX0_moveOldFields_46 : decode cX0_moveOldFields 46 = .ok (.if_icmp .ge 21, 3) := by decide +kernel
theorem dX0_moveOldFields_49 : decode cX0_moveOldFields 49 = .ok (.iload_n 3, 1) := by decide +kernel
theorem dX0_moveOldFields_50 : decode cX0_moveOldFields 50 = .ok (.iconst 3, 1) := by decide +kernel
theorem dX0_moveOldFields_51 : decode cX0_moveOldFields 51 = .ok (.irem, 1) := by decide +kernel
theorem dX0_moveOldFields_52 : decode cX0_moveOldFields 52 = .ok (.iconst 2, 1) := by decide +kernel
theorem dX0_moveOldFields_53 : decode cX0_moveOldFields 53 = .ok (.if_icmp .eq 14, 3) := by decide +kernel
theorem dX0_moveOldFields_56 : decode cX0_moveOldFields 56 = .ok (.aload_n 0, 1) := by decide +kernel
theorem dX0_moveOldFields_57 : decode cX0_moveOldFields 57 = .ok (.aload_n 0, 1) := by decide +kernel
theorem dX0_moveOldFields_58 : decode cX0_moveOldFields 58 = .ok (.getfield 26, 3) := by decide +kernel
theorem dX0_moveOldFields_61 : decode cX0_moveOldFields 61 = .ok (.iload_n 2, 1) := by decide +kernel
theorem dX0_moveOldFields_62 : decode cX0_moveOldFields 62 = .ok (.iaload, 1) := by decide +kernel
theorem dX0_moveOldFields_63 : decode cX0_moveOldFields 63 = .ok (.invokevirtual 115, 3) := by decide +kernel
theorem dX0_moveOldFields_66 : decode cX0_moveOldFields 66 = .ok (.pop, 1) := by decide +kernel
theorem dX0_moveOldFields_67 : decode cX0_moveOldFields 67 = .ok (.iinc 2 1, 3) := by decide +kernel
theorem dX0_moveOldFields_70 : decode cX0_moveOldFields 70 = .ok (.goto (-62), 3) := by decide +kernel
theorem dX0_moveOldFields_73 : decode cX0_moveOldFields 73 = .ok (.return_, 1) := by decide +kernel
theorem dX0_moveList_0 : decode cX0_moveList 0 = .ok (.iconst 0, 1) := by decide +kernel
theorem dX0_moveList_1 : decode cX0_moveList 1 = .ok (.istore_n 2, 1) := by decide +kernel
theorem dX0_moveList_2 : decode cX0_moveList 2 = .ok (.bipush 99, 2) := by decide +kernel
theorem dX0_moveList_4 : decode cX0_moveList 4 = .ok (.aload_n 0, 1) := by decide +kernel
theorem dX0_moveList_5 : decode cX0_moveList 5 = .ok (.getfield 67, 3) := by decide +kernel
theorem dX0_moveList_8 : decode cX0_moveList 8 = .ok (.imul, 1) := by decide +kernel
theorem dX0_moveList_9 : decode cX0_moveList 9 = .ok (.istore_n 3, 1) := by decide +kernel
theorem dX0_moveList_10 : decode cX0_moveList 10 = .ok (.iload_n 3, 1) := by decide +kernel
theorem dX0_moveList_11 : decode cX0_moveList 11 = .ok (.bipush 99, 2) := by decide +kernel
theorem dX0_moveList_13 : decode cX0_moveList 13 = .ok (.aload_n 0, 1) := by decide +kernel
theorem dX0_moveList_14 : decode cX0_moveList 14 = .ok (.getfield 67, 3) := by decide +kernel
theorem dX0_moveList_17 : decode cX0_moveList 17 = .ok (.imul, 1) := by decide +kernel
theorem dX0_moveList_18 : decode cX0_moveList 18 = .ok (.aload_n 0, 1) := by decide +kernel
theorem dX0_moveList_19 : decode cX0_moveList 19 = .ok (.getfield 20, 3) := by decide +kernel
theorem dX0_moveList_22 : decode cX0_moveList 22 = .ok (.aload_n 0, 1) := by decide +kernel
theorem dX0_moveList_23 : decode cX0_moveList 23 = .ok (.getfield 67, 3) := by decide +kernel
theorem dX0_moveList_26 : decode cX0_moveList 26 = .ok (.baload, 1) := by decide +kernel
theorem dX0_moveList_27 : decode cX0_moveList 27 = .ok (.iadd, 1) := by decide +kernel
theorem dX0_moveList_28 : decode cX0_moveList 28 = .ok (.if_icmp .ge 157, 3) := by decide +kernel
theorem dX0_moveList_31 : decode cX0_moveList 31 = .ok (.aload_n 0, 1) := by decide +kernel
theorem dX0_moveList_32 : decode cX0_moveList 32 = .ok (.getfield 23, 3) := by decide +kernel
theorem dX0_moveList_35 : decode cX0_moveList 35 = .ok (.iload_n 3, 1) := by decide +kernel
theorem dX0_moveList_36 : decode cX0_moveList 36 = .ok (.baload, 1) := by decide +kernel
theorem dX0_moveList_37 : decode cX0_moveList 37 = .ok (.istore 4, 2) := by decide +kernel
theorem dX0_moveList_39 : decode cX0_moveList 39 = .ok (.iload 4, 2) := by decide +kernel
theorem dX0_moveList_41 : decode cX0_moveList 41 = .ok (.bipush 96, 2) := by decide +kernel
theorem dX0_moveList_43 : decode cX0_moveList 43 = .ok (.if_icmp .lt 7, 3) := by decide +kernel
theorem dX0_moveList_46 : decode cX0_moveList 46 = .ok (.iconst 1, 1) := by decide +kernel
theorem dX0_moveList_47 : decode cX0_moveList 47 = .ok (.goto 4, 3) := by decide +kernel
theorem dX0_moveList_50 : decode cX0_moveList 50 = .ok (.iconst 0, 1) := by decide +kernel
theorem dX0_moveList_51 : decode cX0_moveList 51 = .ok (.istore 5, 2) := by decide +kernel
theorem dX0_moveList_53 : decode cX0_moveList 53 = .ok (.iload 5, 2) := by decide +kernel
theorem dX0_moveList_55 : decode cX0_moveList 55 = .ok (.ifCond .ne 18, 3) := by decide +kernel
theorem dX0_moveList_58 : decode cX0_moveList 58 = .ok (.aload_n 0, 1) := by decide +kernel
theorem dX0_moveList_59 : decode cX0_moveList 59 = .ok (.getfield 39, 3) := by decide +kernel
theorem dX0_moveList_62 : decode cX0_moveList 62 = .ok (.iload 4, 2) := by decide +kernel
theorem dX0_moveList_64 : decode cX0_moveList 64 = .ok (.iconst 3, 1) := by decide +kernel
theorem dX0_moveList_65 : decode cX0_moveList 65 = .ok (.idiv, 1) := by decide +kernel
theorem dX0_moveList_66 : decode cX0_moveList 66 = .ok (.baload, 1) := by decide +kernel
theorem dX0_moveList_67 : decode cX0_moveList 67 = .ok (.ifCond .ge 6, 3) := by decide +kernel
theorem dX0_moveList_70 : decode cX0_moveList 70 = .ok (.goto 109, 3) := by decide +kernel
theorem dX0_moveList_73 : decode cX0_moveList 73 = .ok (.iload 5, 2) := by decide +kernel
theorem dX0_moveList_75 : decode cX0_moveList 75 = .ok (.ifCond .ne 11, 3) := by decide +kernel
theorem dX0_moveList_78 : decode cX0_moveList 78 = .ok (.iload 4, 2) := by decide +kernel
theorem dX0_moveList_80 : decode cX0_moveList 80 = .ok (.iconst 3, 1) := by decide +kernel
theorem dX0_moveList_81 : decode cX0_moveList 81 = .ok (.irem, 1) := by decide +kernel
theorem dX0_moveList_82 : decode cX0_moveList 82 = .ok (.iconst 2, 1) := by decide +kernel
theorem dX0_moveList_83 : decode cX0_moveList 83 = .ok (.if_icmp .eq 7, 3) := by decide +kernel
theorem dX0_moveList_86 : decode cX0_moveList 86 = .ok (.iconst 1, 1) := by decide +kernel
theorem dX0_moveList_87 : decode cX0_moveList 87 = .ok (.goto 4, 3) := by decide +kernel
theorem dX0_moveList_90 : decode cX0_moveList 90 = .ok (.iconst 0, 1) := by decide +kernel
theorem dX0_moveList_91 : decode cX0_moveList 91 = .ok (.istore 6, 2) := by decide +kernel
theorem dX0_moveList_93 : decode cX0_moveList 93 = .ok (.bipush 99, 2) := by decide +kernel
theorem dX0_moveList_95 : decode cX0_moveList 95 = .ok (.iload_n 1, 1) := by decide +kernel
theorem dX0_moveList_96 : decode cX0_moveList 96 = .ok (.imul, 1) := by decide +kernel
theorem dX0_moveList_97 : decode cX0_moveList 97 = .ok (.iload_n 2, 1) := by decide +kernel
theorem dX0_moveList_98 : decode cX0_moveList 98 = .ok (.iadd, 1) := by decide +kernel
theorem dX0_moveList_99 : decode cX0_moveList 99 = .ok (.istore 7, 2) := by decide +kernel
theorem dX0_moveList_101 : decode cX0_moveList 101 = .ok (.aload_n 0, 1) := by decide +kernel
theorem dX0_moveList_102 : decode cX0_moveList 102 = .ok (.getfield 23, 3) := by decide +kernel
theorem dX0_moveList_105 : decode cX0_moveList 105 = .ok (.iload 7, 2) := by decide +kernel
theorem dX0_moveList_107 : decode cX0_moveList 107 = .ok (.iload 5, 2) := by decide +kernel
theorem dX0_moveList_109 : decode cX0_moveList 109 = .ok (.ifCond .eq 8, 3) := by decide +kernel
theorem dX0_moveList_112 : decode cX0_moveList 112 = .ok (.iload 4, 2) := by decide +kernel
theorem dX0_moveList_114 : decode cX0_moveList 114 = .ok (.goto 19, 3) := by decide +kernel
theorem dX0_moveList_117 : decode cX0_moveList 117 = .ok (.iconst 3, 1) := by decide +kernel
theorem dX0_moveList_118 : decode cX0_moveList 118 = .ok (.aload_n 0, 1) := by decide +kernel
theorem dX0_moveList_119 : decode cX0_moveList 119 = .ok (.getfield 39, 3) := by decide +kernel
theorem dX0_moveList_122 : decode cX0_moveList 122 = .ok (.iload 4, 2) := by decide +kernel
theorem dX0_moveList_124 : decode cX0_moveList 124 = .ok (.iconst 3, 1) := by decide +kernel
theorem dX0_moveList_125 : decode cX0_moveList 125 = .ok (.idiv, 1) := by decide +kernel
theorem dX0_moveList_126 : decode cX0_moveList 126 = .ok (.baload, 1) := by decide +kernel
theorem dX0_moveList_127 : decode cX0_moveList 127 = .ok (.imul, 1) := by decide +kernel
theorem dX0_moveList_128 : decode cX0_moveList 128 = .ok (.iload 4, 2) := by decide +kernel
theorem dX0_moveList_130 : decode cX0_moveList 130 = .ok (.iconst 3, 1) := by decide +kernel
theorem dX0_moveList_131 : decode cX0_moveList 131 = .ok (.irem, 1) := by decide +kernel
theorem dX0_moveList_132 : decode cX0_moveList 132 = .ok (.iadd, 1) := by decide +kernel
theorem dX0_moveList_133 : decode cX0_moveList 133 = .ok (.i2b, 1) := by decide +kernel
theorem dX0_moveList_134 : decode cX0_moveList 134 = .ok (.bastore, 1) := by decide +kernel
theorem dX0_moveList_135 : decode cX0_moveList 135 = .ok (.aload_n 0, 1) := by decide +kernel
theorem dX0_moveList_136 : decode cX0_moveList 136 = .ok (.getfield 26, 3) := by decide +kernel
theorem dX0_moveList_139 : decode cX0_moveList 139 = .ok (.iload 7, 2) := by decide +kernel
theorem dX0_moveList_141 : decode cX0_moveList 141 = .ok (.iload 6, 2) := by decide +kernel
theorem dX0_moveList_143 : decode cX0_moveList 143 = .ok (.ifCond .eq 26, 3) := by decide +kernel
theorem dX0_moveList_146 : decode cX0_moveList 146 = .ok (.aload_n 0, 1) := by decide +kernel
theorem dX0_moveList_147 : decode cX0_moveList 147 = .ok (.getfield 26, 3) := by decide +kernel
theorem dX0_moveList_150 : decode cX0_moveList 150 = .ok (.iload_n 3, 1) := by decide +kernel
theorem dX0_moveList_151 : decode cX0_moveList 151 = .ok (.iaload, 1) := by decide +kernel
theorem dX0_moveList_152 : decode cX0_moveList 152 = .ok (.ifCond .lt 17, 3) := by decide +kernel
theorem dX0_moveList_155 : decode cX0_moveList 155 = .ok (.aload_n 0, 1) := by decide +kernel
theorem dX0_moveList_156 : decode cX0_moveList 156 = .ok (.getfield 39, 3) := by decide +kernel
theorem dX0_moveList_159 : decode cX0_moveList 159 = .ok (.aload_n 0, 1) := by decide +kernel
theorem dX0_moveList_160 : decode cX0_moveList 160 = .ok (.getfield 26, 3) := by decide +kernel
theorem dX0_moveList_163 : decode cX0_moveList 163 = .ok (.iload_n 3, 1) := by decide +kernel
theorem dX0_moveList_164 : decode cX0_moveList 164 = .ok (.iaload, 1) := by decide +kernel
theorem dX0_moveList_165 : decode cX0_moveList 165 = .ok (.baload, 1) := by decide +kernel
theorem dX0_moveList_166 : decode cX0_moveList 166 = .ok (.goto 9, 3) := by decide +kernel
theorem dX0_moveList_169 : decode cX0_moveList 169 = .ok (.aload_n 0, 1) := by decide +kernel
theorem dX0_moveList_170 : decode cX0_moveList 170 = .ok (.getfield 26, 3) := by decide +kernel
theorem dX0_moveList_173 : decode cX0_moveList 173 = .ok (.iload_n 3, 1) := by decide +kernel
theorem dX0_moveList_174 : decode cX0_moveList 174 = .ok (.iaload, 1) := by decide +kernel
theorem dX0_moveList_175 : decode cX0_moveList 175 = .ok (.iastore, 1) := by decide +kernel
theorem dX0_moveList_176 : decode cX0_moveList 176 = .ok (.iinc 2 1, 3) := by decide +kernel
end
section
set_option maxRecDepth 100000
theorem dX0_moveList_179 : decode cX0_moveList 179 = .ok (.iinc 3 1, 3) := by decide +kernel
theorem dX0_moveList_182 : decode cX0_moveList 182 = .ok (.goto (-172), 3) := by decide +kernel
theorem dX0_moveList_185 : decode cX0_moveList 185 = .ok (.aload_n 0, 1) := by decide +kernel
theorem dX0_moveList_186 : decode cX0_moveList 186 = .ok (.getfield 20, 3) := by decide +kernel
theorem dX0_moveList_189 : decode cX0_moveList 189 = .ok (.iload_n 1, 1) := by decide +kernel
theorem dX0_moveList_190 : decode cX0_moveList 190 = .ok (.iload_n 2, 1) := by decide +kernel
theorem dX0_moveList_191 : decode cX0_moveList 191 = .ok (.i2b, 1) := by decide +kernel
theorem dX0_moveList_192 : decode cX0_moveList 192 = .ok (.bastore, 1) := by decide +kernel
theorem dX0_moveList_193 : decode cX0_moveList 193 = .ok (.return_, 1) := by decide +kernel
theorem dX0_settle_0 : decode cX0_settle 0 = .ok (.aload_n 0, 1) := by decide +kernel
theorem dX0_settle_1 : decode cX0_settle 1 = .ok (.iconst 1, 1) := by decide +kernel
theorem dX0_settle_2 : decode cX0_settle 2 = .ok (.aload_n 0, 1) := by decide +kernel
theorem dX0_settle_3 : decode cX0_settle 3 = .ok (.getfield 67, 3) := by decide +kernel
theorem dX0_settle_6 : decode cX0_settle 6 = .ok (.isub, 1) := by decide +kernel
theorem dX0_settle_7 : decode cX0_settle 7 = .ok (.putfield 67, 3) := by decide +kernel
theorem dX0_settle_10 : decode cX0_settle 10 = .ok (.iconst 0, 1) := by decide +kernel
theorem dX0_settle_11 : decode cX0_settle 11 = .ok (.istore_n 1, 1) := by decide +kernel
theorem dX0_settle_12 : decode cX0_settle 12 = .ok (.iload_n 1, 1) := by decide +kernel
theorem dX0_settle_13 : decode cX0_settle 13 = .ok (.iconst 4, 1) := by decide +kernel
theorem dX0_settle_14 : decode cX0_settle 14 = .ok (.if_icmp .ge 35, 3) := by decide +kernel
theorem dX0_settle_17 : decode cX0_settle 17 = .ok (.aload_n 0, 1) := by decide +kernel
theorem dX0_settle_18 : decode cX0_settle 18 = .ok (.getfield 29, 3) := by decide +kernel
theorem dX0_settle_21 : decode cX0_settle 21 = .ok (.iload_n 1, 1) := by decide +kernel
theorem dX0_settle_22 : decode cX0_settle 22 = .ok (.baload, 1) := by decide +kernel
theorem dX0_settle_23 : decode cX0_settle 23 = .ok (.ifCond .lt 20, 3) := by decide +kernel
theorem dX0_settle_26 : decode cX0_settle 26 = .ok (.aload_n 0, 1) := by decide +kernel
theorem dX0_settle_27 : decode cX0_settle 27 = .ok (.getfield 29, 3) := by decide +kernel
theorem dX0_settle_30 : decode cX0_settle 30 = .ok (.iload_n 1, 1) := by decide +kernel
theorem dX0_settle_31 : decode cX0_settle 31 = .ok (.aload_n 0, 1) := by decide +kernel
theorem dX0_settle_32 : decode cX0_settle 32 = .ok (.getfield 39, 3) := by decide +kernel
theorem dX0_settle_35 : decode cX0_settle 35 = .ok (.aload_n 0, 1) := by decide +kernel
theorem dX0_settle_36 : decode cX0_settle 36 = .ok (.getfield 29, 3) := by decide +kernel
theorem dX0_settle_39 : decode cX0_settle 39 = .ok (.iload_n 1, 1) := by decide +kernel
theorem dX0_settle_40 : decode cX0_settle 40 = .ok (.baload, 1) := by decide +kernel
theorem dX0_settle_41 : decode cX0_settle 41 = .ok (.baload, 1) := by decide +kernel
theorem dX0_settle_42 : decode cX0_settle 42 = .ok (.bastore, 1) := by decide +kernel
theorem dX0_settle_43 : decode cX0_settle 43 = .ok (.iinc 1 1, 3) := by decide +kernel
theorem dX0_settle_46 : decode cX0_settle 46 = .ok (.goto (-34), 3) := by decide +kernel
theorem dX0_settle_49 : decode cX0_settle 49 = .ok (.iconst 0, 1) := by decide +kernel
theorem dX0_settle_50 : decode cX0_settle 50 = .ok (.istore_n 1, 1) := by decide +kernel
theorem dX0_settle_51 : decode cX0_settle 51 = .ok (.iload_n 1, 1) := by decide +kernel
theorem dX0_settle_52 : decode cX0_settle 52 = .ok (.bipush 32, 2) := by decide +kernel
theorem dX0_settle_54 : decode cX0_settle 54 = .ok (.if_icmp .ge 21, 3) := by decide +kernel
theorem dX0_settle_57 : decode cX0_settle 57 = .ok (.aload_n 0, 1) := by decide +kernel
theorem dX0_settle_58 : decode cX0_settle 58 = .ok (.getfield 45, 3) := by decide +kernel
theorem dX0_settle_61 : decode cX0_settle 61 = .ok (.iload_n 1, 1) := by decide +kernel
theorem dX0_settle_62 : decode cX0_settle 62 = .ok (.aload_n 0, 1) := by decide +kernel
theorem dX0_settle_63 : decode cX0_settle 63 = .ok (.getfield 32, 3) := by decide +kernel
theorem dX0_settle_66 : decode cX0_settle 66 = .ok (.iload_n 1, 1) := by decide +kernel
theorem dX0_settle_67 : decode cX0_settle 67 = .ok (.baload, 1) := by decide +kernel
theorem dX0_settle_68 : decode cX0_settle 68 = .ok (.bastore, 1) := by decide +kernel
theorem dX0_settle_69 : decode cX0_settle 69 = .ok (.iinc 1 1, 3) := by decide +kernel
theorem dX0_settle_72 : decode cX0_settle 72 = .ok (.goto (-21), 3) := by decide +kernel
theorem dX0_settle_75 : decode cX0_settle 75 = .ok (.iconst 0, 1) := by decide +kernel
theorem dX0_settle_76 : decode cX0_settle 76 = .ok (.istore_n 1, 1) := by decide +kernel
theorem dX0_settle_77 : decode cX0_settle 77 = .ok (.iload_n 1, 1) := by decide +kernel
theorem dX0_settle_78 : decode cX0_settle 78 = .ok (.bipush 32, 2) := by decide +kernel
theorem dX0_settle_80 : decode cX0_settle 80 = .ok (.if_icmp .ge 42, 3) := by decide +kernel
theorem dX0_settle_83 : decode cX0_settle 83 = .ok (.aload_n 0, 1) := by decide +kernel
theorem dX0_settle_84 : decode cX0_settle 84 = .ok (.getfield 32, 3) := by decide +kernel
theorem dX0_settle_87 : decode cX0_settle 87 = .ok (.iload_n 1, 1) := by decide +kernel
theorem dX0_settle_88 : decode cX0_settle 88 = .ok (.iload_n 1, 1) := by decide +kernel
theorem dX0_settle_89 : decode cX0_settle 89 = .ok (.aload_n 0, 1) := by decide +kernel
theorem dX0_settle_90 : decode cX0_settle 90 = .ok (.getfield 96, 3) := by decide +kernel
theorem dX0_settle_93 : decode cX0_settle 93 = .ok (.if_icmp .ge 21, 3) := by decide +kernel
theorem dX0_settle_96 : decode cX0_settle 96 = .ok (.aload_n 0, 1) := by decide +kernel
theorem dX0_settle_97 : decode cX0_settle 97 = .ok (.getfield 45, 3) := by decide +kernel
theorem dX0_settle_100 : decode cX0_settle 100 = .ok (.aload_n 0, 1) := by decide +kernel
theorem dX0_settle_101 : decode cX0_settle 101 = .ok (.getfield 42, 3) := by decide +kernel
theorem dX0_settle_104 : decode cX0_settle 104 = .ok (.iload_n 1, 1) := by decide +kernel
theorem dX0_settle_105 : decode cX0_settle 105 = .ok (.baload, 1) := by decide +kernel
theorem dX0_settle_106 : decode cX0_settle 106 = .ok (.baload, 1) := by decide +kernel
theorem dX0_settle_107 : decode cX0_settle 107 = .ok (.ifCond .eq 7, 3) := by decide +kernel
theorem dX0_settle_110 : decode cX0_settle 110 = .ok (.iconst 1, 1) := by decide +kernel
theorem dX0_settle_111 : decode cX0_settle 111 = .ok (.goto 4, 3) := by decide +kernel
theorem dX0_settle_114 : decode cX0_settle 114 = .ok (.iconst 0, 1) := by decide +kernel
theorem dX0_settle_115 : decode cX0_settle 115 = .ok (.bastore, 1) := by decide +kernel
theorem dX0_settle_116 : decode cX0_settle 116 = .ok (.iinc 1 1, 3) := by decide +kernel
theorem dX0_settle_119 : decode cX0_settle 119 = .ok (.goto (-42), 3) := by decide +kernel
theorem dX0_settle_122 : decode cX0_settle 122 = .ok (.aload_n 0, 1) := by decide +kernel
theorem dX0_settle_123 : decode cX0_settle 123 = .ok (.aload_n 0, 1) := by decide +kernel
theorem dX0_settle_124 : decode cX0_settle 124 = .ok (.getfield 96, 3) := by decide +kernel
theorem dX0_settle_127 : decode cX0_settle 127 = .ok (.putfield 60, 3) := by decide +kernel
theorem dX0_settle_130 : decode cX0_settle 130 = .ok (.aload_n 0, 1) := by decide +kernel
theorem dX0_settle_131 : decode cX0_settle 131 = .ok (.invokevirtual 77, 3) := by decide +kernel
theorem dX0_settle_134 : decode cX0_settle 134 = .ok (.bipush 99, 2) := by decide +kernel
theorem dX0_settle_136 : decode cX0_settle 136 = .ok (.aload_n 0, 1) := by decide +kernel
theorem dX0_settle_137 : decode cX0_settle 137 = .ok (.getfield 67, 3) := by decide +kernel
theorem dX0_settle_140 : decode cX0_settle 140 = .ok (.imul, 1) := by decide +kernel
theorem dX0_settle_141 : decode cX0_settle 141 = .ok (.istore_n 1, 1) := by decide +kernel
theorem dX0_settle_142 : decode cX0_settle 142 = .ok (.iload_n 1, 1) := by decide +kernel
theorem dX0_settle_143 : decode cX0_settle 143 = .ok (.bipush 99, 2) := by decide +kernel
theorem dX0_settle_145 : decode cX0_settle 145 = .ok (.aload_n 0, 1) := by decide +kernel
theorem dX0_settle_146 : decode cX0_settle 146 = .ok (.getfield 67, 3) := by decide +kernel
theorem dX0_settle_149 : decode cX0_settle 149 = .ok (.imul, 1) := by decide +kernel
theorem dX0_settle_150 : decode cX0_settle 150 = .ok (.aload_n 0, 1) := by decide +kernel
theorem dX0_settle_151 : decode cX0_settle 151 = .ok (.getfield 20, 3) := by decide +kernel
theorem dX0_settle_154 : decode cX0_settle 154 = .ok (.aload_n 0, 1) := by decide +kernel
theorem dX0_settle_155 : decode cX0_settle 155 = .ok (.getfield 67, 3) := by decide +kernel
theorem dX0_settle_158 : decode cX0_settle 158 = .ok (.baload, 1) := by decide +kernel
theorem dX0_settle_159 : decode cX0_settle 159 = .ok (.iadd, 1) := by decide +kernel
theorem dX0_settle_160 : decode cX0_settle 160 = .ok (.if_icmp .ge 21, 3) := by decide +kernel
theorem dX0_settle_163 : decode cX0_settle 163 = .ok (.aload_n 0, 1) := by decide +kernel
theorem dX0_settle_164 : decode cX0_settle 164 = .ok (.getfield 36, 3) := by decide +kernel
theorem dX0_settle_167 : decode cX0_settle 167 = .ok (.aload_n 0, 1) := by decide +kernel
theorem dX0_settle_168 : decode cX0_settle 168 = .ok (.getfield 23, 3) := by decide +kernel
theorem dX0_settle_171 : decode cX0_settle 171 = .ok (.iload_n 1, 1) := by decide +kernel
theorem dX0_settle_172 : decode cX0_settle 172 = .ok (.baload, 1) := by decide +kernel
theorem dX0_settle_173 : decode cX0_settle 173 = .ok (.iconst 1, 1) := by decide +kernel
theorem dX0_settle_174 : decode cX0_settle 174 = .ok (.bastore, 1) := by decide +kernel
theorem dX0_settle_175 : decode cX0_settle 175 = .ok (.iinc 1 1, 3) := by decide +kernel
theorem dX0_settle_178 : decode cX0_settle 178 = .ok (.goto (-36), 3) := by decide +kernel
theorem dX0_settle_181 : decode cX0_settle 181 = .ok (.return_, 1) := by decide +kernel
theorem dX0_forgetListed_0 : decode cX0_forgetListed 0 = .ok (.iconst 0, 1) := by decide +kernel
theorem dX0_forgetListed_1 : decode cX0_forgetListed 1 = .ok (.istore_n 1, 1) := by decide +kernel
theorem dX0_forgetListed_2 : decode cX0_forgetListed 2 = .ok (.iload_n 1, 1) := by decide +kernel
theorem dX0_forgetListed_3 : decode cX0_forgetListed 3 = .ok (.bipush 99, 2) := by decide +kernel
theorem dX0_forgetListed_5 : decode cX0_forgetListed 5 = .ok (.if_icmp .ge 16, 3) := by decide +kernel
theorem dX0_forgetListed_8 : decode cX0_forgetListed 8 = .ok (.aload_n 0, 1) := by decide +kernel
theorem dX0_forgetListed_9 : decode cX0_forgetListed 9 = .ok (.getfield 36, 3) := by decide +kernel
theorem dX0_forgetListed_12 : decode cX0_forgetListed 12 = .ok (.iload_n 1, 1) := by decide +kernel
theorem dX0_forgetListed_13 : decode cX0_forgetListed 13 = .ok (.iconst 0, 1) := by decide +kernel
theorem dX0_forgetListed_14 : decode cX0_forgetListed 14 = .ok (.bastore, 1) := by decide +kernel
theorem dX0_forgetListed_15 : decode cX0_forgetListed 15 = .ok (.iinc 1 1, 3) := by decide +kernel
theorem dX0_forgetListed_18 : decode cX0_forgetListed 18 = .ok (.goto (-16), 3) := by decide +kernel
theorem dX0_forgetListed_21 : decode cX0_forgetListed 21 = .ok (.return_, 1) := by decide +kernel
theorem dX0_fromRoot_0 : decode cX0_fromRoot 0 = .ok (.aload_n 0, 1) := by decide +kernel
theorem dX0_fromRoot_1 : decode cX0_fromRoot 1 = .ok (.iload_n 1, 1) := by decide +kernel
theorem dX0_fromRoot_2 : decode cX0_fromRoot 2 = .ok (.invokevirtual 48, 3) := by decide +kernel
theorem dX0_fromRoot_5 : decode cX0_fromRoot 5 = .ok (.ifCond .eq 11, 3) := by decide +kernel
theorem dX0_fromRoot_8 : decode cX0_fromRoot 8 = .ok (.aload_n 0, 1) := by decide +kernel
theorem dX0_fromRoot_9 : decode cX0_fromRoot 9 = .ok (.iload_n 2, 1) := by decide +kernel
theorem dX0_fromRoot_10 : decode cX0_fromRoot 10 = .ok (.invokevirtual 70, 3) := by decide +kernel
theorem dX0_fromRoot_13 : decode cX0_fromRoot 13 = .ok (.ifCond .ne 5, 3) := by decide +kernel
theorem dX0_fromRoot_16 : decode cX0_fromRoot 16 = .ok (.iconst (-1), 1) := by decide +kernel
theorem dX0_fromRoot_17 : decode cX0_fromRoot 17 = .ok (.ireturn, 1) := by decide +kernel
theorem dX0_fromRoot_18 : decode cX0_fromRoot 18 = .ok (.aload_n 0, 1) := by decide +kernel
theorem dX0_fromRoot_19 : decode cX0_fromRoot 19 = .ok (.getfield 29, 3) := by decide +kernel
theorem dX0_fromRoot_22 : decode cX0_fromRoot 22 = .ok (.iload_n 1, 1) := by decide +kernel
theorem dX0_fromRoot_23 : decode cX0_fromRoot 23 = .ok (.aload_n 0, 1) := by decide +kernel
theorem dX0_fromRoot_24 : decode cX0_fromRoot 24 = .ok (.getfield 17, 3) := by decide +kernel
theorem dX0_fromRoot_27 : decode cX0_fromRoot 27 = .ok (.iconst 3, 1) := by decide +kernel
theorem dX0_fromRoot_28 : decode cX0_fromRoot 28 = .ok (.aload_n 0, 1) := by decide +kernel
theorem dX0_fromRoot_29 : decode cX0_fromRoot 29 = .ok (.getfield 67, 3) := by decide +kernel
theorem dX0_fromRoot_32 : decode cX0_fromRoot 32 = .ok (.imul, 1) := by decide +kernel
theorem dX0_fromRoot_33 : decode cX0_fromRoot 33 = .ok (.iload_n 2, 1) := by decide +kernel
theorem dX0_fromRoot_34 : decode cX0_fromRoot 34 = .ok (.iadd, 1) := by decide +kernel
theorem dX0_fromRoot_35 : decode cX0_fromRoot 35 = .ok (.baload, 1) := by decide +kernel
theorem dX0_fromRoot_36 : decode cX0_fromRoot 36 = .ok (.bastore, 1) := by decide +kernel
theorem dX0_fromRoot_37 : decode cX0_fromRoot 37 = .ok (.iconst 0, 1) := by decide +kernel
theorem dX0_fromRoot_38 : decode cX0_fromRoot 38 = .ok (.ireturn, 1) := by decide +kernel
theorem dX0_isRoot_0 : decode cX0_isRoot 0 = .ok (.iload_n 1, 1) := by decide +kernel
theorem dX0_isRoot_1 : decode cX0_isRoot 1 = .ok (.ifCond .lt 12, 3) := by decide +kernel
theorem dX0_isRoot_4 : decode cX0_isRoot 4 = .ok (.iload_n 1, 1) := by decide +kernel
theorem dX0_isRoot_5 : decode cX0_isRoot 5 = .ok (.iconst 2, 1) := by decide +kernel
theorem dX0_isRoot_6 : decode cX0_isRoot 6 = .ok (.if_icmp .gt 7, 3) := by decide +kernel
theorem dX0_isRoot_9 : decode cX0_isRoot 9 = .ok (.iconst 1, 1) := by decide +kernel
theorem dX0_isRoot_10 : decode cX0_isRoot 10 = .ok (.goto 4, 3) := by decide +kernel
theorem dX0_isRoot_13 : decode cX0_isRoot 13 = .ok (.iconst 0, 1) := by decide +kernel
theorem dX0_isRoot_14 : decode cX0_isRoot 14 = .ok (.ireturn, 1) := by decide +kernel
theorem dX0_toRoot_0 : decode cX0_toRoot 0 = .ok (.aload_n 0, 1) := by decide +kernel
theorem dX0_toRoot_1 : decode cX0_toRoot 1 = .ok (.iload_n 2, 1) := by decide +kernel
theorem dX0_toRoot_2 : decode cX0_toRoot 2 = .ok (.invokevirtual 48, 3) := by decide +kernel
theorem dX0_toRoot_5 : decode cX0_toRoot 5 = .ok (.ifCond .eq 11, 3) := by decide +kernel
theorem dX0_toRoot_8 : decode cX0_toRoot 8 = .ok (.aload_n 0, 1) := by decide +kernel
theorem dX0_toRoot_9 : decode cX0_toRoot 9 = .ok (.iload_n 1, 1) := by decide +kernel
theorem dX0_toRoot_10 : decode cX0_toRoot 10 = .ok (.invokevirtual 70, 3) := by decide +kernel
theorem dX0_toRoot_13 : decode cX0_toRoot 13 = .ok (.ifCond .ne 5, 3) := by decide +kernel
theorem dX0_toRoot_16 : decode cX0_toRoot 16 = .ok (.iconst (-1), 1) := by decide +kernel
theorem dX0_toRoot_17 : decode cX0_toRoot 17 = .ok (.ireturn, 1) := by decide +kernel
theorem dX0_toRoot_18 : decode cX0_toRoot 18 = .ok (.aload_n 0, 1) := by decide +kernel
theorem dX0_toRoot_19 : decode cX0_toRoot 19 = .ok (.bipush 96, 2) := by decide +kernel
theorem dX0_toRoot_21 : decode cX0_toRoot 21 = .ok (.iload_n 1, 1) := by decide +kernel
theorem dX0_toRoot_22 : decode cX0_toRoot 22 = .ok (.iadd, 1) := by decide +kernel
theorem dX0_toRoot_23 : decode cX0_toRoot 23 = .ok (.aload_n 0, 1) := by decide +kernel
theorem dX0_toRoot_24 : decode cX0_toRoot 24 = .ok (.getfield 17, 3) := by decide +kernel
theorem dX0_toRoot_27 : decode cX0_toRoot 27 = .ok (.iconst 3, 1) := by decide +kernel
theorem dX0_toRoot_28 : decode cX0_toRoot 28 = .ok (.aload_n 0, 1) := by decide +kernel
theorem dX0_toRoot_29 : decode cX0_toRoot 29 = .ok (.getfield 67, 3) := by decide +kernel
theorem dX0_toRoot_32 : decode cX0_toRoot 32 = .ok (.imul, 1) := by decide +kernel
theorem dX0_toRoot_33 : decode cX0_toRoot 33 = .ok (.iload_n 1, 1) := by decide +kernel
theorem dX0_toRoot_34 : decode cX0_toRoot 34 = .ok (.iadd, 1) := by decide +kernel
theorem dX0_toRoot_35 : decode cX0_toRoot 35 = .ok (.baload, 1) := by decide +kernel
theorem dX0_toRoot_36 : decode cX0_toRoot 36 = .ok (.invokevirtual 73, 3) := by decide +kernel
theorem dX0_toRoot_39 : decode cX0_toRoot 39 = .ok (.aload_n 0, 1) := by decide +kernel
theorem dX0_toRoot_40 : decode cX0_toRoot 40 = .ok (.getfield 17, 3) := by decide +kernel
theorem dX0_toRoot_43 : decode cX0_toRoot 43 = .ok (.iconst 3, 1) := by decide +kernel
theorem dX0_toRoot_44 : decode cX0_toRoot 44 = .ok (.aload_n 0, 1) := by decide +kernel
theorem dX0_toRoot_45 : decode cX0_toRoot 45 = .ok (.getfield 67, 3) := by decide +kernel
theorem dX0_toRoot_48 : decode cX0_toRoot 48 = .ok (.imul, 1) := by decide +kernel
theorem dX0_toRoot_49 : decode cX0_toRoot 49 = .ok (.iload_n 1, 1) := by decide +kernel
theorem dX0_toRoot_50 : decode cX0_toRoot 50 = .ok (.iadd, 1) := by decide +kernel
theorem dX0_toRoot_51 : decode cX0_toRoot 51 = .ok (.aload_n 0, 1) := by decide +kernel
theorem dX0_toRoot_52 : decode cX0_toRoot 52 = .ok (.getfield 29, 3) := by decide +kernel
theorem dX0_toRoot_55 : decode cX0_toRoot 55 = .ok (.iload_n 2, 1) := by decide +kernel
theorem dX0_toRoot_56 : decode cX0_toRoot 56 = .ok (.baload, 1) := by decide +kernel
theorem dX0_toRoot_57 : decode cX0_toRoot 57 = .ok (.bastore, 1) := by decide +kernel
theorem dX0_toRoot_58 : decode cX0_toRoot 58 = .ok (.iconst 0, 1) := by decide +kernel
theorem dX0_toRoot_59 : decode cX0_toRoot 59 = .ok (.ireturn, 1) := by decide +kernel
theorem dX0_note_0 : decode cX0_note 0 = .ok (.aload_n 0, 1) := by decide +kernel
theorem dX0_note_1 : decode cX0_note 1 = .ok (.getfield 36, 3) := by decide +kernel
theorem dX0_note_4 : decode cX0_note 4 = .ok (.iload_n 1, 1) := by decide +kernel
theorem dX0_note_5 : decode cX0_note 5 = .ok (.baload, 1) := by decide +kernel
theorem dX0_note_6 : decode cX0_note 6 = .ok (.ifCond .eq 4, 3) := by decide +kernel
theorem dX0_note_9 : decode cX0_note 9 = .ok (.return_, 1) := by decide +kernel
theorem dX0_note_10 : decode cX0_note 10 = .ok (.aload_n 0, 1) := by decide +kernel
theorem dX0_note_11 : decode cX0_note 11 = .ok (.getfield 36, 3) := by decide +kernel
theorem dX0_note_14 : decode cX0_note 14 = .ok (.iload_n 1, 1) := by decide +kernel
theorem dX0_note_15 : decode cX0_note 15 = .ok (.iconst 1, 1) := by decide +kernel
theorem dX0_note_16 : decode cX0_note 16 = .ok (.bastore, 1) := by decide +kernel
theorem dX0_note_17 : decode cX0_note 17 = .ok (.bipush 99, 2) := by decide +kernel
theorem dX0_note_19 : decode cX0_note 19 = .ok (.aload_n 0, 1) := by decide +kernel
theorem dX0_note_20 : decode cX0_note 20 = .ok (.getfield 67, 3) := by decide +kernel
theorem dX0_note_23 : decode cX0_note 23 = .ok (.imul, 1) := by decide +kernel
theorem dX0_note_24 : decode cX0_note 24 = .ok (.aload_n 0, 1) := by decide +kernel
theorem dX0_note_25 : decode cX0_note 25 = .ok (.getfield 20, 3) := by decide +kernel
theorem dX0_note_28 : decode cX0_note 28 = .ok (.aload_n 0, 1) := by decide +kernel
theorem dX0_note_29 : decode cX0_note 29 = .ok (.getfield 67, 3) := by decide +kernel
theorem dX0_note_32 : decode cX0_note 32 = .ok (.baload, 1) := by decide +kernel
theorem dX0_note_33 : decode cX0_note 33 = .ok (.iadd, 1) := by decide +kernel
theorem dX0_note_34 : decode cX0_note 34 = .ok (.istore_n 3, 1) := by decide +kernel
theorem dX0_note_35 : decode cX0_note 35 = .ok (.aload_n 0, 1) := by decide +kernel
theorem dX0_note_36 : decode cX0_note 36 = .ok (.getfield 23, 3) := by decide +kernel
theorem dX0_note_39 : decode cX0_note 39 = .ok (.iload_n 3, 1) := by decide +kernel
theorem dX0_note_40 : decode cX0_note 40 = .ok (.iload_n 1, 1) := by decide +kernel
theorem dX0_note_41 : decode cX0_note 41 = .ok (.i2b, 1) := by decide +kernel
theorem dX0_note_42 : decode cX0_note 42 = .ok (.bastore, 1) := by decide +kernel
theorem dX0_note_43 : decode cX0_note 43 = .ok (.aload_n 0, 1) := by decide +kernel
theorem dX0_note_44 : decode cX0_note 44 = .ok (.getfield 26, 3) := by decide +kernel
theorem dX0_note_47 : decode cX0_note 47 = .ok (.iload_n 3, 1) := by decide +kernel
theorem dX0_note_48 : decode cX0_note 48 = .ok (.iload_n 2, 1) := by decide +kernel
theorem dX0_note_49 : decode cX0_note 49 = .ok (.iastore, 1) := by decide +kernel
theorem dX0_note_50 : decode cX0_note 50 = .ok (.aload_n 0, 1) := by decide +kernel
theorem dX0_note_51 : decode cX0_note 51 = .ok (.getfield 20, 3) := by decide +kernel
theorem dX0_note_54 : decode cX0_note 54 = .ok (.aload_n 0, 1) := by decide +kernel
theorem dX0_note_55 : decode cX0_note 55 = .ok (.getfield 67, 3) := by decide +kernel
theorem dX0_note_58 : decode cX0_note 58 = .ok (.dup2, 1) := by decide +kernel
theorem dX0_note_59 : decode cX0_note 59 = .ok (.baload, 1) := by decide +kernel
theorem dX0_note_60 : decode cX0_note 60 = .ok (.iconst 1, 1) := by decide +kernel
theorem dX0_note_61 : decode cX0_note 61 = .ok (.iadd, 1) := by decide +kernel
theorem dX0_note_62 : decode cX0_note 62 = .ok (.i2b, 1) := by decide +kernel
theorem dX0_note_63 : decode cX0_note 63 = .ok (.bastore, 1) := by decide +kernel
theorem dX0_note_64 : decode cX0_note 64 = .ok (.return_, 1) := by decide +kernel
theorem dX0_fromField_0 : decode cX0_fromField 0 = .ok (.aload_n 0, 1) := by decide +kernel
theorem dX0_fromField_1 : decode cX0_fromField 1 = .ok (.iload_n 1, 1) := by decide +kernel
theorem dX0_fromField_2 : decode cX0_fromField 2 = .ok (.invokevirtual 48, 3) := by decide +kernel
theorem dX0_fromField_5 : decode cX0_fromField 5 = .ok (.ifCond .eq 20, 3) := by decide +kernel
theorem dX0_fromField_8 : decode cX0_fromField 8 = .ok (.aload_n 0, 1) := by decide +kernel
theorem dX0_fromField_9 : decode cX0_fromField 9 = .ok (.iload_n 2, 1) := by decide +kernel
theorem dX0_fromField_10 : decode cX0_fromField 10 = .ok (.invokevirtual 48, 3) := by decide +kernel
theorem dX0_fromField_13 : decode cX0_fromField 13 = .ok (.ifCond .eq 12, 3) := by decide +kernel
theorem dX0_fromField_16 : decode cX0_fromField 16 = .ok (.iload_n 3, 1) := by decide +kernel
theorem dX0_fromField_17 : decode cX0_fromField 17 = .ok (.ifCond .lt 8, 3) := by decide +kernel
theorem dX0_fromField_20 : decode cX0_fromField 20 = .ok (.iload_n 3, 1) := by decide +kernel
theorem dX0_fromField_21 : decode cX0_fromField 21 = .ok (.iconst 1, 1) := by decide +kernel
theorem dX0_fromField_22 : decode cX0_fromField 22 = .ok (.if_icmp .le 5, 3) := by decide +kernel
theorem dX0_fromField_25 : decode cX0_fromField 25 = .ok (.iconst (-1), 1) := by decide +kernel
theorem dX0_fromField_26 : decode cX0_fromField 26 = .ok (.ireturn, 1) := by decide +kernel
theorem dX0_fromField_27 : decode cX0_fromField 27 = .ok (.aload_n 0, 1) := by decide +kernel
theorem dX0_fromField_28 : decode cX0_fromField 28 = .ok (.getfield 29, 3) := by decide +kernel
theorem dX0_fromField_31 : decode cX0_fromField 31 = .ok (.iload_n 2, 1) := by decide +kernel
theorem dX0_fromField_32 : decode cX0_fromField 32 = .ok (.baload, 1) := by decide +kernel
theorem dX0_fromField_33 : decode cX0_fromField 33 = .ok (.ifCond .ge 6, 3) := by decide +kernel
theorem dX0_fromField_36 : decode cX0_fromField 36 = .ok (.bipush (-3), 2) := by decide +kernel
theorem dX0_fromField_38 : decode cX0_fromField 38 = .ok (.ireturn, 1) := by decide +kernel
theorem dX0_fromField_39 : decode cX0_fromField 39 = .ok (.aload_n 0, 1) := by decide +kernel
theorem dX0_fromField_40 : decode cX0_fromField 40 = .ok (.getfield 29, 3) := by decide +kernel
theorem dX0_fromField_43 : decode cX0_fromField 43 = .ok (.iload_n 1, 1) := by decide +kernel
theorem dX0_fromField_44 : decode cX0_fromField 44 = .ok (.aload_n 0, 1) := by decide +kernel
theorem dX0_fromField_45 : decode cX0_fromField 45 = .ok (.getfield 7, 3) := by decide +kernel
theorem dX0_fromField_48 : decode cX0_fromField 48 = .ok (.iconst 2, 1) := by decide +kernel
theorem dX0_fromField_49 : decode cX0_fromField 49 = .ok (.bipush 32, 2) := by decide +kernel
theorem dX0_fromField_51 : decode cX0_fromField 51 = .ok (.aload_n 0, 1) := by decide +kernel
theorem dX0_fromField_52 : decode cX0_fromField 52 = .ok (.getfield 67, 3) := by decide +kernel
theorem dX0_fromField_55 : decode cX0_fromField 55 = .ok (.imul, 1) := by decide +kernel
theorem dX0_fromField_56 : decode cX0_fromField 56 = .ok (.aload_n 0, 1) := by decide +kernel
theorem dX0_fromField_57 : decode cX0_fromField 57 = .ok (.getfield 29, 3) := by decide +kernel
theorem dX0_fromField_60 : decode cX0_fromField 60 = .ok (.iload_n 2, 1) := by decide +kernel
theorem dX0_fromField_61 : decode cX0_fromField 61 = .ok (.baload, 1) := by decide +kernel
theorem dX0_fromField_62 : decode cX0_fromField 62 = .ok (.iadd, 1) := by decide +kernel
theorem dX0_fromField_63 : decode cX0_fromField 63 = .ok (.imul, 1) := by decide +kernel
theorem dX0_fromField_64 : decode cX0_fromField 64 = .ok (.iload_n 3, 1) := by decide +kernel
theorem dX0_fromField_65 : decode cX0_fromField 65 = .ok (.iadd, 1) := by decide +kernel
theorem dX0_fromField_66 : decode cX0_fromField 66 = .ok (.baload, 1) := by decide +kernel
theorem dX0_fromField_67 : decode cX0_fromField 67 = .ok (.bastore, 1) := by decide +kernel
theorem dX0_fromField_68 : decode cX0_fromField 68 = .ok (.iconst 0, 1) := by decide +kernel
theorem dX0_fromField_69 : decode cX0_fromField 69 = .ok (.ireturn, 1) := by decide +kernel
theorem dX0_toField_0 : decode cX0_toField 0 = .ok (.aload_n 0, 1) := by decide +kernel
theorem dX0_toField_1 : decode cX0_toField 1 = .ok (.iload_n 3, 1) := by decide +kernel
theorem dX0_toField_2 : decode cX0_toField 2 = .ok (.invokevirtual 48, 3) := by decide +kernel
theorem dX0_toField_5 : decode cX0_toField 5 = .ok (.ifCond .eq 20, 3) := by decide +kernel
theorem dX0_toField_8 : decode cX0_toField 8 = .ok (.aload_n 0, 1) := by decide +kernel
theorem dX0_toField_9 : decode cX0_toField 9 = .ok (.iload_n 1, 1) := by decide +kernel
theorem dX0_toField_10 : decode cX0_toField 10 = .ok (.invokevirtual 48, 3) := by decide +kernel
theorem dX0_toField_13 : decode cX0_toField 13 = .ok (.ifCond .eq 12, 3) := by decide +kernel
theorem dX0_toField_16 : decode cX0_toField 16 = .ok (.iload_n 2, 1) := by decide +kernel
theorem dX0_toField_17 : decode cX0_toField 17 = .ok (.ifCond .lt 8, 3) := by decide +kernel
theorem dX0_toField_20 : decode cX0_toField 20 = .ok (.iload_n 2, 1) := by decide +kernel
theorem dX0_toField_21 : decode cX0_toField 21 = .ok (.iconst 1, 1) := by decide +kernel
theorem dX0_toField_22 : decode cX0_toField 22 = .ok (.if_icmp .le 5, 3) := by decide +kernel
theorem dX0_toField_25 : decode cX0_toField 25 = .ok (.iconst (-1), 1) := by decide +kernel
theorem dX0_toField_26 : decode cX0_toField 26 = .ok (.ireturn, 1) := by decide +kernel
theorem dX0_toField_27 : decode cX0_toField 27 = .ok (.aload_n 0, 1) := by decide +kernel
theorem dX0_toField_28 : decode cX0_toField 28 = .ok (.getfield 29, 3) := by decide +kernel
theorem dX0_toField_31 : decode cX0_toField 31 = .ok (.iload_n 1, 1) := by decide +kernel
theorem dX0_toField_32 : decode cX0_toField 32 = .ok (.baload, 1) := by decide +kernel
theorem dX0_toField_33 : decode cX0_toField 33 = .ok (.ifCond .ge 6, 3) := by decide +kernel
theorem dX0_toField_36 : decode cX0_toField 36 = .ok (.bipush (-3), 2) := by decide +kernel
theorem dX0_toField_38 : decode cX0_toField 38 = .ok (.ireturn, 1) := by decide +kernel
theorem dX0_toField_39 : decode cX0_toField 39 = .ok (.aload_n 0, 1) := by decide +kernel
theorem dX0_toField_40 : decode cX0_toField 40 = .ok (.getfield 29, 3) := by decide +kernel
theorem dX0_toField_43 : decode cX0_toField 43 = .ok (.iload_n 1, 1) := by decide +kernel
theorem dX0_toField_44 : decode cX0_toField 44 = .ok (.baload, 1) := by decide +kernel
theorem dX0_toField_45 : decode cX0_toField 45 = .ok (.istore 4, 2) := by decide +kernel
theorem dX0_toField_47 : decode cX0_toField 47 = .ok (.iconst 2, 1) := by decide +kernel
theorem dX0_toField_48 : decode cX0_toField 48 = .ok (.bipush 32, 2) := by decide +kernel
theorem dX0_toField_50 : decode cX0_toField 50 = .ok (.aload_n 0, 1) := by decide +kernel
theorem dX0_toField_51 : decode cX0_toField 51 = .ok (.getfield 67, 3) := by decide +kernel
theorem dX0_toField_54 : decode cX0_toField 54 = .ok (.imul, 1) := by decide +kernel
theorem dX0_toField_55 : decode cX0_toField 55 = .ok (.iload 4, 2) := by decide +kernel
theorem dX0_toField_57 : decode cX0_toField 57 = .ok (.iadd, 1) := by decide +kernel
theorem dX0_toField_58 : decode cX0_toField 58 = .ok (.imul, 1) := by decide +kernel
theorem dX0_toField_59 : decode cX0_toField 59 = .ok (.iload_n 2, 1) := by decide +kernel
theorem dX0_toField_60 : decode cX0_toField 60 = .ok (.iadd, 1) := by decide +kernel
theorem dX0_toField_61 : decode cX0_toField 61 = .ok (.istore 5, 2) := by decide +kernel
theorem dX0_toField_63 : decode cX0_toField 63 = .ok (.aload_n 0, 1) := by decide +kernel
theorem dX0_toField_64 : decode cX0_toField 64 = .ok (.getfield 32, 3) := by decide +kernel
theorem dX0_toField_67 : decode cX0_toField 67 = .ok (.iload 4, 2) := by decide +kernel
theorem dX0_toField_69 : decode cX0_toField 69 = .ok (.baload, 1) := by decide +kernel
theorem dX0_toField_70 : decode cX0_toField 70 = .ok (.ifCond .ne 20, 3) := by decide +kernel
theorem dX0_toField_73 : decode cX0_toField 73 = .ok (.aload_n 0, 1) := by decide +kernel
theorem dX0_toField_74 : decode cX0_toField 74 = .ok (.iconst 3, 1) := by decide +kernel
theorem dX0_toField_75 : decode cX0_toField 75 = .ok (.iload 4, 2) := by decide +kernel
theorem dX0_toField_77 : decode cX0_toField 77 = .ok (.imul, 1) := by decide +kernel
theorem dX0_toField_78 : decode cX0_toField 78 = .ok (.iload_n 2, 1) := by decide +kernel
theorem dX0_toField_79 : decode cX0_toField 79 = .ok (.iadd, 1) := by decide +kernel
theorem dX0_toField_80 : decode cX0_toField 80 = .ok (.aload_n 0, 1) := by decide +kernel
theorem dX0_toField_81 : decode cX0_toField 81 = .ok (.getfield 7, 3) := by decide +kernel
theorem dX0_toField_84 : decode cX0_toField 84 = .ok (.iload 5, 2) := by decide +kernel
theorem dX0_toField_86 : decode cX0_toField 86 = .ok (.baload, 1) := by decide +kernel
theorem dX0_toField_87 : decode cX0_toField 87 = .ok (.invokevirtual 73, 3) := by decide +kernel
theorem dX0_toField_90 : decode cX0_toField 90 = .ok (.aload_n 0, 1) := by decide +kernel
theorem dX0_toField_91 : decode cX0_toField 91 = .ok (.getfield 7, 3) := by decide +kernel
theorem dX0_toField_94 : decode cX0_toField 94 = .ok (.iload 5, 2) := by decide +kernel
theorem dX0_toField_96 : decode cX0_toField 96 = .ok (.aload_n 0, 1) := by decide +kernel
theorem dX0_toField_97 : decode cX0_toField 97 = .ok (.getfield 29, 3) := by decide +kernel
theorem dX0_toField_100 : decode cX0_toField 100 = .ok (.iload_n 3, 1) := by decide +kernel
theorem dX0_toField_101 : decode cX0_toField 101 = .ok (.baload, 1) := by decide +kernel
theorem dX0_toField_102 : decode cX0_toField 102 = .ok (.bastore, 1) := by decide +kernel
theorem dX0_toField_103 : decode cX0_toField 103 = .ok (.iconst 0, 1) := by decide +kernel
theorem dX0_toField_104 : decode cX0_toField 104 = .ok (.ireturn, 1) := by decide +kernel
theorem dX0_release_0 : decode cX0_release 0 = .ok (.aload_n 0, 1) := by decide +kernel
theorem dX0_release_1 : decode cX0_release 1 = .ok (.iload_n 1, 1) := by decide +kernel
theorem dX0_release_2 : decode cX0_release 2 = .ok (.invokevirtual 48, 3) := by decide +kernel
theorem dX0_release_5 : decode cX0_release 5 = .ok (.ifCond .ne 5, 3) := by decide +kernel
theorem dX0_release_8 : decode cX0_release 8 = .ok (.iconst (-1), 1) := by decide +kernel
theorem dX0_release_9 : decode cX0_release 9 = .ok (.ireturn, 1) := by decide +kernel
theorem dX0_release_10 : decode cX0_release 10 = .ok (.aload_n 0, 1) := by decide +kernel
theorem dX0_release_11 : decode cX0_release 11 = .ok (.getfield 29, 3) := by decide +kernel
theorem dX0_release_14 : decode cX0_release 14 = .ok (.iload_n 1, 1) := by decide +kernel
theorem dX0_release_15 : decode cX0_release 15 = .ok (.iconst (-1), 1) := by decide +kernel
theorem dX0_release_16 : decode cX0_release 16 = .ok (.bastore, 1) := by decide +kernel
theorem dX0_release_17 : decode cX0_release 17 = .ok (.iconst 0, 1) := by decide +kernel
theorem dX0_release_18 : decode cX0_release 18 = .ok (.ireturn, 1) := by decide +kernel
theorem dX0_number_0 : decode cX0_number 0 = .ok (.aload_n 0, 1) := by decide +kernel
theorem dX0_number_1 : decode cX0_number 1 = .ok (.iload_n 1, 1) := by decide +kernel
theorem dX0_number_2 : decode cX0_number 2 = .ok (.invokevirtual 48, 3) := by decide +kernel
theorem dX0_number_5 : decode cX0_number 5 = .ok (.ifCond .eq 12, 3) := by decide +kernel
theorem dX0_number_8 : decode cX0_number 8 = .ok (.aload_n 0, 1) := by decide +kernel
theorem dX0_number_9 : decode cX0_number 9 = .ok (.getfield 29, 3) := by decide +kernel
theorem dX0_number_12 : decode cX0_number 12 = .ok (.iload_n 1, 1) := by decide +kernel
theorem dX0_number_13 : decode cX0_number 13 = .ok (.baload, 1) := by decide +kernel
theorem dX0_number_14 : decode cX0_number 14 = .ok (.ifCond .ge 7, 3) := by decide +kernel
theorem dX0_number_17 : decode cX0_number 17 = .ok (.iconst 0, 1) := by decide +kernel
theorem dX0_number_18 : decode cX0_number 18 = .ok (.goto 22, 3) := by decide +kernel
theorem dX0_number_21 : decode cX0_number 21 = .ok (.aload_n 0, 1) := by decide +kernel
theorem dX0_number_22 : decode cX0_number 22 = .ok (.getfield 13, 3) := by decide +kernel
theorem dX0_number_25 : decode cX0_number 25 = .ok (.bipush 32, 2) := by decide +kernel
theorem dX0_number_27 : decode cX0_number 27 = .ok (.aload_n 0, 1) := by decide +kernel
theorem dX0_number_28 : decode cX0_number 28 = .ok (.getfield 67, 3) := by decide +kernel
theorem dX0_number_31 : decode cX0_number 31 = .ok (.imul, 1) := by decide +kernel
theorem dX0_number_32 : decode cX0_number 32 = .ok (.aload_n 0, 1) := by decide +kernel
theorem dX0_number_33 : decode cX0_number 33 = .ok (.getfield 29, 3) := by decide +kernel
theorem dX0_number_36 : decode cX0_number 36 = .ok (.iload_n 1, 1) := by decide +kernel
theorem dX0_number_37 : decode cX0_number 37 = .ok (.baload, 1) := by decide +kernel
theorem dX0_number_38 : decode cX0_number 38 = .ok (.iadd, 1) := by decide +kernel
theorem dX0_number_39 : decode cX0_number 39 = .ok (.iaload, 1) := by decide +kernel
theorem dX0_number_40 : decode cX0_number 40 = .ok (.ireturn, 1) := by decide +kernel
theorem dX0_setNumber_0 : decode cX0_setNumber 0 = .ok (.aload_n 0, 1) := by decide +kernel
theorem dX0_setNumber_1 : decode cX0_setNumber 1 = .ok (.iload_n 1, 1) := by decide +kernel
theorem dX0_setNumber_2 : decode cX0_setNumber 2 = .ok (.invokevirtual 48, 3) := by decide +kernel
theorem dX0_setNumber_5 : decode cX0_setNumber 5 = .ok (.ifCond .ne 5, 3) := by decide +kernel
theorem dX0_setNumber_8 : decode cX0_setNumber 8 = .ok (.iconst (-1), 1) := by decide +kernel
theorem dX0_setNumber_9 : decode cX0_setNumber 9 = .ok (.ireturn, 1) := by decide +kernel
theorem dX0_setNumber_10 : decode cX0_setNumber 10 = .ok (.aload_n 0, 1) := by decide +kernel
theorem dX0_setNumber_11 : decode cX0_setNumber 11 = .ok (.getfield 29, 3) := by decide +kernel
theorem dX0_setNumber_14 : decode cX0_setNumber 14 = .ok (.iload_n 1, 1) := by decide +kernel
theorem dX0_setNumber_15 : decode cX0_setNumber 15 = .ok (.baload, 1) := by decide +kernel
theorem dX0_setNumber_16 : decode cX0_setNumber 16 = .ok (.ifCond .ge 6, 3) := by decide +kernel
theorem dX0_setNumber_19 : decode cX0_setNumber 19 = .ok (.bipush (-3), 2) := by decide +kernel
end
section
set_option maxRecDepth 100000
theorem dX0_setNumber_21 : decode cX0_setNumber 21 = .ok (.ireturn, 1) := by decide +kernel
theorem dX0_setNumber_22 : decode cX0_setNumber 22 = .ok (.aload_n 0, 1) := by decide +kernel
theorem dX0_setNumber_23 : decode cX0_setNumber 23 = .ok (.getfield 29, 3) := by decide +kernel
theorem dX0_setNumber_26 : decode cX0_setNumber 26 = .ok (.iload_n 1, 1) := by decide +kernel
theorem dX0_setNumber_27 : decode cX0_setNumber 27 = .ok (.baload, 1) := by decide +kernel
theorem dX0_setNumber_28 : decode cX0_setNumber 28 = .ok (.istore_n 3, 1) := by decide +kernel
theorem dX0_setNumber_29 : decode cX0_setNumber 29 = .ok (.aload_n 0, 1) := by decide +kernel
theorem dX0_setNumber_30 : decode cX0_setNumber 30 = .ok (.getfield 32, 3) := by decide +kernel
theorem dX0_setNumber_33 : decode cX0_setNumber 33 = .ok (.iload_n 3, 1) := by decide +kernel
theorem dX0_setNumber_34 : decode cX0_setNumber 34 = .ok (.baload, 1) := by decide +kernel
theorem dX0_setNumber_35 : decode cX0_setNumber 35 = .ok (.ifCond .ne 26, 3) := by decide +kernel
theorem dX0_setNumber_38 : decode cX0_setNumber 38 = .ok (.aload_n 0, 1) := by decide +kernel
theorem dX0_setNumber_39 : decode cX0_setNumber 39 = .ok (.iconst 3, 1) := by decide +kernel
theorem dX0_setNumber_40 : decode cX0_setNumber 40 = .ok (.iload_n 3, 1) := by decide +kernel
theorem dX0_setNumber_41 : decode cX0_setNumber 41 = .ok (.imul, 1) := by decide +kernel
theorem dX0_setNumber_42 : decode cX0_setNumber 42 = .ok (.iconst 2, 1) := by decide +kernel
theorem dX0_setNumber_43 : decode cX0_setNumber 43 = .ok (.iadd, 1) := by decide +kernel
theorem dX0_setNumber_44 : decode cX0_setNumber 44 = .ok (.aload_n 0, 1) := by decide +kernel
theorem dX0_setNumber_45 : decode cX0_setNumber 45 = .ok (.getfield 13, 3) := by decide +kernel
theorem dX0_setNumber_48 : decode cX0_setNumber 48 = .ok (.bipush 32, 2) := by decide +kernel
theorem dX0_setNumber_50 : decode cX0_setNumber 50 = .ok (.aload_n 0, 1) := by decide +kernel
theorem dX0_setNumber_51 : decode cX0_setNumber 51 = .ok (.getfield 67, 3) := by decide +kernel
theorem dX0_setNumber_54 : decode cX0_setNumber 54 = .ok (.imul, 1) := by decide +kernel
theorem dX0_setNumber_55 : decode cX0_setNumber 55 = .ok (.iload_n 3, 1) := by decide +kernel
theorem dX0_setNumber_56 : decode cX0_setNumber 56 = .ok (.iadd, 1) := by decide +kernel
theorem dX0_setNumber_57 : decode cX0_setNumber 57 = .ok (.iaload, 1) := by decide +kernel
theorem dX0_setNumber_58 : decode cX0_setNumber 58 = .ok (.invokevirtual 73, 3) := by decide +kernel
theorem dX0_setNumber_61 : decode cX0_setNumber 61 = .ok (.aload_n 0, 1) := by decide +kernel
theorem dX0_setNumber_62 : decode cX0_setNumber 62 = .ok (.getfield 13, 3) := by decide +kernel
theorem dX0_setNumber_65 : decode cX0_setNumber 65 = .ok (.bipush 32, 2) := by decide +kernel
theorem dX0_setNumber_67 : decode cX0_setNumber 67 = .ok (.aload_n 0, 1) := by decide +kernel
theorem dX0_setNumber_68 : decode cX0_setNumber 68 = .ok (.getfield 67, 3) := by decide +kernel
theorem dX0_setNumber_71 : decode cX0_setNumber 71 = .ok (.imul, 1) := by decide +kernel
theorem dX0_setNumber_72 : decode cX0_setNumber 72 = .ok (.iload_n 3, 1) := by decide +kernel
theorem dX0_setNumber_73 : decode cX0_setNumber 73 = .ok (.iadd, 1) := by decide +kernel
theorem dX0_setNumber_74 : decode cX0_setNumber 74 = .ok (.iload_n 2, 1) := by decide +kernel
theorem dX0_setNumber_75 : decode cX0_setNumber 75 = .ok (.iastore, 1) := by decide +kernel
theorem dX0_setNumber_76 : decode cX0_setNumber 76 = .ok (.iconst 0, 1) := by decide +kernel
theorem dX0_setNumber_77 : decode cX0_setNumber 77 = .ok (.ireturn, 1) := by decide +kernel
theorem dX0_same_0 : decode cX0_same 0 = .ok (.aload_n 0, 1) := by decide +kernel
theorem dX0_same_1 : decode cX0_same 1 = .ok (.iload_n 1, 1) := by decide +kernel
theorem dX0_same_2 : decode cX0_same 2 = .ok (.invokevirtual 48, 3) := by decide +kernel
theorem dX0_same_5 : decode cX0_same 5 = .ok (.ifCond .eq 30, 3) := by decide +kernel
theorem dX0_same_8 : decode cX0_same 8 = .ok (.aload_n 0, 1) := by decide +kernel
theorem dX0_same_9 : decode cX0_same 9 = .ok (.iload_n 2, 1) := by decide +kernel
theorem dX0_same_10 : decode cX0_same 10 = .ok (.invokevirtual 48, 3) := by decide +kernel
theorem dX0_same_13 : decode cX0_same 13 = .ok (.ifCond .eq 22, 3) := by decide +kernel
theorem dX0_same_16 : decode cX0_same 16 = .ok (.aload_n 0, 1) := by decide +kernel
theorem dX0_same_17 : decode cX0_same 17 = .ok (.getfield 29, 3) := by decide +kernel
theorem dX0_same_20 : decode cX0_same 20 = .ok (.iload_n 1, 1) := by decide +kernel
theorem dX0_same_21 : decode cX0_same 21 = .ok (.baload, 1) := by decide +kernel
theorem dX0_same_22 : decode cX0_same 22 = .ok (.aload_n 0, 1) := by decide +kernel
theorem dX0_same_23 : decode cX0_same 23 = .ok (.getfield 29, 3) := by decide +kernel
theorem dX0_same_26 : decode cX0_same 26 = .ok (.iload_n 2, 1) := by decide +kernel
theorem dX0_same_27 : decode cX0_same 27 = .ok (.baload, 1) := by decide +kernel
theorem dX0_same_28 : decode cX0_same 28 = .ok (.if_icmp .ne 7, 3) := by decide +kernel
theorem dX0_same_31 : decode cX0_same 31 = .ok (.iconst 1, 1) := by decide +kernel
theorem dX0_same_32 : decode cX0_same 32 = .ok (.goto 4, 3) := by decide +kernel
theorem dX0_same_35 : decode cX0_same 35 = .ok (.iconst 0, 1) := by decide +kernel
theorem dX0_same_36 : decode cX0_same 36 = .ok (.ireturn, 1) := by decide +kernel
theorem dX0_save_0 : decode cX0_save 0 = .ok (.aload_n 0, 1) := by decide +kernel
theorem dX0_save_1 : decode cX0_save 1 = .ok (.getfield 20, 3) := by decide +kernel
theorem dX0_save_4 : decode cX0_save 4 = .ok (.aload_n 0, 1) := by decide +kernel
theorem dX0_save_5 : decode cX0_save 5 = .ok (.getfield 67, 3) := by decide +kernel
theorem dX0_save_8 : decode cX0_save 8 = .ok (.iconst 0, 1) := by decide +kernel
theorem dX0_save_9 : decode cX0_save 9 = .ok (.bastore, 1) := by decide +kernel
theorem dX0_save_10 : decode cX0_save 10 = .ok (.aload_n 0, 1) := by decide +kernel
theorem dX0_save_11 : decode cX0_save 11 = .ok (.invokevirtual 77, 3) := by decide +kernel
theorem dX0_save_14 : decode cX0_save 14 = .ok (.iconst 0, 1) := by decide +kernel
theorem dX0_save_15 : decode cX0_save 15 = .ok (.istore_n 1, 1) := by decide +kernel
theorem dX0_save_16 : decode cX0_save 16 = .ok (.iload_n 1, 1) := by decide +kernel
theorem dX0_save_17 : decode cX0_save 17 = .ok (.bipush 32, 2) := by decide +kernel
theorem dX0_save_19 : decode cX0_save 19 = .ok (.if_icmp .ge 16, 3) := by decide +kernel
theorem dX0_save_22 : decode cX0_save 22 = .ok (.aload_n 0, 1) := by decide +kernel
theorem dX0_save_23 : decode cX0_save 23 = .ok (.getfield 32, 3) := by decide +kernel
theorem dX0_save_26 : decode cX0_save 26 = .ok (.iload_n 1, 1) := by decide +kernel
theorem dX0_save_27 : decode cX0_save 27 = .ok (.iconst 0, 1) := by decide +kernel
theorem dX0_save_28 : decode cX0_save 28 = .ok (.bastore, 1) := by decide +kernel
theorem dX0_save_29 : decode cX0_save 29 = .ok (.iinc 1 1, 3) := by decide +kernel
theorem dX0_save_32 : decode cX0_save 32 = .ok (.goto (-16), 3) := by decide +kernel
theorem dX0_save_35 : decode cX0_save 35 = .ok (.aload_n 0, 1) := by decide +kernel
theorem dX0_save_36 : decode cX0_save 36 = .ok (.invokevirtual 80, 3) := by decide +kernel
theorem dX0_save_39 : decode cX0_save 39 = .ok (.ireturn, 1) := by decide +kernel
theorem dX0_fromRoots_0 : decode cX0_fromRoots 0 = .ok (.aload_n 0, 1) := by decide +kernel
theorem dX0_fromRoots_1 : decode cX0_fromRoots 1 = .ok (.invokevirtual 106, 3) := by decide +kernel
theorem dX0_fromRoots_4 : decode cX0_fromRoots 4 = .ok (.istore_n 1, 1) := by decide +kernel
theorem dX0_fromRoots_5 : decode cX0_fromRoots 5 = .ok (.aload_n 0, 1) := by decide +kernel
theorem dX0_fromRoots_6 : decode cX0_fromRoots 6 = .ok (.iload_n 1, 1) := by decide +kernel
theorem dX0_fromRoots_7 : decode cX0_fromRoots 7 = .ok (.iconst 0, 1) := by decide +kernel
theorem dX0_fromRoots_8 : decode cX0_fromRoots 8 = .ok (.invokevirtual 99, 3) := by decide +kernel
theorem dX0_fromRoots_11 : decode cX0_fromRoots 11 = .ok (.istore_n 2, 1) := by decide +kernel
theorem dX0_fromRoots_12 : decode cX0_fromRoots 12 = .ok (.aload_n 0, 1) := by decide +kernel
theorem dX0_fromRoots_13 : decode cX0_fromRoots 13 = .ok (.iload_n 2, 1) := by decide +kernel
theorem dX0_fromRoots_14 : decode cX0_fromRoots 14 = .ok (.invokevirtual 56, 3) := by decide +kernel
theorem dX0_fromRoots_17 : decode cX0_fromRoots 17 = .ok (.ireturn, 1) := by decide +kernel
theorem dX0_back_0 : decode cX0_back 0 = .ok (.aload_n 0, 1) := by decide +kernel
theorem dX0_back_1 : decode cX0_back 1 = .ok (.invokevirtual 83, 3) := by decide +kernel
theorem dX0_back_4 : decode cX0_back 4 = .ok (.aload_n 0, 1) := by decide +kernel
theorem dX0_back_5 : decode cX0_back 5 = .ok (.invokevirtual 80, 3) := by decide +kernel
theorem dX0_back_8 : decode cX0_back 8 = .ok (.ireturn, 1) := by decide +kernel
theorem dX0_putBack_0 : decode cX0_putBack 0 = .ok (.aload_n 0, 1) := by decide +kernel
theorem dX0_putBack_1 : decode cX0_putBack 1 = .ok (.getfield 20, 3) := by decide +kernel
theorem dX0_putBack_4 : decode cX0_putBack 4 = .ok (.aload_n 0, 1) := by decide +kernel
theorem dX0_putBack_5 : decode cX0_putBack 5 = .ok (.getfield 67, 3) := by decide +kernel
theorem dX0_putBack_8 : decode cX0_putBack 8 = .ok (.baload, 1) := by decide +kernel
theorem dX0_putBack_9 : decode cX0_putBack 9 = .ok (.iconst 1, 1) := by decide +kernel
theorem dX0_putBack_10 : decode cX0_putBack 10 = .ok (.isub, 1) := by decide +kernel
theorem dX0_putBack_11 : decode cX0_putBack 11 = .ok (.istore_n 1, 1) := by decide +kernel
theorem dX0_putBack_12 : decode cX0_putBack 12 = .ok (.iload_n 1, 1) := by decide +kernel
theorem dX0_putBack_13 : decode cX0_putBack 13 = .ok (.ifCond .lt 117, 3) := by decide +kernel
theorem dX0_putBack_16 : decode cX0_putBack 16 = .ok (.aload_n 0, 1) := by decide +kernel
theorem dX0_putBack_17 : decode cX0_putBack 17 = .ok (.getfield 23, 3) := by decide +kernel
theorem dX0_putBack_20 : decode cX0_putBack 20 = .ok (.bipush 99, 2) := by decide +kernel
theorem dX0_putBack_22 : decode cX0_putBack 22 = .ok (.aload_n 0, 1) := by decide +kernel
theorem dX0_putBack_23 : decode cX0_putBack 23 = .ok (.getfield 67, 3) := by decide +kernel
theorem dX0_putBack_26 : decode cX0_putBack 26 = .ok (.imul, 1) := by decide +kernel
theorem dX0_putBack_27 : decode cX0_putBack 27 = .ok (.iload_n 1, 1) := by decide +kernel
theorem dX0_putBack_28 : decode cX0_putBack 28 = .ok (.iadd, 1) := by decide +kernel
theorem dX0_putBack_29 : decode cX0_putBack 29 = .ok (.baload, 1) := by decide +kernel
theorem dX0_putBack_30 : decode cX0_putBack 30 = .ok (.istore_n 2, 1) := by decide +kernel
theorem dX0_putBack_31 : decode cX0_putBack 31 = .ok (.aload_n 0, 1) := by decide +kernel
theorem dX0_putBack_32 : decode cX0_putBack 32 = .ok (.getfield 26, 3) := by decide +kernel
theorem dX0_putBack_35 : decode cX0_putBack 35 = .ok (.bipush 99, 2) := by decide +kernel
theorem dX0_putBack_37 : decode cX0_putBack 37 = .ok (.aload_n 0, 1) := by decide +kernel
theorem dX0_putBack_38 : decode cX0_putBack 38 = .ok (.getfield 67, 3) := by decide +kernel
theorem dX0_putBack_41 : decode cX0_putBack 41 = .ok (.imul, 1) := by decide +kernel
theorem dX0_putBack_42 : decode cX0_putBack 42 = .ok (.iload_n 1, 1) := by decide +kernel
theorem dX0_putBack_43 : decode cX0_putBack 43 = .ok (.iadd, 1) := by decide +kernel
theorem dX0_putBack_44 : decode cX0_putBack 44 = .ok (.iaload, 1) := by decide +kernel
theorem dX0_putBack_45 : decode cX0_putBack 45 = .ok (.istore_n 3, 1) := by decide +kernel
theorem dX0_putBack_46 : decode cX0_putBack 46 = .ok (.iload_n 2, 1) := by decide +kernel
theorem dX0_putBack_47 : decode cX0_putBack 47 = .ok (.bipush 96, 2) := by decide +kernel
theorem dX0_putBack_49 : decode cX0_putBack 49 = .ok (.if_icmp .lt 24, 3) := by decide +kernel
theorem dX0_putBack_52 : decode cX0_putBack 52 = .ok (.aload_n 0, 1) := by decide +kernel
theorem dX0_putBack_53 : decode cX0_putBack 53 = .ok (.getfield 17, 3) := by decide +kernel
theorem dX0_putBack_56 : decode cX0_putBack 56 = .ok (.iconst 3, 1) := by decide +kernel
theorem dX0_putBack_57 : decode cX0_putBack 57 = .ok (.aload_n 0, 1) := by decide +kernel
theorem dX0_putBack_58 : decode cX0_putBack 58 = .ok (.getfield 67, 3) := by decide +kernel
theorem dX0_putBack_61 : decode cX0_putBack 61 = .ok (.imul, 1) := by decide +kernel
theorem dX0_putBack_62 : decode cX0_putBack 62 = .ok (.iload_n 2, 1) := by decide +kernel
theorem dX0_putBack_63 : decode cX0_putBack 63 = .ok (.iadd, 1) := by decide +kernel
theorem dX0_putBack_64 : decode cX0_putBack 64 = .ok (.bipush 96, 2) := by decide +kernel
theorem dX0_putBack_66 : decode cX0_putBack 66 = .ok (.isub, 1) := by decide +kernel
theorem dX0_putBack_67 : decode cX0_putBack 67 = .ok (.iload_n 3, 1) := by decide +kernel
theorem dX0_putBack_68 : decode cX0_putBack 68 = .ok (.i2b, 1) := by decide +kernel
theorem dX0_putBack_69 : decode cX0_putBack 69 = .ok (.bastore, 1) := by decide +kernel
theorem dX0_putBack_70 : decode cX0_putBack 70 = .ok (.goto 54, 3) := by decide +kernel
theorem dX0_putBack_73 : decode cX0_putBack 73 = .ok (.iload_n 2, 1) := by decide +kernel
theorem dX0_putBack_74 : decode cX0_putBack 74 = .ok (.iconst 3, 1) := by decide +kernel
theorem dX0_putBack_75 : decode cX0_putBack 75 = .ok (.irem, 1) := by decide +kernel
theorem dX0_putBack_76 : decode cX0_putBack 76 = .ok (.iconst 2, 1) := by decide +kernel
theorem dX0_putBack_77 : decode cX0_putBack 77 = .ok (.if_icmp .ne 23, 3) := by decide +kernel
theorem dX0_putBack_80 : decode cX0_putBack 80 = .ok (.aload_n 0, 1) := by decide +kernel
theorem dX0_putBack_81 : decode cX0_putBack 81 = .ok (.getfield 13, 3) := by decide +kernel
theorem dX0_putBack_84 : decode cX0_putBack 84 = .ok (.bipush 32, 2) := by decide +kernel
theorem dX0_putBack_86 : decode cX0_putBack 86 = .ok (.aload_n 0, 1) := by decide +kernel
theorem dX0_putBack_87 : decode cX0_putBack 87 = .ok (.getfield 67, 3) := by decide +kernel
theorem dX0_putBack_90 : decode cX0_putBack 90 = .ok (.imul, 1) := by decide +kernel
theorem dX0_putBack_91 : decode cX0_putBack 91 = .ok (.iload_n 2, 1) := by decide +kernel
theorem dX0_putBack_92 : decode cX0_putBack 92 = .ok (.iconst 3, 1) := by decide +kernel
theorem dX0_putBack_93 : decode cX0_putBack 93 = .ok (.idiv, 1) := by decide +kernel
theorem dX0_putBack_94 : decode cX0_putBack 94 = .ok (.iadd, 1) := by decide +kernel
theorem dX0_putBack_95 : decode cX0_putBack 95 = .ok (.iload_n 3, 1) := by decide +kernel
theorem dX0_putBack_96 : decode cX0_putBack 96 = .ok (.iastore, 1) := by decide +kernel
theorem dX0_putBack_97 : decode cX0_putBack 97 = .ok (.goto 27, 3) := by decide +kernel
theorem dX0_putBack_100 : decode cX0_putBack 100 = .ok (.aload_n 0, 1) := by decide +kernel
theorem dX0_putBack_101 : decode cX0_putBack 101 = .ok (.getfield 7, 3) := by decide +kernel
theorem dX0_putBack_104 : decode cX0_putBack 104 = .ok (.iconst 2, 1) := by decide +kernel
theorem dX0_putBack_105 : decode cX0_putBack 105 = .ok (.bipush 32, 2) := by decide +kernel
theorem dX0_putBack_107 : decode cX0_putBack 107 = .ok (.aload_n 0, 1) := by decide +kernel
theorem dX0_putBack_108 : decode cX0_putBack 108 = .ok (.getfield 67, 3) := by decide +kernel
theorem dX0_putBack_111 : decode cX0_putBack 111 = .ok (.imul, 1) := by decide +kernel
theorem dX0_putBack_112 : decode cX0_putBack 112 = .ok (.iload_n 2, 1) := by decide +kernel
theorem dX0_putBack_113 : decode cX0_putBack 113 = .ok (.iconst 3, 1) := by decide +kernel
theorem dX0_putBack_114 : decode cX0_putBack 114 = .ok (.idiv, 1) := by decide +kernel
theorem dX0_putBack_115 : decode cX0_putBack 115 = .ok (.iadd, 1) := by decide +kernel
theorem dX0_putBack_116 : decode cX0_putBack 116 = .ok (.imul, 1) := by decide +kernel
theorem dX0_putBack_117 : decode cX0_putBack 117 = .ok (.iload_n 2, 1) := by decide +kernel
theorem dX0_putBack_118 : decode cX0_putBack 118 = .ok (.iconst 3, 1) := by decide +kernel
theorem dX0_putBack_119 : decode cX0_putBack 119 = .ok (.irem, 1) := by decide +kernel
theorem dX0_putBack_120 : decode cX0_putBack 120 = .ok (.iadd, 1) := by decide +kernel
theorem dX0_putBack_121 : decode cX0_putBack 121 = .ok (.iload_n 3, 1) := by decide +kernel
theorem dX0_putBack_122 : decode cX0_putBack 122 = .ok (.i2b, 1) := by decide +kernel
theorem dX0_putBack_123 : decode cX0_putBack 123 = .ok (.bastore, 1) := by decide +kernel
theorem dX0_putBack_124 : decode cX0_putBack 124 = .ok (.iinc 1 (-1), 3) := by decide +kernel
theorem dX0_putBack_127 : decode cX0_putBack 127 = .ok (.goto (-115), 3) := by decide +kernel
theorem dX0_putBack_130 : decode cX0_putBack 130 = .ok (.aload_n 0, 1) := by decide +kernel
theorem dX0_putBack_131 : decode cX0_putBack 131 = .ok (.getfield 20, 3) := by decide +kernel
theorem dX0_putBack_134 : decode cX0_putBack 134 = .ok (.aload_n 0, 1) := by decide +kernel
theorem dX0_putBack_135 : decode cX0_putBack 135 = .ok (.getfield 67, 3) := by decide +kernel
theorem dX0_putBack_138 : decode cX0_putBack 138 = .ok (.iconst 0, 1) := by decide +kernel
theorem dX0_putBack_139 : decode cX0_putBack 139 = .ok (.bastore, 1) := by decide +kernel
theorem dX0_putBack_140 : decode cX0_putBack 140 = .ok (.aload_n 0, 1) := by decide +kernel
theorem dX0_putBack_141 : decode cX0_putBack 141 = .ok (.invokevirtual 77, 3) := by decide +kernel
theorem dX0_putBack_144 : decode cX0_putBack 144 = .ok (.return_, 1) := by decide +kernel
theorem dX0_crash_0 : decode cX0_crash 0 = .ok (.iload_n 1, 1) := by decide +kernel
theorem dX0_crash_1 : decode cX0_crash 1 = .ok (.ifCond .lt 8, 3) := by decide +kernel
theorem dX0_crash_4 : decode cX0_crash 4 = .ok (.iload_n 1, 1) := by decide +kernel
theorem dX0_crash_5 : decode cX0_crash 5 = .ok (.iconst 2, 1) := by decide +kernel
theorem dX0_crash_6 : decode cX0_crash 6 = .ok (.if_icmp .le 5, 3) := by decide +kernel
theorem dX0_crash_9 : decode cX0_crash 9 = .ok (.iconst (-1), 1) := by decide +kernel
theorem dX0_crash_10 : decode cX0_crash 10 = .ok (.ireturn, 1) := by decide +kernel
theorem dX0_crash_11 : decode cX0_crash 11 = .ok (.iload_n 1, 1) := by decide +kernel
theorem dX0_crash_12 : decode cX0_crash 12 = .ok (.iconst 2, 1) := by decide +kernel
theorem dX0_crash_13 : decode cX0_crash 13 = .ok (.if_icmp .ne 13, 3) := by decide +kernel
theorem dX0_crash_16 : decode cX0_crash 16 = .ok (.aload_n 0, 1) := by decide +kernel
theorem dX0_crash_17 : decode cX0_crash 17 = .ok (.getfield 20, 3) := by decide +kernel
theorem dX0_crash_20 : decode cX0_crash 20 = .ok (.aload_n 0, 1) := by decide +kernel
theorem dX0_crash_21 : decode cX0_crash 21 = .ok (.getfield 67, 3) := by decide +kernel
theorem dX0_crash_24 : decode cX0_crash 24 = .ok (.iconst 0, 1) := by decide +kernel
theorem dX0_crash_25 : decode cX0_crash 25 = .ok (.bastore, 1) := by decide +kernel
theorem dX0_crash_26 : decode cX0_crash 26 = .ok (.aload_n 0, 1) := by decide +kernel
theorem dX0_crash_27 : decode cX0_crash 27 = .ok (.invokevirtual 86, 3) := by decide +kernel
theorem dX0_crash_30 : decode cX0_crash 30 = .ok (.aload_n 0, 1) := by decide +kernel
theorem dX0_crash_31 : decode cX0_crash 31 = .ok (.invokevirtual 80, 3) := by decide +kernel
theorem dX0_crash_34 : decode cX0_crash 34 = .ok (.ireturn, 1) := by decide +kernel
theorem dX0_startAgain_0 : decode cX0_startAgain 0 = .ok (.iconst 0, 1) := by decide +kernel
theorem dX0_startAgain_1 : decode cX0_startAgain 1 = .ok (.istore_n 1, 1) := by decide +kernel
theorem dX0_startAgain_2 : decode cX0_startAgain 2 = .ok (.iload_n 1, 1) := by decide +kernel
theorem dX0_startAgain_3 : decode cX0_startAgain 3 = .ok (.iconst 4, 1) := by decide +kernel
theorem dX0_startAgain_4 : decode cX0_startAgain 4 = .ok (.if_icmp .ge 16, 3) := by decide +kernel
theorem dX0_startAgain_7 : decode cX0_startAgain 7 = .ok (.aload_n 0, 1) := by decide +kernel
theorem dX0_startAgain_8 : decode cX0_startAgain 8 = .ok (.getfield 29, 3) := by decide +kernel
theorem dX0_startAgain_11 : decode cX0_startAgain 11 = .ok (.iload_n 1, 1) := by decide +kernel
theorem dX0_startAgain_12 : decode cX0_startAgain 12 = .ok (.iconst (-1), 1) := by decide +kernel
theorem dX0_startAgain_13 : decode cX0_startAgain 13 = .ok (.bastore, 1) := by decide +kernel
theorem dX0_startAgain_14 : decode cX0_startAgain 14 = .ok (.iinc 1 1, 3) := by decide +kernel
theorem dX0_startAgain_17 : decode cX0_startAgain 17 = .ok (.goto (-15), 3) := by decide +kernel
theorem dX0_startAgain_20 : decode cX0_startAgain 20 = .ok (.aload_n 0, 1) := by decide +kernel
theorem dX0_startAgain_21 : decode cX0_startAgain 21 = .ok (.invokevirtual 83, 3) := by decide +kernel
theorem dX0_startAgain_24 : decode cX0_startAgain 24 = .ok (.iconst 0, 1) := by decide +kernel
theorem dX0_startAgain_25 : decode cX0_startAgain 25 = .ok (.istore_n 1, 1) := by decide +kernel
theorem dX0_startAgain_26 : decode cX0_startAgain 26 = .ok (.iload_n 1, 1) := by decide +kernel
theorem dX0_startAgain_27 : decode cX0_startAgain 27 = .ok (.bipush 32, 2) := by decide +kernel
theorem dX0_startAgain_29 : decode cX0_startAgain 29 = .ok (.if_icmp .ge 16, 3) := by decide +kernel
theorem dX0_startAgain_32 : decode cX0_startAgain 32 = .ok (.aload_n 0, 1) := by decide +kernel
theorem dX0_startAgain_33 : decode cX0_startAgain 33 = .ok (.getfield 32, 3) := by decide +kernel
theorem dX0_startAgain_36 : decode cX0_startAgain 36 = .ok (.iload_n 1, 1) := by decide +kernel
theorem dX0_startAgain_37 : decode cX0_startAgain 37 = .ok (.iconst 0, 1) := by decide +kernel
theorem dX0_startAgain_38 : decode cX0_startAgain 38 = .ok (.bastore, 1) := by decide +kernel
theorem dX0_startAgain_39 : decode cX0_startAgain 39 = .ok (.iinc 1 1, 3) := by decide +kernel
theorem dX0_startAgain_42 : decode cX0_startAgain 42 = .ok (.goto (-16), 3) := by decide +kernel
theorem dX0_startAgain_45 : decode cX0_startAgain 45 = .ok (.aload_n 0, 1) := by decide +kernel
theorem dX0_startAgain_46 : decode cX0_startAgain 46 = .ok (.bipush 32, 2) := by decide +kernel
theorem dX0_startAgain_48 : decode cX0_startAgain 48 = .ok (.putfield 60, 3) := by decide +kernel
theorem dX0_startAgain_51 : decode cX0_startAgain 51 = .ok (.aload_n 0, 1) := by decide +kernel
theorem dX0_startAgain_52 : decode cX0_startAgain 52 = .ok (.invokevirtual 52, 3) := by decide +kernel
theorem dX0_startAgain_55 : decode cX0_startAgain 55 = .ok (.istore_n 1, 1) := by decide +kernel
theorem dX0_startAgain_56 : decode cX0_startAgain 56 = .ok (.aload_n 0, 1) := by decide +kernel
theorem dX0_startAgain_57 : decode cX0_startAgain 57 = .ok (.getfield 60, 3) := by decide +kernel
theorem dX0_startAgain_60 : decode cX0_startAgain 60 = .ok (.ifCond .le 29, 3) := by decide +kernel
theorem dX0_startAgain_63 : decode cX0_startAgain 63 = .ok (.iload_n 1, 1) := by decide +kernel
theorem dX0_startAgain_64 : decode cX0_startAgain 64 = .ok (.aload_n 0, 1) := by decide +kernel
theorem dX0_startAgain_65 : decode cX0_startAgain 65 = .ok (.getfield 60, 3) := by decide +kernel
theorem dX0_startAgain_68 : decode cX0_startAgain 68 = .ok (.iconst 1, 1) := by decide +kernel
theorem dX0_startAgain_69 : decode cX0_startAgain 69 = .ok (.isub, 1) := by decide +kernel
theorem dX0_startAgain_70 : decode cX0_startAgain 70 = .ok (.iushr, 1) := by decide +kernel
theorem dX0_startAgain_71 : decode cX0_startAgain 71 = .ok (.iconst 1, 1) := by decide +kernel
theorem dX0_startAgain_72 : decode cX0_startAgain 72 = .ok (.iand, 1) := by decide +kernel
theorem dX0_startAgain_73 : decode cX0_startAgain 73 = .ok (.ifCond .ne 16, 3) := by decide +kernel
theorem dX0_startAgain_76 : decode cX0_startAgain 76 = .ok (.aload_n 0, 1) := by decide +kernel
theorem dX0_startAgain_77 : decode cX0_startAgain 77 = .ok (.dup, 1) := by decide +kernel
theorem dX0_startAgain_78 : decode cX0_startAgain 78 = .ok (.getfield 60, 3) := by decide +kernel
theorem dX0_startAgain_81 : decode cX0_startAgain 81 = .ok (.iconst 1, 1) := by decide +kernel
theorem dX0_startAgain_82 : decode cX0_startAgain 82 = .ok (.isub, 1) := by decide +kernel
theorem dX0_startAgain_83 : decode cX0_startAgain 83 = .ok (.putfield 60, 3) := by decide +kernel
theorem dX0_startAgain_86 : decode cX0_startAgain 86 = .ok (.goto (-30), 3) := by decide +kernel
theorem dX0_startAgain_89 : decode cX0_startAgain 89 = .ok (.return_, 1) := by decide +kernel
theorem dX0_collectAndCrash_0 : decode cX0_collectAndCrash 0 = .ok (.aload_n 0, 1) := by decide +kernel
theorem dX0_collectAndCrash_1 : decode cX0_collectAndCrash 1 = .ok (.iload_n 1, 1) := by decide +kernel
theorem dX0_collectAndCrash_2 : decode cX0_collectAndCrash 2 = .ok (.ifCond .ge 7, 3) := by decide +kernel
theorem dX0_collectAndCrash_5 : decode cX0_collectAndCrash 5 = .ok (.iconst 0, 1) := by decide +kernel
theorem dX0_collectAndCrash_6 : decode cX0_collectAndCrash 6 = .ok (.goto 15, 3) := by decide +kernel
theorem dX0_collectAndCrash_9 : decode cX0_collectAndCrash 9 = .ok (.iload_n 1, 1) := by decide +kernel
theorem dX0_collectAndCrash_10 : decode cX0_collectAndCrash 10 = .ok (.bipush 24, 2) := by decide +kernel
theorem dX0_collectAndCrash_12 : decode cX0_collectAndCrash 12 = .ok (.if_icmp .le 8, 3) := by decide +kernel
theorem dX0_collectAndCrash_15 : decode cX0_collectAndCrash 15 = .ok (.bipush 24, 2) := by decide +kernel
theorem dX0_collectAndCrash_17 : decode cX0_collectAndCrash 17 = .ok (.goto 4, 3) := by decide +kernel
theorem dX0_collectAndCrash_20 : decode cX0_collectAndCrash 20 = .ok (.iload_n 1, 1) := by decide +kernel
theorem dX0_collectAndCrash_21 : decode cX0_collectAndCrash 21 = .ok (.invokevirtual 89, 3) := by decide +kernel
theorem dX0_collectAndCrash_24 : decode cX0_collectAndCrash 24 = .ok (.aload_n 0, 1) := by decide +kernel
theorem dX0_collectAndCrash_25 : decode cX0_collectAndCrash 25 = .ok (.invokevirtual 86, 3) := by decide +kernel
theorem dX0_collectAndCrash_28 : decode cX0_collectAndCrash 28 = .ok (.aload_n 0, 1) := by decide +kernel
theorem dX0_collectAndCrash_29 : decode cX0_collectAndCrash 29 = .ok (.invokevirtual 80, 3) := by decide +kernel
theorem dX0_collectAndCrash_32 : decode cX0_collectAndCrash 32 = .ok (.ireturn, 1) := by decide +kernel
theorem dX0_needed_0 : decode cX0_needed 0 = .ok (.aload_n 0, 1) := by decide +kernel
theorem dX0_needed_1 : decode cX0_needed 1 = .ok (.invokevirtual 52, 3) := by decide +kernel
theorem dX0_needed_4 : decode cX0_needed 4 = .ok (.istore_n 1, 1) := by decide +kernel
theorem dX0_needed_5 : decode cX0_needed 5 = .ok (.aload_n 0, 1) := by decide +kernel
theorem dX0_needed_6 : decode cX0_needed 6 = .ok (.iload_n 1, 1) := by decide +kernel
theorem dX0_needed_7 : decode cX0_needed 7 = .ok (.invokevirtual 56, 3) := by decide +kernel
theorem dX0_needed_10 : decode cX0_needed 10 = .ok (.ireturn, 1) := by decide +kernel
theorem dX0_reach_0 : decode cX0_reach 0 = .ok (.aload_n 0, 1) := by decide +kernel
theorem dX0_reach_1 : decode cX0_reach 1 = .ok (.iload_n 1, 1) := by decide +kernel
theorem dX0_reach_2 : decode cX0_reach 2 = .ok (.invokevirtual 70, 3) := by decide +kernel
theorem dX0_reach_5 : decode cX0_reach 5 = .ok (.ifCond .ne 5, 3) := by decide +kernel
theorem dX0_reach_8 : decode cX0_reach 8 = .ok (.iconst (-1), 1) := by decide +kernel
theorem dX0_reach_9 : decode cX0_reach 9 = .ok (.ireturn, 1) := by decide +kernel
theorem dX0_reach_10 : decode cX0_reach 10 = .ok (.aload_n 0, 1) := by decide +kernel
theorem dX0_reach_11 : decode cX0_reach 11 = .ok (.getfield 17, 3) := by decide +kernel
theorem dX0_reach_14 : decode cX0_reach 14 = .ok (.iconst 3, 1) := by decide +kernel
theorem dX0_reach_15 : decode cX0_reach 15 = .ok (.aload_n 0, 1) := by decide +kernel
theorem dX0_reach_16 : decode cX0_reach 16 = .ok (.getfield 67, 3) := by decide +kernel
theorem dX0_reach_19 : decode cX0_reach 19 = .ok (.imul, 1) := by decide +kernel
theorem dX0_reach_20 : decode cX0_reach 20 = .ok (.iload_n 1, 1) := by decide +kernel
theorem dX0_reach_21 : decode cX0_reach 21 = .ok (.iadd, 1) := by decide +kernel
theorem dX0_reach_22 : decode cX0_reach 22 = .ok (.baload, 1) := by decide +kernel
theorem dX0_reach_23 : decode cX0_reach 23 = .ok (.ifCond .ge 7, 3) := by decide +kernel
theorem dX0_reach_26 : decode cX0_reach 26 = .ok (.iconst 0, 1) := by decide +kernel
theorem dX0_reach_27 : decode cX0_reach 27 = .ok (.goto 18, 3) := by decide +kernel
theorem dX0_reach_30 : decode cX0_reach 30 = .ok (.iconst 1, 1) := by decide +kernel
theorem dX0_reach_31 : decode cX0_reach 31 = .ok (.aload_n 0, 1) := by decide +kernel
theorem dX0_reach_32 : decode cX0_reach 32 = .ok (.getfield 17, 3) := by decide +kernel
theorem dX0_reach_35 : decode cX0_reach 35 = .ok (.iconst 3, 1) := by decide +kernel
theorem dX0_reach_36 : decode cX0_reach 36 = .ok (.aload_n 0, 1) := by decide +kernel
theorem dX0_reach_37 : decode cX0_reach 37 = .ok (.getfield 67, 3) := by decide +kernel
theorem dX0_reach_40 : decode cX0_reach 40 = .ok (.imul, 1) := by decide +kernel
theorem dX0_reach_41 : decode cX0_reach 41 = .ok (.iload_n 1, 1) := by decide +kernel
theorem dX0_reach_42 : decode cX0_reach 42 = .ok (.iadd, 1) := by decide +kernel
theorem dX0_reach_43 : decode cX0_reach 43 = .ok (.baload, 1) := by decide +kernel
theorem dX0_reach_44 : decode cX0_reach 44 = .ok (.ishl, 1) := by decide +kernel
theorem dX0_reach_45 : decode cX0_reach 45 = .ok (.istore_n 2, 1) := by decide +kernel
theorem dX0_reach_46 : decode cX0_reach 46 = .ok (.aload_n 0, 1) := by decide +kernel
theorem dX0_reach_47 : decode cX0_reach 47 = .ok (.iload_n 2, 1) := by decide +kernel
theorem dX0_reach_48 : decode cX0_reach 48 = .ok (.iconst 0, 1) := by decide +kernel
theorem dX0_reach_49 : decode cX0_reach 49 = .ok (.invokevirtual 99, 3) := by decide +kernel
theorem dX0_reach_52 : decode cX0_reach 52 = .ok (.istore_n 3, 1) := by decide +kernel
theorem dX0_reach_53 : decode cX0_reach 53 = .ok (.aload_n 0, 1) := by decide +kernel
theorem dX0_reach_54 : decode cX0_reach 54 = .ok (.iload_n 3, 1) := by decide +kernel
theorem dX0_reach_55 : decode cX0_reach 55 = .ok (.invokevirtual 56, 3) := by decide +kernel
theorem dX0_reach_58 : decode cX0_reach 58 = .ok (.ireturn, 1) := by decide +kernel
end
section
set_option maxRecDepth 100000
theorem dX1_init_0 : decode cX1_init 0 = .ok (.aload_n 0, 1) := by decide +kernel
theorem dX1_init_1 : decode cX1_init 1 = .ok (.invokespecial 1, 3) := by decide +kernel
theorem dX1_init_4 : decode cX1_init 4 = .ok (.aload_n 0, 1) := by decide +kernel
theorem dX1_init_5 : decode cX1_init 5 = .ok (.bipush 24, 2) := by decide +kernel
theorem dX1_init_7 : decode cX1_init 7 = .ok (.newarray .int, 2) := by decide +kernel
theorem dX1_init_9 : decode cX1_init 9 = .ok (.putfield 7, 3) := by decide +kernel
theorem dX1_init_12 : decode cX1_init 12 = .ok (.aload_n 0, 1) := by decide +kernel
theorem dX1_init_13 : decode cX1_init 13 = .ok (.bipush 24, 2) := by decide +kernel
theorem dX1_init_15 : decode cX1_init 15 = .ok (.newarray .int, 2) := by decide +kernel
theorem dX1_init_17 : decode cX1_init 17 = .ok (.putfield 13, 3) := by decide +kernel
theorem dX1_init_20 : decode cX1_init 20 = .ok (.aload_n 0, 1) := by decide +kernel
theorem dX1_init_21 : decode cX1_init 21 = .ok (.bipush 48, 2) := by decide +kernel
theorem dX1_init_23 : decode cX1_init 23 = .ok (.newarray .int, 2) := by decide +kernel
theorem dX1_init_25 : decode cX1_init 25 = .ok (.putfield 16, 3) := by decide +kernel
theorem dX1_init_28 : decode cX1_init 28 = .ok (.aload_n 0, 1) := by decide +kernel
theorem dX1_init_29 : decode cX1_init 29 = .ok (.bipush 48, 2) := by decide +kernel
theorem dX1_init_31 : decode cX1_init 31 = .ok (.newarray .int, 2) := by decide +kernel
theorem dX1_init_33 : decode cX1_init 33 = .ok (.putfield 19, 3) := by decide +kernel
theorem dX1_init_36 : decode cX1_init 36 = .ok (.aload_n 0, 1) := by decide +kernel
theorem dX1_init_37 : decode cX1_init 37 = .ok (.bipush 24, 2) := by decide +kernel
theorem dX1_init_39 : decode cX1_init 39 = .ok (.newarray .boolean, 2) := by decide +kernel
theorem dX1_init_41 : decode cX1_init 41 = .ok (.putfield 22, 3) := by decide +kernel
theorem dX1_init_44 : decode cX1_init 44 = .ok (.aload_n 0, 1) := by decide +kernel
theorem dX1_init_45 : decode cX1_init 45 = .ok (.iconst 3, 1) := by decide +kernel
theorem dX1_init_46 : decode cX1_init 46 = .ok (.newarray .int, 2) := by decide +kernel
theorem dX1_init_48 : decode cX1_init 48 = .ok (.putfield 26, 3) := by decide +kernel
theorem dX1_init_51 : decode cX1_init 51 = .ok (.aload_n 0, 1) := by decide +kernel
theorem dX1_init_52 : decode cX1_init 52 = .ok (.iconst 3, 1) := by decide +kernel
theorem dX1_init_53 : decode cX1_init 53 = .ok (.newarray .int, 2) := by decide +kernel
theorem dX1_init_55 : decode cX1_init 55 = .ok (.putfield 29, 3) := by decide +kernel
theorem dX1_init_58 : decode cX1_init 58 = .ok (.aload_n 0, 1) := by decide +kernel
theorem dX1_init_59 : decode cX1_init 59 = .ok (.iconst 4, 1) := by decide +kernel
theorem dX1_init_60 : decode cX1_init 60 = .ok (.newarray .int, 2) := by decide +kernel
theorem dX1_init_62 : decode cX1_init 62 = .ok (.putfield 32, 3) := by decide +kernel
theorem dX1_init_65 : decode cX1_init 65 = .ok (.aload_n 0, 1) := by decide +kernel
theorem dX1_init_66 : decode cX1_init 66 = .ok (.bipush 25, 2) := by decide +kernel
theorem dX1_init_68 : decode cX1_init 68 = .ok (.newarray .boolean, 2) := by decide +kernel
theorem dX1_init_70 : decode cX1_init 70 = .ok (.putfield 35, 3) := by decide +kernel
theorem dX1_init_73 : decode cX1_init 73 = .ok (.iconst 0, 1) := by decide +kernel
theorem dX1_init_74 : decode cX1_init 74 = .ok (.istore_n 1, 1) := by decide +kernel
theorem dX1_init_75 : decode cX1_init 75 = .ok (.iload_n 1, 1) := by decide +kernel
theorem dX1_init_76 : decode cX1_init 76 = .ok (.iconst 3, 1) := by decide +kernel
theorem dX1_init_77 : decode cX1_init 77 = .ok (.if_icmp .ge 17, 3) := by decide +kernel
theorem dX1_init_80 : decode cX1_init 80 = .ok (.aload_n 0, 1) := by decide +kernel
theorem dX1_init_81 : decode cX1_init 81 = .ok (.getfield 26, 3) := by decide +kernel
theorem dX1_init_84 : decode cX1_init 84 = .ok (.iload_n 1, 1) := by decide +kernel
theorem dX1_init_85 : decode cX1_init 85 = .ok (.bipush 24, 2) := by decide +kernel
theorem dX1_init_87 : decode cX1_init 87 = .ok (.iastore, 1) := by decide +kernel
theorem dX1_init_88 : decode cX1_init 88 = .ok (.iinc 1 1, 3) := by decide +kernel
theorem dX1_init_91 : decode cX1_init 91 = .ok (.goto (-16), 3) := by decide +kernel
theorem dX1_init_94 : decode cX1_init 94 = .ok (.iconst 0, 1) := by decide +kernel
theorem dX1_init_95 : decode cX1_init 95 = .ok (.istore_n 1, 1) := by decide +kernel
theorem dX1_init_96 : decode cX1_init 96 = .ok (.iload_n 1, 1) := by decide +kernel
theorem dX1_init_97 : decode cX1_init 97 = .ok (.iconst 3, 1) := by decide +kernel
theorem dX1_init_98 : decode cX1_init 98 = .ok (.if_icmp .ge 17, 3) := by decide +kernel
theorem dX1_init_101 : decode cX1_init 101 = .ok (.aload_n 0, 1) := by decide +kernel
theorem dX1_init_102 : decode cX1_init 102 = .ok (.getfield 29, 3) := by decide +kernel
theorem dX1_init_105 : decode cX1_init 105 = .ok (.iload_n 1, 1) := by decide +kernel
theorem dX1_init_106 : decode cX1_init 106 = .ok (.bipush 24, 2) := by decide +kernel
theorem dX1_init_108 : decode cX1_init 108 = .ok (.iastore, 1) := by decide +kernel
theorem dX1_init_109 : decode cX1_init 109 = .ok (.iinc 1 1, 3) := by decide +kernel
theorem dX1_init_112 : decode cX1_init 112 = .ok (.goto (-16), 3) := by decide +kernel
theorem dX1_init_115 : decode cX1_init 115 = .ok (.iconst 0, 1) := by decide +kernel
theorem dX1_init_116 : decode cX1_init 116 = .ok (.istore_n 1, 1) := by decide +kernel
theorem dX1_init_117 : decode cX1_init 117 = .ok (.iload_n 1, 1) := by decide +kernel
theorem dX1_init_118 : decode cX1_init 118 = .ok (.iconst 4, 1) := by decide +kernel
theorem dX1_init_119 : decode cX1_init 119 = .ok (.if_icmp .ge 17, 3) := by decide +kernel
theorem dX1_init_122 : decode cX1_init 122 = .ok (.aload_n 0, 1) := by decide +kernel
theorem dX1_init_123 : decode cX1_init 123 = .ok (.getfield 32, 3) := by decide +kernel
theorem dX1_init_126 : decode cX1_init 126 = .ok (.iload_n 1, 1) := by decide +kernel
theorem dX1_init_127 : decode cX1_init 127 = .ok (.bipush 24, 2) := by decide +kernel
theorem dX1_init_129 : decode cX1_init 129 = .ok (.iastore, 1) := by decide +kernel
theorem dX1_init_130 : decode cX1_init 130 = .ok (.iinc 1 1, 3) := by decide +kernel
theorem dX1_init_133 : decode cX1_init 133 = .ok (.goto (-16), 3) := by decide +kernel
theorem dX1_init_136 : decode cX1_init 136 = .ok (.iconst 0, 1) := by decide +kernel
theorem dX1_init_137 : decode cX1_init 137 = .ok (.istore_n 1, 1) := by decide +kernel
theorem dX1_init_138 : decode cX1_init 138 = .ok (.iload_n 1, 1) := by decide +kernel
theorem dX1_init_139 : decode cX1_init 139 = .ok (.bipush 48, 2) := by decide +kernel
theorem dX1_init_141 : decode cX1_init 141 = .ok (.if_icmp .ge 17, 3) := by decide +kernel
theorem dX1_init_144 : decode cX1_init 144 = .ok (.aload_n 0, 1) := by decide +kernel
theorem dX1_init_145 : decode cX1_init 145 = .ok (.getfield 16, 3) := by decide +kernel
theorem dX1_init_148 : decode cX1_init 148 = .ok (.iload_n 1, 1) := by decide +kernel
theorem dX1_init_149 : decode cX1_init 149 = .ok (.bipush 24, 2) := by decide +kernel
theorem dX1_init_151 : decode cX1_init 151 = .ok (.iastore, 1) := by decide +kernel
theorem dX1_init_152 : decode cX1_init 152 = .ok (.iinc 1 1, 3) := by decide +kernel
theorem dX1_init_155 : decode cX1_init 155 = .ok (.goto (-17), 3) := by decide +kernel
theorem dX1_init_158 : decode cX1_init 158 = .ok (.iconst 0, 1) := by decide +kernel
theorem dX1_init_159 : decode cX1_init 159 = .ok (.istore_n 1, 1) := by decide +kernel
theorem dX1_init_160 : decode cX1_init 160 = .ok (.iload_n 1, 1) := by decide +kernel
theorem dX1_init_161 : decode cX1_init 161 = .ok (.bipush 48, 2) := by decide +kernel
theorem dX1_init_163 : decode cX1_init 163 = .ok (.if_icmp .ge 17, 3) := by decide +kernel
theorem dX1_init_166 : decode cX1_init 166 = .ok (.aload_n 0, 1) := by decide +kernel
theorem dX1_init_167 : decode cX1_init 167 = .ok (.getfield 19, 3) := by decide +kernel
theorem dX1_init_170 : decode cX1_init 170 = .ok (.iload_n 1, 1) := by decide +kernel
theorem dX1_init_171 : decode cX1_init 171 = .ok (.bipush 24, 2) := by decide +kernel
theorem dX1_init_173 : decode cX1_init 173 = .ok (.iastore, 1) := by decide +kernel
theorem dX1_init_174 : decode cX1_init 174 = .ok (.iinc 1 1, 3) := by decide +kernel
theorem dX1_init_177 : decode cX1_init 177 = .ok (.goto (-17), 3) := by decide +kernel
theorem dX1_init_180 : decode cX1_init 180 = .ok (.return_, 1) := by decide +kernel
theorem dX1_make_0 : decode cX1_make 0 = .ok (.aload_n 0, 1) := by decide +kernel
theorem dX1_make_1 : decode cX1_make 1 = .ok (.iload_n 1, 1) := by decide +kernel
theorem dX1_make_2 : decode cX1_make 2 = .ok (.invokevirtual 45, 3) := by decide +kernel
theorem dX1_make_5 : decode cX1_make 5 = .ok (.ifCond .ne 5, 3) := by decide +kernel
theorem dX1_make_8 : decode cX1_make 8 = .ok (.iconst (-1), 1) := by decide +kernel
theorem dX1_make_9 : decode cX1_make 9 = .ok (.ireturn, 1) := by decide +kernel
theorem dX1_make_10 : decode cX1_make 10 = .ok (.aload_n 0, 1) := by decide +kernel
theorem dX1_make_11 : decode cX1_make 11 = .ok (.invokevirtual 49, 3) := by decide +kernel
theorem dX1_make_14 : decode cX1_make 14 = .ok (.bipush 24, 2) := by decide +kernel
theorem dX1_make_16 : decode cX1_make 16 = .ok (.if_icmp .ne 6, 3) := by decide +kernel
theorem dX1_make_19 : decode cX1_make 19 = .ok (.bipush (-2), 2) := by decide +kernel
theorem dX1_make_21 : decode cX1_make 21 = .ok (.ireturn, 1) := by decide +kernel
theorem dX1_make_22 : decode cX1_make 22 = .ok (.iconst 0, 1) := by decide +kernel
theorem dX1_make_23 : decode cX1_make 23 = .ok (.istore_n 3, 1) := by decide +kernel
theorem dX1_make_24 : decode cX1_make 24 = .ok (.bipush 23, 2) := by decide +kernel
theorem dX1_make_26 : decode cX1_make 26 = .ok (.istore 4, 2) := by decide +kernel
theorem dX1_make_28 : decode cX1_make 28 = .ok (.iload 4, 2) := by decide +kernel
theorem dX1_make_30 : decode cX1_make 30 = .ok (.ifCond .lt 22, 3) := by decide +kernel
theorem dX1_make_33 : decode cX1_make 33 = .ok (.aload_n 0, 1) := by decide +kernel
theorem dX1_make_34 : decode cX1_make 34 = .ok (.getfield 35, 3) := by decide +kernel
theorem dX1_make_37 : decode cX1_make 37 = .ok (.iload 4, 2) := by decide +kernel
theorem dX1_make_39 : decode cX1_make 39 = .ok (.baload, 1) := by decide +kernel
theorem dX1_make_40 : decode cX1_make 40 = .ok (.ifCond .ne 6, 3) := by decide +kernel
theorem dX1_make_43 : decode cX1_make 43 = .ok (.iload 4, 2) := by decide +kernel
theorem dX1_make_45 : decode cX1_make 45 = .ok (.istore_n 3, 1) := by decide +kernel
theorem dX1_make_46 : decode cX1_make 46 = .ok (.iinc 4 (-1), 3) := by decide +kernel
theorem dX1_make_49 : decode cX1_make 49 = .ok (.goto (-21), 3) := by decide +kernel
theorem dX1_make_52 : decode cX1_make 52 = .ok (.aload_n 0, 1) := by decide +kernel
theorem dX1_make_53 : decode cX1_make 53 = .ok (.getfield 7, 3) := by decide +kernel
theorem dX1_make_56 : decode cX1_make 56 = .ok (.iload_n 3, 1) := by decide +kernel
theorem dX1_make_57 : decode cX1_make 57 = .ok (.iload_n 2, 1) := by decide +kernel
theorem dX1_make_58 : decode cX1_make 58 = .ok (.iastore, 1) := by decide +kernel
theorem dX1_make_59 : decode cX1_make 59 = .ok (.aload_n 0, 1) := by decide +kernel
theorem dX1_make_60 : decode cX1_make 60 = .ok (.getfield 16, 3) := by decide +kernel
theorem dX1_make_63 : decode cX1_make 63 = .ok (.iconst 2, 1) := by decide +kernel
theorem dX1_make_64 : decode cX1_make 64 = .ok (.iload_n 3, 1) := by decide +kernel
theorem dX1_make_65 : decode cX1_make 65 = .ok (.imul, 1) := by decide +kernel
theorem dX1_make_66 : decode cX1_make 66 = .ok (.bipush 24, 2) := by decide +kernel
theorem dX1_make_68 : decode cX1_make 68 = .ok (.iastore, 1) := by decide +kernel
theorem dX1_make_69 : decode cX1_make 69 = .ok (.aload_n 0, 1) := by decide +kernel
theorem dX1_make_70 : decode cX1_make 70 = .ok (.getfield 16, 3) := by decide +kernel
theorem dX1_make_73 : decode cX1_make 73 = .ok (.iconst 2, 1) := by decide +kernel
theorem dX1_make_74 : decode cX1_make 74 = .ok (.iload_n 3, 1) := by decide +kernel
theorem dX1_make_75 : decode cX1_make 75 = .ok (.imul, 1) := by decide +kernel
theorem dX1_make_76 : decode cX1_make 76 = .ok (.iconst 1, 1) := by decide +kernel
theorem dX1_make_77 : decode cX1_make 77 = .ok (.iadd, 1) := by decide +kernel
theorem dX1_make_78 : decode cX1_make 78 = .ok (.bipush 24, 2) := by decide +kernel
theorem dX1_make_80 : decode cX1_make 80 = .ok (.iastore, 1) := by decide +kernel
theorem dX1_make_81 : decode cX1_make 81 = .ok (.aload_n 0, 1) := by decide +kernel
theorem dX1_make_82 : decode cX1_make 82 = .ok (.getfield 22, 3) := by decide +kernel
theorem dX1_make_85 : decode cX1_make 85 = .ok (.iload_n 3, 1) := by decide +kernel
theorem dX1_make_86 : decode cX1_make 86 = .ok (.iconst 0, 1) := by decide +kernel
theorem dX1_make_87 : decode cX1_make 87 = .ok (.bastore, 1) := by decide +kernel
theorem dX1_make_88 : decode cX1_make 88 = .ok (.aload_n 0, 1) := by decide +kernel
theorem dX1_make_89 : decode cX1_make 89 = .ok (.getfield 32, 3) := by decide +kernel
theorem dX1_make_92 : decode cX1_make 92 = .ok (.iload_n 1, 1) := by decide +kernel
theorem dX1_make_93 : decode cX1_make 93 = .ok (.iload_n 3, 1) := by decide +kernel
theorem dX1_make_94 : decode cX1_make 94 = .ok (.iastore, 1) := by decide +kernel
theorem dX1_make_95 : decode cX1_make 95 = .ok (.iconst 0, 1) := by decide +kernel
theorem dX1_make_96 : decode cX1_make 96 = .ok (.ireturn, 1) := by decide +kernel
theorem dX1_isRegister_0 : decode cX1_isRegister 0 = .ok (.iload_n 1, 1) := by decide +kernel
theorem dX1_isRegister_1 : decode cX1_isRegister 1 = .ok (.ifCond .lt 12, 3) := by decide +kernel
theorem dX1_isRegister_4 : decode cX1_isRegister 4 = .ok (.iload_n 1, 1) := by decide +kernel
theorem dX1_isRegister_5 : decode cX1_isRegister 5 = .ok (.iconst 3, 1) := by decide +kernel
theorem dX1_isRegister_6 : decode cX1_isRegister 6 = .ok (.if_icmp .gt 7, 3) := by decide +kernel
theorem dX1_isRegister_9 : decode cX1_isRegister 9 = .ok (.iconst 1, 1) := by decide +kernel
theorem dX1_isRegister_10 : decode cX1_isRegister 10 = .ok (.goto 4, 3) := by decide +kernel
theorem dX1_isRegister_13 : decode cX1_isRegister 13 = .ok (.iconst 0, 1) := by decide +kernel
theorem dX1_isRegister_14 : decode cX1_isRegister 14 = .ok (.ireturn, 1) := by decide +kernel
theorem dX1_need_0 : decode cX1_need 0 = .ok (.aload_n 0, 1) := by decide +kernel
theorem dX1_need_1 : decode cX1_need 1 = .ok (.invokevirtual 38, 3) := by decide +kernel
theorem dX1_need_4 : decode cX1_need 4 = .ok (.iconst 0, 1) := by decide +kernel
theorem dX1_need_5 : decode cX1_need 5 = .ok (.istore_n 1, 1) := by decide +kernel
theorem dX1_need_6 : decode cX1_need 6 = .ok (.iload_n 1, 1) := by decide +kernel
theorem dX1_need_7 : decode cX1_need 7 = .ok (.iconst 3, 1) := by decide +kernel
theorem dX1_need_8 : decode cX1_need 8 = .ok (.if_icmp .ge 21, 3) := by decide +kernel
theorem dX1_need_11 : decode cX1_need 11 = .ok (.aload_n 0, 1) := by decide +kernel
theorem dX1_need_12 : decode cX1_need 12 = .ok (.getfield 35, 3) := by decide +kernel
theorem dX1_need_15 : decode cX1_need 15 = .ok (.aload_n 0, 1) := by decide +kernel
theorem dX1_need_16 : decode cX1_need 16 = .ok (.getfield 26, 3) := by decide +kernel
theorem dX1_need_19 : decode cX1_need 19 = .ok (.iload_n 1, 1) := by decide +kernel
theorem dX1_need_20 : decode cX1_need 20 = .ok (.iaload, 1) := by decide +kernel
theorem dX1_need_21 : decode cX1_need 21 = .ok (.iconst 1, 1) := by decide +kernel
theorem dX1_need_22 : decode cX1_need 22 = .ok (.bastore, 1) := by decide +kernel
theorem dX1_need_23 : decode cX1_need 23 = .ok (.iinc 1 1, 3) := by decide +kernel
theorem dX1_need_26 : decode cX1_need 26 = .ok (.goto (-20), 3) := by decide +kernel
theorem dX1_need_29 : decode cX1_need 29 = .ok (.iconst 0, 1) := by decide +kernel
theorem dX1_need_30 : decode cX1_need 30 = .ok (.istore_n 1, 1) := by decide +kernel
theorem dX1_need_31 : decode cX1_need 31 = .ok (.iload_n 1, 1) := by decide +kernel
theorem dX1_need_32 : decode cX1_need 32 = .ok (.iconst 3, 1) := by decide +kernel
theorem dX1_need_33 : decode cX1_need 33 = .ok (.if_icmp .ge 21, 3) := by decide +kernel
theorem dX1_need_36 : decode cX1_need 36 = .ok (.aload_n 0, 1) := by decide +kernel
theorem dX1_need_37 : decode cX1_need 37 = .ok (.getfield 35, 3) := by decide +kernel
theorem dX1_need_40 : decode cX1_need 40 = .ok (.aload_n 0, 1) := by decide +kernel
theorem dX1_need_41 : decode cX1_need 41 = .ok (.getfield 29, 3) := by decide +kernel
theorem dX1_need_44 : decode cX1_need 44 = .ok (.iload_n 1, 1) := by decide +kernel
theorem dX1_need_45 : decode cX1_need 45 = .ok (.iaload, 1) := by decide +kernel
theorem dX1_need_46 : decode cX1_need 46 = .ok (.iconst 1, 1) := by decide +kernel
theorem dX1_need_47 : decode cX1_need 47 = .ok (.bastore, 1) := by decide +kernel
theorem dX1_need_48 : decode cX1_need 48 = .ok (.iinc 1 1, 3) := by decide +kernel
theorem dX1_need_51 : decode cX1_need 51 = .ok (.goto (-20), 3) := by decide +kernel
theorem dX1_need_54 : decode cX1_need 54 = .ok (.iconst 0, 1) := by decide +kernel
theorem dX1_need_55 : decode cX1_need 55 = .ok (.istore_n 1, 1) := by decide +kernel
theorem dX1_need_56 : decode cX1_need 56 = .ok (.iload_n 1, 1) := by decide +kernel
theorem dX1_need_57 : decode cX1_need 57 = .ok (.iconst 4, 1) := by decide +kernel
theorem dX1_need_58 : decode cX1_need 58 = .ok (.if_icmp .ge 21, 3) := by decide +kernel
theorem dX1_need_61 : decode cX1_need 61 = .ok (.aload_n 0, 1) := by decide +kernel
theorem dX1_need_62 : decode cX1_need 62 = .ok (.getfield 35, 3) := by decide +kernel
theorem dX1_need_65 : decode cX1_need 65 = .ok (.aload_n 0, 1) := by decide +kernel
theorem dX1_need_66 : decode cX1_need 66 = .ok (.getfield 32, 3) := by decide +kernel
theorem dX1_need_69 : decode cX1_need 69 = .ok (.iload_n 1, 1) := by decide +kernel
theorem dX1_need_70 : decode cX1_need 70 = .ok (.iaload, 1) := by decide +kernel
theorem dX1_need_71 : decode cX1_need 71 = .ok (.iconst 1, 1) := by decide +kernel
theorem dX1_need_72 : decode cX1_need 72 = .ok (.bastore, 1) := by decide +kernel
theorem dX1_need_73 : decode cX1_need 73 = .ok (.iinc 1 1, 3) := by decide +kernel
theorem dX1_need_76 : decode cX1_need 76 = .ok (.goto (-20), 3) := by decide +kernel
theorem dX1_need_79 : decode cX1_need 79 = .ok (.aload_n 0, 1) := by decide +kernel
theorem dX1_need_80 : decode cX1_need 80 = .ok (.iconst 1, 1) := by decide +kernel
theorem dX1_need_81 : decode cX1_need 81 = .ok (.invokevirtual 41, 3) := by decide +kernel
theorem dX1_need_84 : decode cX1_need 84 = .ok (.ireturn, 1) := by decide +kernel
theorem dX1_forget_0 : decode cX1_forget 0 = .ok (.iconst 0, 1) := by decide +kernel
theorem dX1_forget_1 : decode cX1_forget 1 = .ok (.istore_n 1, 1) := by decide +kernel
theorem dX1_forget_2 : decode cX1_forget 2 = .ok (.iload_n 1, 1) := by decide +kernel
theorem dX1_forget_3 : decode cX1_forget 3 = .ok (.bipush 24, 2) := by decide +kernel
theorem dX1_forget_5 : decode cX1_forget 5 = .ok (.if_icmp .gt 16, 3) := by decide +kernel
theorem dX1_forget_8 : decode cX1_forget 8 = .ok (.aload_n 0, 1) := by decide +kernel
theorem dX1_forget_9 : decode cX1_forget 9 = .ok (.getfield 35, 3) := by decide +kernel
theorem dX1_forget_12 : decode cX1_forget 12 = .ok (.iload_n 1, 1) := by decide +kernel
theorem dX1_forget_13 : decode cX1_forget 13 = .ok (.iconst 0, 1) := by decide +kernel
theorem dX1_forget_14 : decode cX1_forget 14 = .ok (.bastore, 1) := by decide +kernel
theorem dX1_forget_15 : decode cX1_forget 15 = .ok (.iinc 1 1, 3) := by decide +kernel
theorem dX1_forget_18 : decode cX1_forget 18 = .ok (.goto (-16), 3) := by decide +kernel
theorem dX1_forget_21 : decode cX1_forget 21 = .ok (.return_, 1) := by decide +kernel
theorem dX1_follow_0 : decode cX1_follow 0 = .ok (.iconst 0, 1) := by decide +kernel
theorem dX1_follow_1 : decode cX1_follow 1 = .ok (.istore_n 2, 1) := by decide +kernel
theorem dX1_follow_2 : decode cX1_follow 2 = .ok (.iload_n 2, 1) := by decide +kernel
theorem dX1_follow_3 : decode cX1_follow 3 = .ok (.bipush 24, 2) := by decide +kernel
theorem dX1_follow_5 : decode cX1_follow 5 = .ok (.if_icmp .ge 84, 3) := by decide +kernel
theorem dX1_follow_8 : decode cX1_follow 8 = .ok (.iconst 0, 1) := by decide +kernel
theorem dX1_follow_9 : decode cX1_follow 9 = .ok (.istore_n 3, 1) := by decide +kernel
theorem dX1_follow_10 : decode cX1_follow 10 = .ok (.iload_n 3, 1) := by decide +kernel
theorem dX1_follow_11 : decode cX1_follow 11 = .ok (.bipush 48, 2) := by decide +kernel
theorem dX1_follow_13 : decode cX1_follow 13 = .ok (.if_icmp .ge 70, 3) := by decide +kernel
theorem dX1_follow_16 : decode cX1_follow 16 = .ok (.aload_n 0, 1) := by decide +kernel
theorem dX1_follow_17 : decode cX1_follow 17 = .ok (.getfield 35, 3) := by decide +kernel
theorem dX1_follow_20 : decode cX1_follow 20 = .ok (.iload_n 3, 1) := by decide +kernel
theorem dX1_follow_21 : decode cX1_follow 21 = .ok (.iconst 2, 1) := by decide +kernel
theorem dX1_follow_22 : decode cX1_follow 22 = .ok (.idiv, 1) := by decide +kernel
theorem dX1_follow_23 : decode cX1_follow 23 = .ok (.baload, 1) := by decide +kernel
theorem dX1_follow_24 : decode cX1_follow 24 = .ok (.ifCond .eq 15, 3) := by decide +kernel
theorem dX1_follow_27 : decode cX1_follow 27 = .ok (.aload_n 0, 1) := by decide +kernel
theorem dX1_follow_28 : decode cX1_follow 28 = .ok (.getfield 35, 3) := by decide +kernel
theorem dX1_follow_31 : decode cX1_follow 31 = .ok (.aload_n 0, 1) := by decide +kernel
theorem dX1_follow_32 : decode cX1_follow 32 = .ok (.getfield 16, 3) := by decide +kernel
theorem dX1_follow_35 : decode cX1_follow 35 = .ok (.iload_n 3, 1) := by decide +kernel
theorem dX1_follow_36 : decode cX1_follow 36 = .ok (.iaload, 1) := by decide +kernel
theorem dX1_follow_37 : decode cX1_follow 37 = .ok (.iconst 1, 1) := by decide +kernel
theorem dX1_follow_38 : decode cX1_follow 38 = .ok (.bastore, 1) := by decide +kernel
theorem dX1_follow_39 : decode cX1_follow 39 = .ok (.aload_n 0, 1) := by decide +kernel
theorem dX1_follow_40 : decode cX1_follow 40 = .ok (.getfield 35, 3) := by decide +kernel
theorem dX1_follow_43 : decode cX1_follow 43 = .ok (.iload_n 3, 1) := by decide +kernel
theorem dX1_follow_44 : decode cX1_follow 44 = .ok (.iconst 2, 1) := by decide +kernel
theorem dX1_follow_45 : decode cX1_follow 45 = .ok (.idiv, 1) := by decide +kernel
theorem dX1_follow_46 : decode cX1_follow 46 = .ok (.baload, 1) := by decide +kernel
theorem dX1_follow_47 : decode cX1_follow 47 = .ok (.ifCond .eq 30, 3) := by decide +kernel
theorem dX1_follow_50 : decode cX1_follow 50 = .ok (.iload_n 1, 1) := by decide +kernel
theorem dX1_follow_51 : decode cX1_follow 51 = .ok (.ifCond .eq 26, 3) := by decide +kernel
theorem dX1_follow_54 : decode cX1_follow 54 = .ok (.aload_n 0, 1) := by decide +kernel
theorem dX1_follow_55 : decode cX1_follow 55 = .ok (.getfield 22, 3) := by decide +kernel
theorem dX1_follow_58 : decode cX1_follow 58 = .ok (.iload_n 3, 1) := by decide +kernel
theorem dX1_follow_59 : decode cX1_follow 59 = .ok (.iconst 2, 1) := by decide +kernel
theorem dX1_follow_60 : decode cX1_follow 60 = .ok (.idiv, 1) := by decide +kernel
theorem dX1_follow_61 : decode cX1_follow 61 = .ok (.baload, 1) := by decide +kernel
theorem dX1_follow_62 : decode cX1_follow 62 = .ok (.ifCond .eq 15, 3) := by decide +kernel
theorem dX1_follow_65 : decode cX1_follow 65 = .ok (.aload_n 0, 1) := by decide +kernel
theorem dX1_follow_66 : decode cX1_follow 66 = .ok (.getfield 35, 3) := by decide +kernel
theorem dX1_follow_69 : decode cX1_follow 69 = .ok (.aload_n 0, 1) := by decide +kernel
theorem dX1_follow_70 : decode cX1_follow 70 = .ok (.getfield 19, 3) := by decide +kernel
theorem dX1_follow_73 : decode cX1_follow 73 = .ok (.iload_n 3, 1) := by decide +kernel
theorem dX1_follow_74 : decode cX1_follow 74 = .ok (.iaload, 1) := by decide +kernel
theorem dX1_follow_75 : decode cX1_follow 75 = .ok (.iconst 1, 1) := by decide +kernel
theorem dX1_follow_76 : decode cX1_follow 76 = .ok (.bastore, 1) := by decide +kernel
theorem dX1_follow_77 : decode cX1_follow 77 = .ok (.iinc 3 1, 3) := by decide +kernel
theorem dX1_follow_80 : decode cX1_follow 80 = .ok (.goto (-70), 3) := by decide +kernel
theorem dX1_follow_83 : decode cX1_follow 83 = .ok (.iinc 2 1, 3) := by decide +kernel
theorem dX1_follow_86 : decode cX1_follow 86 = .ok (.goto (-84), 3) := by decide +kernel
theorem dX1_follow_89 : decode cX1_follow 89 = .ok (.iconst 0, 1) := by decide +kernel
theorem dX1_follow_90 : decode cX1_follow 90 = .ok (.istore_n 2, 1) := by decide +kernel
theorem dX1_follow_91 : decode cX1_follow 91 = .ok (.iconst 0, 1) := by decide +kernel
theorem dX1_follow_92 : decode cX1_follow 92 = .ok (.istore_n 3, 1) := by decide +kernel
theorem dX1_follow_93 : decode cX1_follow 93 = .ok (.iload_n 3, 1) := by decide +kernel
theorem dX1_follow_94 : decode cX1_follow 94 = .ok (.bipush 24, 2) := by decide +kernel
theorem dX1_follow_96 : decode cX1_follow 96 = .ok (.if_icmp .ge 21, 3) := by decide +kernel
theorem dX1_follow_99 : decode cX1_follow 99 = .ok (.aload_n 0, 1) := by decide +kernel
theorem dX1_follow_100 : decode cX1_follow 100 = .ok (.getfield 35, 3) := by decide +kernel
theorem dX1_follow_103 : decode cX1_follow 103 = .ok (.iload_n 3, 1) := by decide +kernel
theorem dX1_follow_104 : decode cX1_follow 104 = .ok (.baload, 1) := by decide +kernel
theorem dX1_follow_105 : decode cX1_follow 105 = .ok (.ifCond .eq 6, 3) := by decide +kernel
theorem dX1_follow_108 : decode cX1_follow 108 = .ok (.iinc 2 1, 3) := by decide +kernel
theorem dX1_follow_111 : decode cX1_follow 111 = .ok (.iinc 3 1, 3) := by decide +kernel
theorem dX1_follow_114 : decode cX1_follow 114 = .ok (.goto (-21), 3) := by decide +kernel
theorem dX1_follow_117 : decode cX1_follow 117 = .ok (.iload_n 2, 1) := by decide +kernel
theorem dX1_follow_118 : decode cX1_follow 118 = .ok (.ireturn, 1) := by decide +kernel
theorem dX1_fromRoot_0 : decode cX1_fromRoot 0 = .ok (.aload_n 0, 1) := by decide +kernel
theorem dX1_fromRoot_1 : decode cX1_fromRoot 1 = .ok (.iload_n 1, 1) := by decide +kernel
theorem dX1_fromRoot_2 : decode cX1_fromRoot 2 = .ok (.invokevirtual 45, 3) := by decide +kernel
theorem dX1_fromRoot_5 : decode cX1_fromRoot 5 = .ok (.ifCond .eq 11, 3) := by decide +kernel
theorem dX1_fromRoot_8 : decode cX1_fromRoot 8 = .ok (.aload_n 0, 1) := by decide +kernel
theorem dX1_fromRoot_9 : decode cX1_fromRoot 9 = .ok (.iload_n 2, 1) := by decide +kernel
theorem dX1_fromRoot_10 : decode cX1_fromRoot 10 = .ok (.invokevirtual 53, 3) := by decide +kernel
theorem dX1_fromRoot_13 : decode cX1_fromRoot 13 = .ok (.ifCond .ne 5, 3) := by decide +kernel
theorem dX1_fromRoot_16 : decode cX1_fromRoot 16 = .ok (.iconst (-1), 1) := by decide +kernel
theorem dX1_fromRoot_17 : decode cX1_fromRoot 17 = .ok (.ireturn, 1) := by decide +kernel
theorem dX1_fromRoot_18 : decode cX1_fromRoot 18 = .ok (.aload_n 0, 1) := by decide +kernel
theorem dX1_fromRoot_19 : decode cX1_fromRoot 19 = .ok (.getfield 32, 3) := by decide +kernel
theorem dX1_fromRoot_22 : decode cX1_fromRoot 22 = .ok (.iload_n 1, 1) := by decide +kernel
theorem dX1_fromRoot_23 : decode cX1_fromRoot 23 = .ok (.aload_n 0, 1) := by decide +kernel
theorem dX1_fromRoot_24 : decode cX1_fromRoot 24 = .ok (.getfield 26, 3) := by decide +kernel
theorem dX1_fromRoot_27 : decode cX1_fromRoot 27 = .ok (.iload_n 2, 1) := by decide +kernel
theorem dX1_fromRoot_28 : decode cX1_fromRoot 28 = .ok (.iaload, 1) := by decide +kernel
theorem dX1_fromRoot_29 : decode cX1_fromRoot 29 = .ok (.iastore, 1) := by decide +kernel
theorem dX1_fromRoot_30 : decode cX1_fromRoot 30 = .ok (.iconst 0, 1) := by decide +kernel
theorem dX1_fromRoot_31 : decode cX1_fromRoot 31 = .ok (.ireturn, 1) := by decide +kernel
theorem dX1_isRoot_0 : decode cX1_isRoot 0 = .ok (.iload_n 1, 1) := by decide +kernel
theorem dX1_isRoot_1 : decode cX1_isRoot 1 = .ok (.ifCond .lt 12, 3) := by decide +kernel
theorem dX1_isRoot_4 : decode cX1_isRoot 4 = .ok (.iload_n 1, 1) := by decide +kernel
theorem dX1_isRoot_5 : decode cX1_isRoot 5 = .ok (.iconst 2, 1) := by decide +kernel
theorem dX1_isRoot_6 : decode cX1_isRoot 6 = .ok (.if_icmp .gt 7, 3) := by decide +kernel
theorem dX1_isRoot_9 : decode cX1_isRoot 9 = .ok (.iconst 1, 1) := by decide +kernel
theorem dX1_isRoot_10 : decode cX1_isRoot 10 = .ok (.goto 4, 3) := by decide +kernel
theorem dX1_isRoot_13 : decode cX1_isRoot 13 = .ok (.iconst 0, 1) := by decide +kernel
theorem dX1_isRoot_14 : decode cX1_isRoot 14 = .ok (.ireturn, 1) := by decide +kernel
theorem dX1_toRoot_0 : decode cX1_toRoot 0 = .ok (.aload_n 0, 1) := by decide +kernel
theorem dX1_toRoot_1 : decode cX1_toRoot 1 = .ok (.iload_n 2, 1) := by decide +kernel
theorem dX1_toRoot_2 : decode cX1_toRoot 2 = .ok (.invokevirtual 45, 3) := by decide +kernel
theorem dX1_toRoot_5 : decode cX1_toRoot 5 = .ok (.ifCond .eq 11, 3) := by decide +kernel
theorem dX1_toRoot_8 : decode cX1_toRoot 8 = .ok (.aload_n 0, 1) := by decide +kernel
theorem dX1_toRoot_9 : decode cX1_toRoot 9 = .ok (.iload_n 1, 1) := by decide +kernel
theorem dX1_toRoot_10 : decode cX1_toRoot 10 = .ok (.invokevirtual 53, 3) := by decide +kernel
theorem dX1_toRoot_13 : decode cX1_toRoot 13 = .ok (.ifCond .ne 5, 3) := by decide +kernel
theorem dX1_toRoot_16 : decode cX1_toRoot 16 = .ok (.iconst (-1), 1) := by decide +kernel
theorem dX1_toRoot_17 : decode cX1_toRoot 17 = .ok (.ireturn, 1) := by decide +kernel
theorem dX1_toRoot_18 : decode cX1_toRoot 18 = .ok (.aload_n 0, 1) := by decide +kernel
theorem dX1_toRoot_19 : decode cX1_toRoot 19 = .ok (.getfield 26, 3) := by decide +kernel
theorem dX1_toRoot_22 : decode cX1_toRoot 22 = .ok (.iload_n 1, 1) := by decide +kernel
theorem dX1_toRoot_23 : decode cX1_toRoot 23 = .ok (.aload_n 0, 1) := by decide +kernel
theorem dX1_toRoot_24 : decode cX1_toRoot 24 = .ok (.getfield 32, 3) := by decide +kernel
theorem dX1_toRoot_27 : decode cX1_toRoot 27 = .ok (.iload_n 2, 1) := by decide +kernel
theorem dX1_toRoot_28 : decode cX1_toRoot 28 = .ok (.iaload, 1) := by decide +kernel
theorem dX1_toRoot_29 : decode cX1_toRoot 29 = .ok (.iastore, 1) := by decide +kernel
theorem dX1_toRoot_30 : decode cX1_toRoot 30 = .ok (.iconst 0, 1) := by decide +kernel
theorem dX1_toRoot_31 : decode cX1_toRoot 31 = .ok (.ireturn, 1) := by decide +kernel
theorem dX1_fromField_0 : decode cX1_fromField 0 = .ok (.aload_n 0, 1) := by decide +kernel
theorem dX1_fromField_1 : decode cX1_fromField 1 = .ok (.iload_n 1, 1) := by decide +kernel
theorem dX1_fromField_2 : decode cX1_fromField 2 = .ok (.invokevirtual 45, 3) := by decide +kernel
theorem dX1_fromField_5 : decode cX1_fromField 5 = .ok (.ifCond .eq 20, 3) := by decide +kernel
theorem dX1_fromField_8 : decode cX1_fromField 8 = .ok (.aload_n 0, 1) := by decide +kernel
theorem dX1_fromField_9 : decode cX1_fromField 9 = .ok (.iload_n 2, 1) := by decide +kernel
theorem dX1_fromField_10 : decode cX1_fromField 10 = .ok (.invokevirtual 45, 3) := by decide +kernel
theorem dX1_fromField_13 : decode cX1_fromField 13 = .ok (.ifCond .eq 12, 3) := by decide +kernel
theorem dX1_fromField_16 : decode cX1_fromField 16 = .ok (.iload_n 3, 1) := by decide +kernel
theorem dX1_fromField_17 : decode cX1_fromField 17 = .ok (.ifCond .lt 8, 3) := by decide +kernel
theorem dX1_fromField_20 : decode cX1_fromField 20 = .ok (.iload_n 3, 1) := by decide +kernel
theorem dX1_fromField_21 : decode cX1_fromField 21 = .ok (.iconst 1, 1) := by decide +kernel
theorem dX1_fromField_22 : decode cX1_fromField 22 = .ok (.if_icmp .le 5, 3) := by decide +kernel
theorem dX1_fromField_25 : decode cX1_fromField 25 = .ok (.iconst (-1), 1) := by decide +kernel
theorem dX1_fromField_26 : decode cX1_fromField 26 = .ok (.ireturn, 1) := by decide +kernel
theorem dX1_fromField_27 : decode cX1_fromField 27 = .ok (.aload_n 0, 1) := by decide +kernel
theorem dX1_fromField_28 : decode cX1_fromField 28 = .ok (.getfield 32, 3) := by decide +kernel
theorem dX1_fromField_31 : decode cX1_fromField 31 = .ok (.iload_n 2, 1) := by decide +kernel
theorem dX1_fromField_32 : decode cX1_fromField 32 = .ok (.iaload, 1) := by decide +kernel
theorem dX1_fromField_33 : decode cX1_fromField 33 = .ok (.bipush 24, 2) := by decide +kernel
theorem dX1_fromField_35 : decode cX1_fromField 35 = .ok (.if_icmp .ne 6, 3) := by decide +kernel
theorem dX1_fromField_38 : decode cX1_fromField 38 = .ok (.bipush (-3), 2) := by decide +kernel
theorem dX1_fromField_40 : decode cX1_fromField 40 = .ok (.ireturn, 1) := by decide +kernel
theorem dX1_fromField_41 : decode cX1_fromField 41 = .ok (.aload_n 0, 1) := by decide +kernel
theorem dX1_fromField_42 : decode cX1_fromField 42 = .ok (.getfield 32, 3) := by decide +kernel
theorem dX1_fromField_45 : decode cX1_fromField 45 = .ok (.iload_n 1, 1) := by decide +kernel
theorem dX1_fromField_46 : decode cX1_fromField 46 = .ok (.aload_n 0, 1) := by decide +kernel
theorem dX1_fromField_47 : decode cX1_fromField 47 = .ok (.getfield 16, 3) := by decide +kernel
theorem dX1_fromField_50 : decode cX1_fromField 50 = .ok (.iconst 2, 1) := by decide +kernel
theorem dX1_fromField_51 : decode cX1_fromField 51 = .ok (.aload_n 0, 1) := by decide +kernel
theorem dX1_fromField_52 : decode cX1_fromField 52 = .ok (.getfield 32, 3) := by decide +kernel
theorem dX1_fromField_55 : decode cX1_fromField 55 = .ok (.iload_n 2, 1) := by decide +kernel
theorem dX1_fromField_56 : decode cX1_fromField 56 = .ok (.iaload, 1) := by decide +kernel
theorem dX1_fromField_57 : decode cX1_fromField 57 = .ok (.imul, 1) := by decide +kernel
theorem dX1_fromField_58 : decode cX1_fromField 58 = .ok (.iload_n 3, 1) := by decide +kernel
theorem dX1_fromField_59 : decode cX1_fromField 59 = .ok (.iadd, 1) := by decide +kernel
theorem dX1_fromField_60 : decode cX1_fromField 60 = .ok (.iaload, 1) := by decide +kernel
theorem dX1_fromField_61 : decode cX1_fromField 61 = .ok (.iastore, 1) := by decide +kernel
theorem dX1_fromField_62 : decode cX1_fromField 62 = .ok (.iconst 0, 1) := by decide +kernel
theorem dX1_fromField_63 : decode cX1_fromField 63 = .ok (.ireturn, 1) := by decide +kernel
theorem dX1_toField_0 : decode cX1_toField 0 = .ok (.aload_n 0, 1) := by decide +kernel
theorem dX1_toField_1 : decode cX1_toField 1 = .ok (.iload_n 3, 1) := by decide +kernel
theorem dX1_toField_2 : decode cX1_toField 2 = .ok (.invokevirtual 45, 3) := by decide +kernel
theorem dX1_toField_5 : decode cX1_toField 5 = .ok (.ifCond .eq 20, 3) := by decide +kernel
theorem dX1_toField_8 : decode cX1_toField 8 = .ok (.aload_n 0, 1) := by decide +kernel
theorem dX1_toField_9 : decode cX1_toField 9 = .ok (.iload_n 1, 1) := by decide +kernel
theorem dX1_toField_10 : decode cX1_toField 10 = .ok (.invokevirtual 45, 3) := by decide +kernel
theorem dX1_toField_13 : decode cX1_toField 13 = .ok (.ifCond .eq 12, 3) := by decide +kernel
theorem dX1_toField_16 : decode cX1_toField 16 = .ok (.iload_n 2, 1) := by decide +kernel
end
section
set_option maxRecDepth 100000
theorem dX1_toField_17 : decode cX1_toField 17 = .ok (.ifCond .lt 8, 3) := by decide +kernel
theorem dX1_toField_20 : decode cX1_toField 20 = .ok (.iload_n 2, 1) := by decide +kernel
theorem dX1_toField_21 : decode cX1_toField 21 = .ok (.iconst 1, 1) := by decide +kernel
theorem dX1_toField_22 : decode cX1_toField 22 = .ok (.if_icmp .le 5, 3) := by decide +kernel
theorem dX1_toField_25 : decode cX1_toField 25 = .ok (.iconst (-1), 1) := by decide +kernel
theorem dX1_toField_26 : decode cX1_toField 26 = .ok (.ireturn, 1) := by decide +kernel
theorem dX1_toField_27 : decode cX1_toField 27 = .ok (.aload_n 0, 1) := by decide +kernel
theorem dX1_toField_28 : decode cX1_toField 28 = .ok (.getfield 32, 3) := by decide +kernel
theorem dX1_toField_31 : decode cX1_toField 31 = .ok (.iload_n 1, 1) := by decide +kernel
theorem dX1_toField_32 : decode cX1_toField 32 = .ok (.iaload, 1) := by decide +kernel
theorem dX1_toField_33 : decode cX1_toField 33 = .ok (.bipush 24, 2) := by decide +kernel
theorem dX1_toField_35 : decode cX1_toField 35 = .ok (.if_icmp .ne 6, 3) := by decide +kernel
theorem dX1_toField_38 : decode cX1_toField 38 = .ok (.bipush (-3), 2) := by decide +kernel
theorem dX1_toField_40 : decode cX1_toField 40 = .ok (.ireturn, 1) := by decide +kernel
theorem dX1_toField_41 : decode cX1_toField 41 = .ok (.aload_n 0, 1) := by decide +kernel
theorem dX1_toField_42 : decode cX1_toField 42 = .ok (.getfield 16, 3) := by decide +kernel
theorem dX1_toField_45 : decode cX1_toField 45 = .ok (.iconst 2, 1) := by decide +kernel
theorem dX1_toField_46 : decode cX1_toField 46 = .ok (.aload_n 0, 1) := by decide +kernel
theorem dX1_toField_47 : decode cX1_toField 47 = .ok (.getfield 32, 3) := by decide +kernel
theorem dX1_toField_50 : decode cX1_toField 50 = .ok (.iload_n 1, 1) := by decide +kernel
theorem dX1_toField_51 : decode cX1_toField 51 = .ok (.iaload, 1) := by decide +kernel
theorem dX1_toField_52 : decode cX1_toField 52 = .ok (.imul, 1) := by decide +kernel
theorem dX1_toField_53 : decode cX1_toField 53 = .ok (.iload_n 2, 1) := by decide +kernel
theorem dX1_toField_54 : decode cX1_toField 54 = .ok (.iadd, 1) := by decide +kernel
theorem dX1_toField_55 : decode cX1_toField 55 = .ok (.aload_n 0, 1) := by decide +kernel
theorem dX1_toField_56 : decode cX1_toField 56 = .ok (.getfield 32, 3) := by decide +kernel
theorem dX1_toField_59 : decode cX1_toField 59 = .ok (.iload_n 3, 1) := by decide +kernel
theorem dX1_toField_60 : decode cX1_toField 60 = .ok (.iaload, 1) := by decide +kernel
theorem dX1_toField_61 : decode cX1_toField 61 = .ok (.iastore, 1) := by decide +kernel
theorem dX1_toField_62 : decode cX1_toField 62 = .ok (.iconst 0, 1) := by decide +kernel
theorem dX1_toField_63 : decode cX1_toField 63 = .ok (.ireturn, 1) := by decide +kernel
theorem dX1_release_0 : decode cX1_release 0 = .ok (.aload_n 0, 1) := by decide +kernel
theorem dX1_release_1 : decode cX1_release 1 = .ok (.iload_n 1, 1) := by decide +kernel
theorem dX1_release_2 : decode cX1_release 2 = .ok (.invokevirtual 45, 3) := by decide +kernel
theorem dX1_release_5 : decode cX1_release 5 = .ok (.ifCond .ne 5, 3) := by decide +kernel
theorem dX1_release_8 : decode cX1_release 8 = .ok (.iconst (-1), 1) := by decide +kernel
theorem dX1_release_9 : decode cX1_release 9 = .ok (.ireturn, 1) := by decide +kernel
theorem dX1_release_10 : decode cX1_release 10 = .ok (.aload_n 0, 1) := by decide +kernel
theorem dX1_release_11 : decode cX1_release 11 = .ok (.getfield 32, 3) := by decide +kernel
theorem dX1_release_14 : decode cX1_release 14 = .ok (.iload_n 1, 1) := by decide +kernel
theorem dX1_release_15 : decode cX1_release 15 = .ok (.bipush 24, 2) := by decide +kernel
theorem dX1_release_17 : decode cX1_release 17 = .ok (.iastore, 1) := by decide +kernel
theorem dX1_release_18 : decode cX1_release 18 = .ok (.iconst 0, 1) := by decide +kernel
theorem dX1_release_19 : decode cX1_release 19 = .ok (.ireturn, 1) := by decide +kernel
theorem dX1_number_0 : decode cX1_number 0 = .ok (.aload_n 0, 1) := by decide +kernel
theorem dX1_number_1 : decode cX1_number 1 = .ok (.iload_n 1, 1) := by decide +kernel
theorem dX1_number_2 : decode cX1_number 2 = .ok (.invokevirtual 45, 3) := by decide +kernel
theorem dX1_number_5 : decode cX1_number 5 = .ok (.ifCond .eq 28, 3) := by decide +kernel
theorem dX1_number_8 : decode cX1_number 8 = .ok (.aload_n 0, 1) := by decide +kernel
theorem dX1_number_9 : decode cX1_number 9 = .ok (.getfield 32, 3) := by decide +kernel
theorem dX1_number_12 : decode cX1_number 12 = .ok (.iload_n 1, 1) := by decide +kernel
theorem dX1_number_13 : decode cX1_number 13 = .ok (.iaload, 1) := by decide +kernel
theorem dX1_number_14 : decode cX1_number 14 = .ok (.bipush 24, 2) := by decide +kernel
theorem dX1_number_16 : decode cX1_number 16 = .ok (.if_icmp .ge 17, 3) := by decide +kernel
theorem dX1_number_19 : decode cX1_number 19 = .ok (.aload_n 0, 1) := by decide +kernel
theorem dX1_number_20 : decode cX1_number 20 = .ok (.getfield 7, 3) := by decide +kernel
theorem dX1_number_23 : decode cX1_number 23 = .ok (.aload_n 0, 1) := by decide +kernel
theorem dX1_number_24 : decode cX1_number 24 = .ok (.getfield 32, 3) := by decide +kernel
theorem dX1_number_27 : decode cX1_number 27 = .ok (.iload_n 1, 1) := by decide +kernel
theorem dX1_number_28 : decode cX1_number 28 = .ok (.iaload, 1) := by decide +kernel
theorem dX1_number_29 : decode cX1_number 29 = .ok (.iaload, 1) := by decide +kernel
theorem dX1_number_30 : decode cX1_number 30 = .ok (.goto 4, 3) := by decide +kernel
theorem dX1_number_33 : decode cX1_number 33 = .ok (.iconst 0, 1) := by decide +kernel
theorem dX1_number_34 : decode cX1_number 34 = .ok (.ireturn, 1) := by decide +kernel
theorem dX1_setNumber_0 : decode cX1_setNumber 0 = .ok (.aload_n 0, 1) := by decide +kernel
theorem dX1_setNumber_1 : decode cX1_setNumber 1 = .ok (.iload_n 1, 1) := by decide +kernel
theorem dX1_setNumber_2 : decode cX1_setNumber 2 = .ok (.invokevirtual 45, 3) := by decide +kernel
theorem dX1_setNumber_5 : decode cX1_setNumber 5 = .ok (.ifCond .ne 5, 3) := by decide +kernel
theorem dX1_setNumber_8 : decode cX1_setNumber 8 = .ok (.iconst (-1), 1) := by decide +kernel
theorem dX1_setNumber_9 : decode cX1_setNumber 9 = .ok (.ireturn, 1) := by decide +kernel
theorem dX1_setNumber_10 : decode cX1_setNumber 10 = .ok (.aload_n 0, 1) := by decide +kernel
theorem dX1_setNumber_11 : decode cX1_setNumber 11 = .ok (.getfield 32, 3) := by decide +kernel
theorem dX1_setNumber_14 : decode cX1_setNumber 14 = .ok (.iload_n 1, 1) := by decide +kernel
theorem dX1_setNumber_15 : decode cX1_setNumber 15 = .ok (.iaload, 1) := by decide +kernel
theorem dX1_setNumber_16 : decode cX1_setNumber 16 = .ok (.bipush 24, 2) := by decide +kernel
theorem dX1_setNumber_18 : decode cX1_setNumber 18 = .ok (.if_icmp .ne 6, 3) := by decide +kernel
theorem dX1_setNumber_21 : decode cX1_setNumber 21 = .ok (.bipush (-3), 2) := by decide +kernel
theorem dX1_setNumber_23 : decode cX1_setNumber 23 = .ok (.ireturn, 1) := by decide +kernel
theorem dX1_setNumber_24 : decode cX1_setNumber 24 = .ok (.aload_n 0, 1) := by decide +kernel
theorem dX1_setNumber_25 : decode cX1_setNumber 25 = .ok (.getfield 7, 3) := by decide +kernel
theorem dX1_setNumber_28 : decode cX1_setNumber 28 = .ok (.aload_n 0, 1) := by decide +kernel
theorem dX1_setNumber_29 : decode cX1_setNumber 29 = .ok (.getfield 32, 3) := by decide +kernel
theorem dX1_setNumber_32 : decode cX1_setNumber 32 = .ok (.iload_n 1, 1) := by decide +kernel
theorem dX1_setNumber_33 : decode cX1_setNumber 33 = .ok (.iaload, 1) := by decide +kernel
theorem dX1_setNumber_34 : decode cX1_setNumber 34 = .ok (.iload_n 2, 1) := by decide +kernel
theorem dX1_setNumber_35 : decode cX1_setNumber 35 = .ok (.iastore, 1) := by decide +kernel
theorem dX1_setNumber_36 : decode cX1_setNumber 36 = .ok (.iconst 0, 1) := by decide +kernel
theorem dX1_setNumber_37 : decode cX1_setNumber 37 = .ok (.ireturn, 1) := by decide +kernel
theorem dX1_same_0 : decode cX1_same 0 = .ok (.aload_n 0, 1) := by decide +kernel
theorem dX1_same_1 : decode cX1_same 1 = .ok (.iload_n 1, 1) := by decide +kernel
theorem dX1_same_2 : decode cX1_same 2 = .ok (.invokevirtual 45, 3) := by decide +kernel
theorem dX1_same_5 : decode cX1_same 5 = .ok (.ifCond .eq 30, 3) := by decide +kernel
theorem dX1_same_8 : decode cX1_same 8 = .ok (.aload_n 0, 1) := by decide +kernel
theorem dX1_same_9 : decode cX1_same 9 = .ok (.iload_n 2, 1) := by decide +kernel
theorem dX1_same_10 : decode cX1_same 10 = .ok (.invokevirtual 45, 3) := by decide +kernel
theorem dX1_same_13 : decode cX1_same 13 = .ok (.ifCond .eq 22, 3) := by decide +kernel
theorem dX1_same_16 : decode cX1_same 16 = .ok (.aload_n 0, 1) := by decide +kernel
theorem dX1_same_17 : decode cX1_same 17 = .ok (.getfield 32, 3) := by decide +kernel
theorem dX1_same_20 : decode cX1_same 20 = .ok (.iload_n 1, 1) := by decide +kernel
theorem dX1_same_21 : decode cX1_same 21 = .ok (.iaload, 1) := by decide +kernel
theorem dX1_same_22 : decode cX1_same 22 = .ok (.aload_n 0, 1) := by decide +kernel
theorem dX1_same_23 : decode cX1_same 23 = .ok (.getfield 32, 3) := by decide +kernel
theorem dX1_same_26 : decode cX1_same 26 = .ok (.iload_n 2, 1) := by decide +kernel
theorem dX1_same_27 : decode cX1_same 27 = .ok (.iaload, 1) := by decide +kernel
theorem dX1_same_28 : decode cX1_same 28 = .ok (.if_icmp .ne 7, 3) := by decide +kernel
theorem dX1_same_31 : decode cX1_same 31 = .ok (.iconst 1, 1) := by decide +kernel
theorem dX1_same_32 : decode cX1_same 32 = .ok (.goto 4, 3) := by decide +kernel
theorem dX1_same_35 : decode cX1_same 35 = .ok (.iconst 0, 1) := by decide +kernel
theorem dX1_same_36 : decode cX1_same 36 = .ok (.ireturn, 1) := by decide +kernel
theorem dX1_save_0 : decode cX1_save 0 = .ok (.iconst 0, 1) := by decide +kernel
theorem dX1_save_1 : decode cX1_save 1 = .ok (.istore_n 1, 1) := by decide +kernel
theorem dX1_save_2 : decode cX1_save 2 = .ok (.iload_n 1, 1) := by decide +kernel
theorem dX1_save_3 : decode cX1_save 3 = .ok (.bipush 24, 2) := by decide +kernel
theorem dX1_save_5 : decode cX1_save 5 = .ok (.if_icmp .ge 28, 3) := by decide +kernel
theorem dX1_save_8 : decode cX1_save 8 = .ok (.aload_n 0, 1) := by decide +kernel
theorem dX1_save_9 : decode cX1_save 9 = .ok (.getfield 13, 3) := by decide +kernel
theorem dX1_save_12 : decode cX1_save 12 = .ok (.iload_n 1, 1) := by decide +kernel
theorem dX1_save_13 : decode cX1_save 13 = .ok (.aload_n 0, 1) := by decide +kernel
theorem dX1_save_14 : decode cX1_save 14 = .ok (.getfield 7, 3) := by decide +kernel
theorem dX1_save_17 : decode cX1_save 17 = .ok (.iload_n 1, 1) := by decide +kernel
theorem dX1_save_18 : decode cX1_save 18 = .ok (.iaload, 1) := by decide +kernel
theorem dX1_save_19 : decode cX1_save 19 = .ok (.iastore, 1) := by decide +kernel
theorem dX1_save_20 : decode cX1_save 20 = .ok (.aload_n 0, 1) := by decide +kernel
theorem dX1_save_21 : decode cX1_save 21 = .ok (.getfield 22, 3) := by decide +kernel
theorem dX1_save_24 : decode cX1_save 24 = .ok (.iload_n 1, 1) := by decide +kernel
theorem dX1_save_25 : decode cX1_save 25 = .ok (.iconst 1, 1) := by decide +kernel
theorem dX1_save_26 : decode cX1_save 26 = .ok (.bastore, 1) := by decide +kernel
theorem dX1_save_27 : decode cX1_save 27 = .ok (.iinc 1 1, 3) := by decide +kernel
theorem dX1_save_30 : decode cX1_save 30 = .ok (.goto (-28), 3) := by decide +kernel
theorem dX1_save_33 : decode cX1_save 33 = .ok (.iconst 0, 1) := by decide +kernel
theorem dX1_save_34 : decode cX1_save 34 = .ok (.istore_n 1, 1) := by decide +kernel
theorem dX1_save_35 : decode cX1_save 35 = .ok (.iload_n 1, 1) := by decide +kernel
theorem dX1_save_36 : decode cX1_save 36 = .ok (.bipush 48, 2) := by decide +kernel
theorem dX1_save_38 : decode cX1_save 38 = .ok (.if_icmp .ge 21, 3) := by decide +kernel
theorem dX1_save_41 : decode cX1_save 41 = .ok (.aload_n 0, 1) := by decide +kernel
theorem dX1_save_42 : decode cX1_save 42 = .ok (.getfield 19, 3) := by decide +kernel
theorem dX1_save_45 : decode cX1_save 45 = .ok (.iload_n 1, 1) := by decide +kernel
theorem dX1_save_46 : decode cX1_save 46 = .ok (.aload_n 0, 1) := by decide +kernel
theorem dX1_save_47 : decode cX1_save 47 = .ok (.getfield 16, 3) := by decide +kernel
theorem dX1_save_50 : decode cX1_save 50 = .ok (.iload_n 1, 1) := by decide +kernel
theorem dX1_save_51 : decode cX1_save 51 = .ok (.iaload, 1) := by decide +kernel
theorem dX1_save_52 : decode cX1_save 52 = .ok (.iastore, 1) := by decide +kernel
theorem dX1_save_53 : decode cX1_save 53 = .ok (.iinc 1 1, 3) := by decide +kernel
theorem dX1_save_56 : decode cX1_save 56 = .ok (.goto (-21), 3) := by decide +kernel
theorem dX1_save_59 : decode cX1_save 59 = .ok (.iconst 0, 1) := by decide +kernel
theorem dX1_save_60 : decode cX1_save 60 = .ok (.istore_n 1, 1) := by decide +kernel
theorem dX1_save_61 : decode cX1_save 61 = .ok (.iload_n 1, 1) := by decide +kernel
theorem dX1_save_62 : decode cX1_save 62 = .ok (.iconst 3, 1) := by decide +kernel
theorem dX1_save_63 : decode cX1_save 63 = .ok (.if_icmp .ge 21, 3) := by decide +kernel
theorem dX1_save_66 : decode cX1_save 66 = .ok (.aload_n 0, 1) := by decide +kernel
theorem dX1_save_67 : decode cX1_save 67 = .ok (.getfield 29, 3) := by decide +kernel
theorem dX1_save_70 : decode cX1_save 70 = .ok (.iload_n 1, 1) := by decide +kernel
theorem dX1_save_71 : decode cX1_save 71 = .ok (.aload_n 0, 1) := by decide +kernel
theorem dX1_save_72 : decode cX1_save 72 = .ok (.getfield 26, 3) := by decide +kernel
theorem dX1_save_75 : decode cX1_save 75 = .ok (.iload_n 1, 1) := by decide +kernel
theorem dX1_save_76 : decode cX1_save 76 = .ok (.iaload, 1) := by decide +kernel
theorem dX1_save_77 : decode cX1_save 77 = .ok (.iastore, 1) := by decide +kernel
theorem dX1_save_78 : decode cX1_save 78 = .ok (.iinc 1 1, 3) := by decide +kernel
theorem dX1_save_81 : decode cX1_save 81 = .ok (.goto (-20), 3) := by decide +kernel
theorem dX1_save_84 : decode cX1_save 84 = .ok (.aload_n 0, 1) := by decide +kernel
theorem dX1_save_85 : decode cX1_save 85 = .ok (.invokevirtual 56, 3) := by decide +kernel
theorem dX1_save_88 : decode cX1_save 88 = .ok (.ireturn, 1) := by decide +kernel
theorem dX1_fromRoots_0 : decode cX1_fromRoots 0 = .ok (.aload_n 0, 1) := by decide +kernel
theorem dX1_fromRoots_1 : decode cX1_fromRoots 1 = .ok (.invokevirtual 38, 3) := by decide +kernel
theorem dX1_fromRoots_4 : decode cX1_fromRoots 4 = .ok (.iconst 0, 1) := by decide +kernel
theorem dX1_fromRoots_5 : decode cX1_fromRoots 5 = .ok (.istore_n 1, 1) := by decide +kernel
theorem dX1_fromRoots_6 : decode cX1_fromRoots 6 = .ok (.iload_n 1, 1) := by decide +kernel
theorem dX1_fromRoots_7 : decode cX1_fromRoots 7 = .ok (.iconst 3, 1) := by decide +kernel
theorem dX1_fromRoots_8 : decode cX1_fromRoots 8 = .ok (.if_icmp .ge 21, 3) := by decide +kernel
theorem dX1_fromRoots_11 : decode cX1_fromRoots 11 = .ok (.aload_n 0, 1) := by decide +kernel
theorem dX1_fromRoots_12 : decode cX1_fromRoots 12 = .ok (.getfield 35, 3) := by decide +kernel
theorem dX1_fromRoots_15 : decode cX1_fromRoots 15 = .ok (.aload_n 0, 1) := by decide +kernel
theorem dX1_fromRoots_16 : decode cX1_fromRoots 16 = .ok (.getfield 26, 3) := by decide +kernel
theorem dX1_fromRoots_19 : decode cX1_fromRoots 19 = .ok (.iload_n 1, 1) := by decide +kernel
theorem dX1_fromRoots_20 : decode cX1_fromRoots 20 = .ok (.iaload, 1) := by decide +kernel
theorem dX1_fromRoots_21 : decode cX1_fromRoots 21 = .ok (.iconst 1, 1) := by decide +kernel
theorem dX1_fromRoots_22 : decode cX1_fromRoots 22 = .ok (.bastore, 1) := by decide +kernel
theorem dX1_fromRoots_23 : decode cX1_fromRoots 23 = .ok (.iinc 1 1, 3) := by decide +kernel
theorem dX1_fromRoots_26 : decode cX1_fromRoots 26 = .ok (.goto (-20), 3) := by decide +kernel
theorem dX1_fromRoots_29 : decode cX1_fromRoots 29 = .ok (.aload_n 0, 1) := by decide +kernel
theorem dX1_fromRoots_30 : decode cX1_fromRoots 30 = .ok (.iconst 0, 1) := by decide +kernel
theorem dX1_fromRoots_31 : decode cX1_fromRoots 31 = .ok (.invokevirtual 41, 3) := by decide +kernel
theorem dX1_fromRoots_34 : decode cX1_fromRoots 34 = .ok (.ireturn, 1) := by decide +kernel
theorem dX1_back_0 : decode cX1_back 0 = .ok (.iconst 0, 1) := by decide +kernel
theorem dX1_back_1 : decode cX1_back 1 = .ok (.istore_n 1, 1) := by decide +kernel
theorem dX1_back_2 : decode cX1_back 2 = .ok (.iload_n 1, 1) := by decide +kernel
theorem dX1_back_3 : decode cX1_back 3 = .ok (.bipush 24, 2) := by decide +kernel
theorem dX1_back_5 : decode cX1_back 5 = .ok (.if_icmp .ge 30, 3) := by decide +kernel
theorem dX1_back_8 : decode cX1_back 8 = .ok (.aload_n 0, 1) := by decide +kernel
theorem dX1_back_9 : decode cX1_back 9 = .ok (.getfield 22, 3) := by decide +kernel
theorem dX1_back_12 : decode cX1_back 12 = .ok (.iload_n 1, 1) := by decide +kernel
theorem dX1_back_13 : decode cX1_back 13 = .ok (.baload, 1) := by decide +kernel
theorem dX1_back_14 : decode cX1_back 14 = .ok (.ifCond .eq 15, 3) := by decide +kernel
theorem dX1_back_17 : decode cX1_back 17 = .ok (.aload_n 0, 1) := by decide +kernel
theorem dX1_back_18 : decode cX1_back 18 = .ok (.getfield 7, 3) := by decide +kernel
theorem dX1_back_21 : decode cX1_back 21 = .ok (.iload_n 1, 1) := by decide +kernel
theorem dX1_back_22 : decode cX1_back 22 = .ok (.aload_n 0, 1) := by decide +kernel
theorem dX1_back_23 : decode cX1_back 23 = .ok (.getfield 13, 3) := by decide +kernel
theorem dX1_back_26 : decode cX1_back 26 = .ok (.iload_n 1, 1) := by decide +kernel
theorem dX1_back_27 : decode cX1_back 27 = .ok (.iaload, 1) := by decide +kernel
theorem dX1_back_28 : decode cX1_back 28 = .ok (.iastore, 1) := by decide +kernel
theorem dX1_back_29 : decode cX1_back 29 = .ok (.iinc 1 1, 3) := by decide +kernel
theorem dX1_back_32 : decode cX1_back 32 = .ok (.goto (-30), 3) := by decide +kernel
theorem dX1_back_35 : decode cX1_back 35 = .ok (.iconst 0, 1) := by decide +kernel
theorem dX1_back_36 : decode cX1_back 36 = .ok (.istore_n 1, 1) := by decide +kernel
theorem dX1_back_37 : decode cX1_back 37 = .ok (.iload_n 1, 1) := by decide +kernel
theorem dX1_back_38 : decode cX1_back 38 = .ok (.bipush 48, 2) := by decide +kernel
theorem dX1_back_40 : decode cX1_back 40 = .ok (.if_icmp .ge 32, 3) := by decide +kernel
theorem dX1_back_43 : decode cX1_back 43 = .ok (.aload_n 0, 1) := by decide +kernel
theorem dX1_back_44 : decode cX1_back 44 = .ok (.getfield 22, 3) := by decide +kernel
theorem dX1_back_47 : decode cX1_back 47 = .ok (.iload_n 1, 1) := by decide +kernel
theorem dX1_back_48 : decode cX1_back 48 = .ok (.iconst 2, 1) := by decide +kernel
theorem dX1_back_49 : decode cX1_back 49 = .ok (.idiv, 1) := by decide +kernel
theorem dX1_back_50 : decode cX1_back 50 = .ok (.baload, 1) := by decide +kernel
theorem dX1_back_51 : decode cX1_back 51 = .ok (.ifCond .eq 15, 3) := by decide +kernel
theorem dX1_back_54 : decode cX1_back 54 = .ok (.aload_n 0, 1) := by decide +kernel
theorem dX1_back_55 : decode cX1_back 55 = .ok (.getfield 16, 3) := by decide +kernel
theorem dX1_back_58 : decode cX1_back 58 = .ok (.iload_n 1, 1) := by decide +kernel
theorem dX1_back_59 : decode cX1_back 59 = .ok (.aload_n 0, 1) := by decide +kernel
theorem dX1_back_60 : decode cX1_back 60 = .ok (.getfield 19, 3) := by decide +kernel
theorem dX1_back_63 : decode cX1_back 63 = .ok (.iload_n 1, 1) := by decide +kernel
theorem dX1_back_64 : decode cX1_back 64 = .ok (.iaload, 1) := by decide +kernel
theorem dX1_back_65 : decode cX1_back 65 = .ok (.iastore, 1) := by decide +kernel
theorem dX1_back_66 : decode cX1_back 66 = .ok (.iinc 1 1, 3) := by decide +kernel
theorem dX1_back_69 : decode cX1_back 69 = .ok (.goto (-32), 3) := by decide +kernel
theorem dX1_back_72 : decode cX1_back 72 = .ok (.iconst 0, 1) := by decide +kernel
theorem dX1_back_73 : decode cX1_back 73 = .ok (.istore_n 1, 1) := by decide +kernel
theorem dX1_back_74 : decode cX1_back 74 = .ok (.iload_n 1, 1) := by decide +kernel
theorem dX1_back_75 : decode cX1_back 75 = .ok (.iconst 3, 1) := by decide +kernel
theorem dX1_back_76 : decode cX1_back 76 = .ok (.if_icmp .ge 21, 3) := by decide +kernel
theorem dX1_back_79 : decode cX1_back 79 = .ok (.aload_n 0, 1) := by decide +kernel
theorem dX1_back_80 : decode cX1_back 80 = .ok (.getfield 26, 3) := by decide +kernel
theorem dX1_back_83 : decode cX1_back 83 = .ok (.iload_n 1, 1) := by decide +kernel
theorem dX1_back_84 : decode cX1_back 84 = .ok (.aload_n 0, 1) := by decide +kernel
theorem dX1_back_85 : decode cX1_back 85 = .ok (.getfield 29, 3) := by decide +kernel
theorem dX1_back_88 : decode cX1_back 88 = .ok (.iload_n 1, 1) := by decide +kernel
theorem dX1_back_89 : decode cX1_back 89 = .ok (.iaload, 1) := by decide +kernel
theorem dX1_back_90 : decode cX1_back 90 = .ok (.iastore, 1) := by decide +kernel
theorem dX1_back_91 : decode cX1_back 91 = .ok (.iinc 1 1, 3) := by decide +kernel
theorem dX1_back_94 : decode cX1_back 94 = .ok (.goto (-20), 3) := by decide +kernel
theorem dX1_back_97 : decode cX1_back 97 = .ok (.aload_n 0, 1) := by decide +kernel
theorem dX1_back_98 : decode cX1_back 98 = .ok (.invokevirtual 56, 3) := by decide +kernel
theorem dX1_back_101 : decode cX1_back 101 = .ok (.ireturn, 1) := by decide +kernel
theorem dX1_crash_0 : decode cX1_crash 0 = .ok (.iload_n 1, 1) := by decide +kernel
theorem dX1_crash_1 : decode cX1_crash 1 = .ok (.ifCond .lt 8, 3) := by decide +kernel
theorem dX1_crash_4 : decode cX1_crash 4 = .ok (.iload_n 1, 1) := by decide +kernel
theorem dX1_crash_5 : decode cX1_crash 5 = .ok (.iconst 2, 1) := by decide +kernel
theorem dX1_crash_6 : decode cX1_crash 6 = .ok (.if_icmp .le 5, 3) := by decide +kernel
theorem dX1_crash_9 : decode cX1_crash 9 = .ok (.iconst (-1), 1) := by decide +kernel
theorem dX1_crash_10 : decode cX1_crash 10 = .ok (.ireturn, 1) := by decide +kernel
theorem dX1_crash_11 : decode cX1_crash 11 = .ok (.iload_n 1, 1) := by decide +kernel
theorem dX1_crash_12 : decode cX1_crash 12 = .ok (.iconst 2, 1) := by decide +kernel
theorem dX1_crash_13 : decode cX1_crash 13 = .ok (.if_icmp .ne 8, 3) := by decide +kernel
theorem dX1_crash_16 : decode cX1_crash 16 = .ok (.aload_n 0, 1) := by decide +kernel
theorem dX1_crash_17 : decode cX1_crash 17 = .ok (.invokevirtual 59, 3) := by decide +kernel
theorem dX1_crash_20 : decode cX1_crash 20 = .ok (.pop, 1) := by decide +kernel
theorem dX1_crash_21 : decode cX1_crash 21 = .ok (.iconst 0, 1) := by decide +kernel
theorem dX1_crash_22 : decode cX1_crash 22 = .ok (.istore_n 2, 1) := by decide +kernel
theorem dX1_crash_23 : decode cX1_crash 23 = .ok (.iload_n 2, 1) := by decide +kernel
theorem dX1_crash_24 : decode cX1_crash 24 = .ok (.iconst 4, 1) := by decide +kernel
theorem dX1_crash_25 : decode cX1_crash 25 = .ok (.if_icmp .ge 17, 3) := by decide +kernel
theorem dX1_crash_28 : decode cX1_crash 28 = .ok (.aload_n 0, 1) := by decide +kernel
theorem dX1_crash_29 : decode cX1_crash 29 = .ok (.getfield 32, 3) := by decide +kernel
theorem dX1_crash_32 : decode cX1_crash 32 = .ok (.iload_n 2, 1) := by decide +kernel
theorem dX1_crash_33 : decode cX1_crash 33 = .ok (.bipush 24, 2) := by decide +kernel
theorem dX1_crash_35 : decode cX1_crash 35 = .ok (.iastore, 1) := by decide +kernel
theorem dX1_crash_36 : decode cX1_crash 36 = .ok (.iinc 2 1, 3) := by decide +kernel
theorem dX1_crash_39 : decode cX1_crash 39 = .ok (.goto (-16), 3) := by decide +kernel
theorem dX1_crash_42 : decode cX1_crash 42 = .ok (.aload_n 0, 1) := by decide +kernel
theorem dX1_crash_43 : decode cX1_crash 43 = .ok (.invokevirtual 62, 3) := by decide +kernel
theorem dX1_crash_46 : decode cX1_crash 46 = .ok (.ireturn, 1) := by decide +kernel
theorem dX1_collect_0 : decode cX1_collect 0 = .ok (.aload_n 0, 1) := by decide +kernel
theorem dX1_collect_1 : decode cX1_collect 1 = .ok (.invokevirtual 49, 3) := by decide +kernel
theorem dX1_collect_4 : decode cX1_collect 4 = .ok (.ireturn, 1) := by decide +kernel
theorem dX1_collectAndCrash_0 : decode cX1_collectAndCrash 0 = .ok (.aload_n 0, 1) := by decide +kernel
theorem dX1_collectAndCrash_1 : decode cX1_collectAndCrash 1 = .ok (.iconst 0, 1) := by decide +kernel
theorem dX1_collectAndCrash_2 : decode cX1_collectAndCrash 2 = .ok (.invokevirtual 65, 3) := by decide +kernel
theorem dX1_collectAndCrash_5 : decode cX1_collectAndCrash 5 = .ok (.ireturn, 1) := by decide +kernel
theorem dX1_needed_0 : decode cX1_needed 0 = .ok (.aload_n 0, 1) := by decide +kernel
theorem dX1_needed_1 : decode cX1_needed 1 = .ok (.invokevirtual 49, 3) := by decide +kernel
theorem dX1_needed_4 : decode cX1_needed 4 = .ok (.ireturn, 1) := by decide +kernel
theorem dX1_reach_0 : decode cX1_reach 0 = .ok (.aload_n 0, 1) := by decide +kernel
theorem dX1_reach_1 : decode cX1_reach 1 = .ok (.iload_n 1, 1) := by decide +kernel
theorem dX1_reach_2 : decode cX1_reach 2 = .ok (.invokevirtual 53, 3) := by decide +kernel
theorem dX1_reach_5 : decode cX1_reach 5 = .ok (.ifCond .ne 5, 3) := by decide +kernel
theorem dX1_reach_8 : decode cX1_reach 8 = .ok (.iconst (-1), 1) := by decide +kernel
theorem dX1_reach_9 : decode cX1_reach 9 = .ok (.ireturn, 1) := by decide +kernel
theorem dX1_reach_10 : decode cX1_reach 10 = .ok (.aload_n 0, 1) := by decide +kernel
theorem dX1_reach_11 : decode cX1_reach 11 = .ok (.invokevirtual 38, 3) := by decide +kernel
theorem dX1_reach_14 : decode cX1_reach 14 = .ok (.aload_n 0, 1) := by decide +kernel
theorem dX1_reach_15 : decode cX1_reach 15 = .ok (.getfield 35, 3) := by decide +kernel
theorem dX1_reach_18 : decode cX1_reach 18 = .ok (.aload_n 0, 1) := by decide +kernel
theorem dX1_reach_19 : decode cX1_reach 19 = .ok (.getfield 26, 3) := by decide +kernel
theorem dX1_reach_22 : decode cX1_reach 22 = .ok (.iload_n 1, 1) := by decide +kernel
theorem dX1_reach_23 : decode cX1_reach 23 = .ok (.iaload, 1) := by decide +kernel
theorem dX1_reach_24 : decode cX1_reach 24 = .ok (.iconst 1, 1) := by decide +kernel
theorem dX1_reach_25 : decode cX1_reach 25 = .ok (.bastore, 1) := by decide +kernel
theorem dX1_reach_26 : decode cX1_reach 26 = .ok (.aload_n 0, 1) := by decide +kernel
theorem dX1_reach_27 : decode cX1_reach 27 = .ok (.iconst 0, 1) := by decide +kernel
theorem dX1_reach_28 : decode cX1_reach 28 = .ok (.invokevirtual 41, 3) := by decide +kernel
theorem dX1_reach_31 : decode cX1_reach 31 = .ok (.ireturn, 1) := by decide +kernel
end
section
/-! PLAIN WORDS: ranges of the table's rows, masks, counts, closures, fills and repetitions -/
def loX (k : Nat) : Int := match k with
  | 1 => -1
  | 2 => -2147483648
  | 3 => -1
  | 6 => -2147483648
  | 7 => -1
  | 11 => -1
  | _ => 0
def hiX (k : Nat) : Int := match k with
  | 0 => 1
  | 1 => 31
  | 2 => 2147483647
  | 3 => 31
  | 4 => 99
  | 5 => 98
  | 6 => 2147483647
  | 7 => 31
  | 8 => 32
  | 9 => 1
  | 10 => 1
  | 11 => 31
  | 12 => 31
  | 13 => 32
  | 14 => 32
  | _ => 1
/-- every row of the class's table is in its range -/
def Rg (S : St) : Prop := ∀ (k : Nat) (i : Int), 0 ≤ i → i < (lenX k : Int) → loX k ≤ S k i ∧ S k i ≤ hiX k
theorem Rg.put {S : St} (hR : Rg S) {k : Nat} {i z : Int} (h0 : loX k ≤ z) (h1 : z ≤ hiX k) : Rg (wr S k i z) := by
  intro k' i' h2 h3
  by_cases hk : k' = k
  · subst hk
    by_cases hi : i' = i
    · subst hi; rw [wr_s]; exact ⟨h0, h1⟩
    · rw [wr_i hi]; exact hR k' i' h2 h3
  · rw [wr_k hk]; exact hR k' i' h2 h3
theorem Rg.r0 {S : St} (hR : Rg S) : 0 ≤ S 0 0 ∧ S 0 0 ≤ 1 := hR 0 0 (by decide) (by decide)
theorem Rg.r1 {S : St} (hR : Rg S) {i : Int} (h0 : 0 ≤ i) (h1 : i < 128) : -1 ≤ S 1 i ∧ S 1 i ≤ 31 := hR 1 i h0 h1
theorem Rg.r2 {S : St} (hR : Rg S) {i : Int} (h0 : 0 ≤ i) (h1 : i < 64) : inI (S 2 i) := hR 2 i h0 h1
theorem Rg.r3 {S : St} (hR : Rg S) {i : Int} (h0 : 0 ≤ i) (h1 : i < 6) : -1 ≤ S 3 i ∧ S 3 i ≤ 31 := hR 3 i h0 h1
theorem Rg.r4 {S : St} (hR : Rg S) {i : Int} (h0 : 0 ≤ i) (h1 : i < 2) : 0 ≤ S 4 i ∧ S 4 i ≤ 99 := hR 4 i h0 h1
theorem Rg.r5 {S : St} (hR : Rg S) {i : Int} (h0 : 0 ≤ i) (h1 : i < 198) : 0 ≤ S 5 i ∧ S 5 i ≤ 98 := hR 5 i h0 h1
theorem Rg.r6 {S : St} (hR : Rg S) {i : Int} (h0 : 0 ≤ i) (h1 : i < 198) : inI (S 6 i) := hR 6 i h0 h1
theorem Rg.r7 {S : St} (hR : Rg S) {i : Int} (h0 : 0 ≤ i) (h1 : i < 4) : -1 ≤ S 7 i ∧ S 7 i ≤ 31 := hR 7 i h0 h1
theorem Rg.r8 {S : St} (hR : Rg S) : 0 ≤ S 8 0 ∧ S 8 0 ≤ 32 := hR 8 0 (by decide) (by decide)
theorem Rg.r9 {S : St} (hR : Rg S) {i : Int} (h0 : 0 ≤ i) (h1 : i < 32) : 0 ≤ S 9 i ∧ S 9 i ≤ 1 := hR 9 i h0 h1
theorem Rg.r10 {S : St} (hR : Rg S) {i : Int} (h0 : 0 ≤ i) (h1 : i < 99) : 0 ≤ S 10 i ∧ S 10 i ≤ 1 := hR 10 i h0 h1
theorem Rg.r11 {S : St} (hR : Rg S) {i : Int} (h0 : 0 ≤ i) (h1 : i < 32) : -1 ≤ S 11 i ∧ S 11 i ≤ 31 := hR 11 i h0 h1
theorem Rg.r12 {S : St} (hR : Rg S) {i : Int} (h0 : 0 ≤ i) (h1 : i < 32) : 0 ≤ S 12 i ∧ S 12 i ≤ 31 := hR 12 i h0 h1
theorem Rg.r13 {S : St} (hR : Rg S) : 0 ≤ S 13 0 ∧ S 13 0 ≤ 32 := hR 13 0 (by decide) (by decide)
theorem Rg.r14 {S : St} (hR : Rg S) : 0 ≤ S 14 0 ∧ S 14 0 ≤ 32 := hR 14 0 (by decide) (by decide)
theorem Rg.r15 {S : St} (hR : Rg S) {i : Int} (h0 : 0 ≤ i) (h1 : i < 32) : 0 ≤ S 15 i ∧ S 15 i ≤ 1 := hR 15 i h0 h1
/-- a list's entry of a root or of a field holds an object or nothing -/
def Rf (S : St) : Prop := ∀ i : Int, 0 ≤ i → i < 198 → (96 ≤ S 5 i ∨ ¬ S 5 i % 3 = 2) → -1 ≤ S 6 i ∧ S 6 i ≤ 31
/-! masks -/
def mbI (m : Int32) (j : Int) : Prop := 0 ≤ j ∧ j < 32 ∧ m.toBitVec.getLsbD j.toNat = true
theorem mb_sl : ∀ l : Fin 32, (((Int32.ofNat l.val).toUInt32 &&& Int32.toUInt32 31).toBitVec % 32).toNat = l.val := by decide
theorem iI_nat (n : Nat) : iI (n : Int) = Int32.ofNat n := Int32.ofInt_eq_ofNat
/-- the bit at place j, as the class asks for it -/
theorem mb_bit0 (m : Int32) {j : Int} (h0 : 0 ≤ j) (h1 : j < 32) : ((m.toUInt32 >>> ((iI j).toUInt32 &&& Int32.toUInt32 31)).toInt32 &&& iI 1) = if m.toBitVec.getLsbD j.toNat = true then iI 1 else iI 0 := by
  obtain ⟨n, rfl⟩ := Int.eq_ofNat_of_zero_le h0
  have hn : n < 32 := by omega
  have h2 := mb_sl ⟨n, hn⟩
  rw [iI_nat]
  apply Int32.toBitVec_inj.mp
  apply BitVec.eq_of_getLsbD_eq
  intro i hi
  have h3 : ((m.toUInt32 >>> ((Int32.ofNat n).toUInt32 &&& Int32.toUInt32 31)).toInt32 &&& iI 1).toBitVec = (m.toBitVec >>> n) &&& 1#32 := by
    rw [Int32.toBitVec_and]
    congr 1
    show (m.toUInt32 >>> _).toBitVec = _
    rw [UInt32.toBitVec_shiftRight]
    show m.toBitVec >>> (((Int32.ofNat n).toUInt32 &&& Int32.toUInt32 31).toBitVec % 32).toNat = _
    rw [h2]
  rw [h3, BitVec.getLsbD_and, BitVec.getLsbD_ushiftRight]
  show (m.toBitVec.getLsbD (n + i) && (1#32).getLsbD i) = _
  rw [Int.toNat_natCast]
  by_cases hi0 : i = 0
  · subst hi0
    rw [Nat.add_zero]
    cases m.toBitVec.getLsbD n <;> decide
  · have h4 : (1#32).getLsbD i = false := by
      rw [BitVec.getLsbD_one]
      simp [hi0]
    rw [h4, Bool.and_false]
    cases m.toBitVec.getLsbD n
    · show _ = (iI 0).toBitVec.getLsbD i
      rw [iI_0]
      simp
    · show _ = (iI 1).toBitVec.getLsbD i
      rw [iI_1]
      exact h4.symm
def bI (m : Int32) (j : Int) : Int := if m.toBitVec.getLsbD j.toNat = true then 1 else 0
theorem bI_le (m : Int32) (j : Int) : 0 ≤ bI m j ∧ bI m j ≤ 1 := by
  unfold bI
  split
  · exact ⟨by decide, by decide⟩
  · exact ⟨by decide, by decide⟩
theorem bI_y {m : Int32} {j : Int} (h0 : 0 ≤ j) (h1 : j < 32) : bI m j = 1 ↔ mbI m j := by
  unfold bI mbI
  split
  · rename_i h
    exact ⟨fun _ => ⟨h0, h1, h⟩, fun _ => rfl⟩
  · rename_i h
    exact ⟨fun w => absurd w (by decide), fun w => absurd w.2.2 h⟩
theorem mb_bit (m : Int32) {j : Int} (h0 : 0 ≤ j) (h1 : j < 32) : ((m.toUInt32 >>> ((iI j).toUInt32 &&& Int32.toUInt32 31)).toInt32 &&& iI 1) = iI (bI m j) := by
  rw [mb_bit0 m h0 h1]
  unfold bI
  split <;> rfl
theorem mb_or (x y : Int32) (j : Int) : mbI (x ||| y) j ↔ mbI x j ∨ mbI y j := by
  unfold mbI
  rw [Int32.toBitVec_or, BitVec.getLsbD_or, Bool.or_eq_true]
  constructor
  · rintro ⟨a, b, c | c⟩
    · exact Or.inl ⟨a, b, c⟩
    · exact Or.inr ⟨a, b, c⟩
  · rintro (⟨a, b, c⟩ | ⟨a, b, c⟩)
    · exact ⟨a, b, Or.inl c⟩
    · exact ⟨a, b, Or.inr c⟩
theorem mb_0 (j : Int) : ¬ mbI (iI 0) j := by
  rintro ⟨a, b, c⟩
  rw [iI_0] at c
  simp at c
theorem mb_ext {x y : Int32} (h : ∀ j, mbI x j ↔ mbI y j) : x = y := by
  apply Int32.toBitVec_inj.mp
  apply BitVec.eq_of_getLsbD_eq
  intro i hi
  have h1 := h (i : Int)
  unfold mbI at h1
  rw [Int.toNat_natCast] at h1
  cases ha : x.toBitVec.getLsbD i <;> cases hb : y.toBitVec.getLsbD i
  · rfl
  · exact absurd (h1.mpr ⟨by omega, by omega, hb⟩).2.2 (by rw [ha]; decide)
  · exact absurd (h1.mp ⟨by omega, by omega, ha⟩).2.2 (by rw [hb]; decide)
  · rfl
/-- the mask of one object, or of nothing -/
def bM (s : Int) : Int32 := if s < 0 then iI 0 else iI 1 <<< (iI s &&& 31)
theorem bM_n {s : Int} (h : s < 0) : bM s = iI 0 := by
  unfold bM
  rw [if_pos h]
theorem bM_p {s : Int} (h : 0 ≤ s) : bM s = iI 1 <<< (iI s &&& 31) := by
  unfold bM
  rw [if_neg (by omega)]
theorem bM_tab : ∀ a : Fin 32, ∀ b : Fin 32, ((1 : Int32) <<< (Int32.ofNat a.val &&& 31)).toBitVec.getLsbD b.val = decide (a = b) := by decide
theorem mb_bM {s : Int} (h : s ≤ 31) (j : Int) : mbI (bM s) j ↔ 0 ≤ s ∧ j = s := by
  unfold bM
  by_cases hs : s < 0
  · rw [if_pos hs]
    exact ⟨fun w => absurd w (mb_0 j), fun w => by omega⟩
  · rw [if_neg hs]
    obtain ⟨a, rfl⟩ := Int.eq_ofNat_of_zero_le (show 0 ≤ s by omega)
    rw [iI_nat, iI_1]
    unfold mbI
    constructor
    · rintro ⟨h0, h1, h2⟩
      obtain ⟨b, rfl⟩ := Int.eq_ofNat_of_zero_le h0
      rw [Int.toNat_natCast] at h2
      have h3 := bM_tab ⟨a, by omega⟩ ⟨b, by omega⟩
      rw [h2] at h3
      have h4 := of_decide_eq_true h3.symm
      have h5 : a = b := congrArg Fin.val h4
      omega
    · rintro ⟨h0, rfl⟩
      refine ⟨h0, by omega, ?_⟩
      rw [Int.toNat_natCast]
      have h3 := bM_tab ⟨a, by omega⟩ ⟨a, by omega⟩
      rw [h3]
      simp
/-! counts -/
noncomputable def cP (P : Int → Prop) : Nat → Int
  | 0 => 0
  | n + 1 => cP P n + @ite Int (P (n : Int)) (Classical.propDecidable _) 1 0
theorem cP_y {P : Int → Prop} {n : Nat} (h : P (n : Int)) : cP P (n + 1) = cP P n + 1 := by
  show cP P n + @ite Int (P (n : Int)) (Classical.propDecidable _) 1 0 = _
  rw [if_pos h]
theorem cP_n {P : Int → Prop} {n : Nat} (h : ¬ P (n : Int)) : cP P (n + 1) = cP P n := by
  show cP P n + @ite Int (P (n : Int)) (Classical.propDecidable _) 1 0 = _
  rw [if_neg h, Int.add_zero]
theorem cP_b {m : Int32} {n : Nat} (h : n < 32) : cP (mbI m) (n + 1) = cP (mbI m) n + bI m (n : Int) := by
  have h1 := bI_y (m := m) (j := (n : Int)) (by omega) (by omega)
  have h2 := bI_le m (n : Int)
  rcases Classical.em (mbI m (n : Int)) with hp | hp
  · rw [cP_y hp, h1.mpr hp]
  · rw [cP_n hp]
    have h3 : bI m (n : Int) ≠ 1 := fun w => hp (h1.mp w)
    omega
theorem cP_le (P : Int → Prop) (n : Nat) : 0 ≤ cP P n ∧ cP P n ≤ (n : Int) := by
  induction n with
  | zero => exact ⟨Int.le_refl _, Int.le_refl _⟩
  | succ n ih =>
    rcases Classical.em (P (n : Int)) with h | h
    · rw [cP_y h]; omega
    · rw [cP_n h]; omega
theorem cP_congr {P Q : Int → Prop} {n : Nat} (h : ∀ j : Int, 0 ≤ j → j < (n : Int) → (P j ↔ Q j)) : cP P n = cP Q n := by
  induction n with
  | zero => rfl
  | succ n ih =>
    have h1 := ih (fun j h0 h1 => h j h0 (by omega))
    have h2 := h (n : Int) (by omega) (by omega)
    rcases Classical.em (P (n : Int)) with hp | hp
    · rw [cP_y hp, cP_y (h2.mp hp), h1]
    · rw [cP_n hp, cP_n (fun q => hp (h2.mpr q)), h1]
/-! closures: everything to which one can come from P over E -/
def Cl (E : Int → Int → Prop) (P : Int → Prop) (j : Int) : Prop := ∀ Q : Int → Prop, (∀ y, P y → Q y) → (∀ y z, Q y → E y z → Q z) → Q j
theorem Cl.base {E : Int → Int → Prop} {P : Int → Prop} {j : Int} (h : P j) : Cl E P j := fun _ h1 _ => h1 j h
theorem Cl.step {E : Int → Int → Prop} {P : Int → Prop} {j k : Int} (h : Cl E P j) (e : E j k) : Cl E P k := fun Q h1 h2 => h2 j k (h Q h1 h2) e
theorem Cl.mono {E F : Int → Int → Prop} {P R : Int → Prop} {j : Int} (h : Cl E P j) (h1 : ∀ y, P y → R y) (h2 : ∀ y z, E y z → F y z) : Cl F R j := h (Cl F R) (fun y hy => Cl.base (h1 y hy)) (fun y z hy hz => Cl.step hy (h2 y z hz))
theorem Cl.congr {E F : Int → Int → Prop} {P R : Int → Prop} (h1 : ∀ y, P y ↔ R y) (h2 : ∀ y z, E y z ↔ F y z) (j : Int) : Cl E P j ↔ Cl F R j :=
  ⟨fun h => h.mono (fun y => (h1 y).mp) (fun y z => (h2 y z).mp), fun h => h.mono (fun y => (h1 y).mpr) (fun y z => (h2 y z).mpr)⟩
/-! fills: row k holds f on its first places -/
def mp (S : St) (k : Nat) (n : Int) (f : Int → Int) : St := fun k' i => if k' = k ∧ 0 ≤ i ∧ i < n then f i else S k' i
theorem mp_in {S : St} {k : Nat} {n i : Int} {f : Int → Int} (h0 : 0 ≤ i) (h1 : i < n) : mp S k n f k i = f i := by
  unfold mp
  rw [if_pos ⟨rfl, h0, h1⟩]
theorem mp_out {S : St} {k : Nat} {n i : Int} {f : Int → Int} (h : i < 0 ∨ n ≤ i) : mp S k n f k i = S k i := by
  unfold mp
  rw [if_neg (by omega)]
theorem mp_k {S : St} {k k' : Nat} {n i : Int} {f : Int → Int} (h : k' ≠ k) : mp S k n f k' i = S k' i := by
  unfold mp
  rw [if_neg (fun w => h w.1)]
theorem mp_0 {S : St} {k : Nat} {f : Int → Int} : mp S k 0 f = S := by
  funext k' i
  unfold mp
  rw [if_neg (by omega)]
theorem mp_s {S : St} {k : Nat} {n : Int} {f : Int → Int} {v : Int} (h : 0 ≤ n) (hv : v = f n) : wr (mp S k n f) k n v = mp S k (n + 1) f := by
  funext k' i
  by_cases hk : k' = k
  · subst hk
    by_cases hi : i = n
    · subst hi
      rw [wr_s, mp_in h (by omega), hv]
    · rw [wr_i hi]
      by_cases h1 : 0 ≤ i ∧ i < n
      · rw [mp_in h1.1 h1.2, mp_in h1.1 (by omega)]
      · rw [mp_out (by omega), mp_out (by omega)]
  · rw [wr_k hk, mp_k hk, mp_k hk]
theorem Rg.fill {S : St} (hR : Rg S) {k : Nat} {n : Int} {f : Int → Int} (hf : ∀ i, 0 ≤ i → i < n → loX k ≤ f i ∧ f i ≤ hiX k) : Rg (mp S k n f) := by
  intro k' i' h2 h3
  by_cases hk : k' = k
  · subst hk
    by_cases hi : i' < n
    · rw [mp_in h2 hi]; exact hf i' h2 hi
    · rw [mp_out (by omega)]; exact hR k' i' h2 h3
  · rw [mp_k hk]; exact hR k' i' h2 h3
/-- repetition: f at i, i + 1, .. (n times) -/
def itF (f : Int → St → St) : Nat → Int → St → St
  | 0, _, S => S
  | n + 1, i, S => itF f n (i + 1) (f i S)
end
section
/-! PLAIN WORDS of the class: its list, its edges, its roots; masks gathered in loops -/
def LK (S : St) (k : Int) : Prop := 99 * S 0 0 ≤ k ∧ k < 99 * S 0 0 + S 4 (S 0 0)
/-- from the object s one comes to t: over a field, or (o = 1) over a field as the list has it -/
def Eg (S : St) (o s t : Int) : Prop := (0 ≤ s ∧ s < S 8 0 ∧ 0 ≤ t ∧ (t = S 1 (2 * (32 * S 0 0 + s)) ∨ t = S 1 (2 * (32 * S 0 0 + s) + 1))) ∨ (o = 1 ∧ ∃ k, LK S k ∧ S 5 k < 96 ∧ ¬ S 5 k % 3 = 2 ∧ S 5 k / 3 = s ∧ S 6 k = t ∧ 0 ≤ t)
def Rt0 (S : St) (j : Int) : Prop := 0 ≤ j ∧ ∃ r, 0 ≤ r ∧ r < 3 ∧ S 3 (3 * S 0 0 + r) = j
def Rt (S : St) (j : Int) : Prop := 0 ≤ j ∧ ((∃ r, 0 ≤ r ∧ r < 3 ∧ S 3 (3 * S 0 0 + r) = j) ∨ (∃ g, 0 ≤ g ∧ g < 4 ∧ S 7 g = j) ∨ (∃ k, LK S k ∧ 96 ≤ S 5 k ∧ S 6 k = j))
/-- what is needed: by roots, registers, the list -/
def Nd (S : St) : Int → Prop := Cl (Eg S 1) (Rt S)
/-- what the roots lead to -/
def Rd (S : St) : Int → Prop := Cl (Eg S 0) (Rt0 S)
/-! a mask gathered over k = a, a + 1, .. out of those with P -/
def AM (f0 : Int32) (P : Int → Prop) (v : Int → Int) (a k : Int) (f : Int32) : Prop := ∀ j, mbI f j ↔ (mbI f0 j ∨ ∃ k', a ≤ k' ∧ k' < k ∧ P k' ∧ v k' = j ∧ 0 ≤ j)
theorem AM_0 {f0 : Int32} {P : Int → Prop} {v : Int → Int} {a : Int} : AM f0 P v a a f0 := fun j => ⟨Or.inl, fun w => by
  rcases w with w | ⟨k, h1, h2, -⟩
  · exact w
  · omega⟩
theorem AM_skip {f0 f : Int32} {P : Int → Prop} {v : Int → Int} {a k : Int} (h : AM f0 P v a k f) (hk : ¬ P k) : AM f0 P v a (k + 1) f := by
  intro j
  rw [h j]
  constructor
  · rintro (w | ⟨k', h1, h2, h3⟩)
    · exact Or.inl w
    · exact Or.inr ⟨k', h1, by omega, h3⟩
  · rintro (w | ⟨k', h1, h2, h3, h4⟩)
    · exact Or.inl w
    · have : k' ≠ k := fun e => hk (e ▸ h3)
      exact Or.inr ⟨k', h1, by omega, h3, h4⟩
theorem AM_add {f0 f : Int32} {P : Int → Prop} {v : Int → Int} {a k : Int} (h : AM f0 P v a k f) (ha : a ≤ k) (hk : P k) (hv : v k ≤ 31) : AM f0 P v a (k + 1) (f ||| bM (v k)) := by
  intro j
  rw [mb_or, h j, mb_bM hv]
  constructor
  · rintro ((w | ⟨k', h1, h2, h3⟩) | ⟨h1, h2⟩)
    · exact Or.inl w
    · exact Or.inr ⟨k', h1, by omega, h3⟩
    · exact Or.inr ⟨k, ha, by omega, hk, h2.symm, by omega⟩
  · rintro (w | ⟨k', h1, h2, h3, h4, h5⟩)
    · exact Or.inl (Or.inl w)
    · by_cases e : k' = k
      · subst e
        exact Or.inr ⟨by omega, h4.symm⟩
      · exact Or.inl (Or.inr ⟨k', h1, by omega, h3, h4, h5⟩)
/-! a strictly larger mask has more -/
theorem cP_mono {P Q : Int → Prop} {n : Nat} (h : ∀ j : Int, 0 ≤ j → j < (n : Int) → P j → Q j) : cP P n ≤ cP Q n := by
  induction n with
  | zero => exact Int.le_refl _
  | succ n ih =>
    have h1 := ih (fun j h0 h1 => h j h0 (by omega))
    have h2 := h (n : Int) (by omega) (by omega)
    rcases Classical.em (P (n : Int)) with hp | hp
    · rw [cP_y hp, cP_y (h2 hp)]; omega
    · rw [cP_n hp]
      rcases Classical.em (Q (n : Int)) with hq | hq
      · rw [cP_y hq]; omega
      · rw [cP_n hq]; omega
theorem cP_lt {P Q : Int → Prop} {n : Nat} (h : ∀ j : Int, 0 ≤ j → j < (n : Int) → P j → Q j) {k : Int} (h0 : 0 ≤ k) (h1 : k < (n : Int)) (hq : Q k) (hp : ¬ P k) : cP P n < cP Q n := by
  induction n with
  | zero => omega
  | succ n ih =>
    have h2 := h (n : Int) (by omega) (by omega)
    have hm := cP_mono (n := n) (fun j h0 h1 => h j h0 (by omega))
    by_cases e : k = (n : Int)
    · subst e
      rw [cP_n hp, cP_y hq]; omega
    · have h3 := ih (fun j h0 h1 => h j h0 (by omega)) (by omega)
      rcases Classical.em (P (n : Int)) with hp | hp
      · rw [cP_y hp, cP_y (h2 hp)]; omega
      · rw [cP_n hp]
        rcases Classical.em (Q (n : Int)) with hq | hq
        · rw [cP_y hq]; omega
        · rw [cP_n hq]; omega
theorem mb_ne {x y : Int32} (h : ∀ j, mbI x j → mbI y j) (hne : ¬ y = x) : cP (mbI x) 32 < cP (mbI y) 32 := by
  rcases Classical.em (∃ j, mbI y j ∧ ¬ mbI x j) with ⟨j, h1, h2⟩ | hn
  · exact cP_lt (fun j _ _ => h j) h1.1 (by have := h1.2.1; omega) h1 h2
  · exact absurd (mb_ext (fun j => ⟨fun w => Classical.byContradiction (fun z => hn ⟨j, w, z⟩), h j⟩)) hne
/-! the rounds of 'spread' -/
def SP (S : St) (o : Int) (start before set : Int32) (slot : Int) : Prop := (∀ j, mbI start j → mbI set j) ∧ (∀ j, mbI set j → Cl (Eg S o) (mbI start) j) ∧ (∀ j, mbI before j → mbI set j) ∧ (∀ s t, mbI before s → s < slot → 0 ≤ t → (t = S 1 (2 * (32 * S 0 0 + s)) ∨ t = S 1 (2 * (32 * S 0 0 + s) + 1)) → mbI set t)
theorem SP_skip {S : St} {o slot : Int} {start before set : Int32} (h : SP S o start before set slot) (hn : ¬ mbI set slot) : SP S o start before set (slot + 1) := by
  obtain ⟨h1, h2, h3, h4⟩ := h
  refine ⟨h1, h2, h3, fun s t hs hlt => ?_⟩
  have : s ≠ slot := fun e => hn (h3 _ (e ▸ hs))
  exact h4 s t hs (by omega)
theorem SP_add {S : St} {o slot : Int} {start before set : Int32} (h : SP S o start before set slot) (hy : mbI set slot) (hu : slot < S 8 0) {a b : Int} (ha : S 1 (2 * (32 * S 0 0 + slot)) = a) (hb : S 1 (2 * (32 * S 0 0 + slot) + 1) = b) (ha1 : a ≤ 31) (hb1 : b ≤ 31) : SP S o start before (set ||| (bM a ||| bM b)) (slot + 1) := by
  obtain ⟨h1, h2, h3, h4⟩ := h
  have key : ∀ j, mbI (set ||| (bM a ||| bM b)) j ↔ mbI set j ∨ (0 ≤ a ∧ j = a) ∨ (0 ≤ b ∧ j = b) := fun j => by rw [mb_or, mb_or, mb_bM ha1, mb_bM hb1]
  refine ⟨fun j hj => (key j).mpr (Or.inl (h1 j hj)), fun j hj => ?_, fun j hj => (key j).mpr (Or.inl (h3 j hj)), fun s t hs hlt h0 ht => ?_⟩
  · rcases (key j).mp hj with w | ⟨w, e⟩ | ⟨w, e⟩
    · exact h2 j w
    · exact (h2 _ hy).step (Or.inl ⟨hy.1, hu, by omega, Or.inl (by omega)⟩)
    · exact (h2 _ hy).step (Or.inl ⟨hy.1, hu, by omega, Or.inr (by omega)⟩)
  · rw [key]
    by_cases e : s = slot
    · subst e
      rcases ht with ht | ht
      · exact Or.inr (Or.inl ⟨by omega, by omega⟩)
      · exact Or.inr (Or.inr ⟨by omega, by omega⟩)
    · exact Or.inl (h4 s t hs (by omega) h0 ht)
/-- at the end of a round -/
def SPE (S : St) (o : Int) (start before set : Int32) : Prop := (∀ j, mbI start j → mbI set j) ∧ (∀ j, mbI set j → Cl (Eg S o) (mbI start) j) ∧ (∀ j, mbI before j → mbI set j) ∧ (∀ s t, mbI before s → Eg S o s t → mbI set t)
theorem SPE_0 {S : St} {o : Int} {start : Int32} : SPE S o start (iI 0) start := ⟨fun _ h => h, fun _ h => Cl.base h, fun j h => absurd h (mb_0 j), fun s _ h => absurd h (mb_0 s)⟩
theorem SPE_start {S : St} {o : Int} {start before set : Int32} (h : SPE S o start before set) : SP S o start set set 0 := ⟨h.1, h.2.1, fun _ w => w, fun s t hs hlt => by have := hs.1; omega⟩
theorem SPE_of0 {S : St} {o : Int} {start before set : Int32} {slot : Int} (h : SP S o start before set slot) (hs : S 8 0 ≤ slot) (ho : o = 0) : SPE S o start before set := ⟨h.1, h.2.1, h.2.2.1, fun s t hb e => by
  rcases e with ⟨-, e2, e3, e4⟩ | ⟨e1, -⟩
  · exact h.2.2.2 s t hb (by omega) e3 e4
  · omega⟩
theorem SPE_of1 {S : St} {o : Int} {start before set f : Int32} {slot : Int} (h : SP S o start before set slot) (hs : S 8 0 ≤ slot) (ho : o = 1) (hf : AM (iI 0) (fun k => S 5 k < 96 ∧ ¬ S 5 k % 3 = 2 ∧ mbI set (S 5 k / 3)) (S 6) (99 * S 0 0) (99 * S 0 0 + S 4 (S 0 0)) f) : SPE S o start before (set ||| f) := by
  refine ⟨fun j hj => (mb_or _ _ j).mpr (Or.inl (h.1 j hj)), fun j hj => ?_, fun j hj => (mb_or _ _ j).mpr (Or.inl (h.2.2.1 j hj)), fun s t hb e => ?_⟩
  · rcases (mb_or _ _ j).mp hj with w | w
    · exact h.2.1 j w
    · rcases (hf j).mp w with w | ⟨k, k1, k2, ⟨k3, k4, k5⟩, k6, k7⟩
      · exact absurd w (mb_0 j)
      · exact (h.2.1 _ k5).step (Or.inr ⟨ho, k, ⟨k1, k2⟩, k3, k4, rfl, k6, k7⟩)
  · rw [mb_or]
    rcases e with ⟨-, e2, e3, e4⟩ | ⟨-, k, ⟨k1, k2⟩, k3, k4, k5, k6, k7⟩
    · exact Or.inl (h.2.2.2 s t hb (by omega) e3 e4)
    · refine Or.inr ((hf t).mpr (Or.inr ⟨k, k1, k2, ⟨k3, k4, ?_⟩, k6, k7⟩))
      rw [k5]
      exact h.2.2.1 s hb
theorem SPE_end {S : St} {o : Int} {start set : Int32} (h : SPE S o start set set) : ∀ j, mbI set j ↔ Cl (Eg S o) (mbI start) j := fun j => ⟨h.2.1 j, fun w => w (mbI set) h.1 (fun y z hy e => h.2.2.2 y z hy e)⟩
theorem SPE_full {S : St} {o : Int} {start before set : Int32} (h : SPE S o start before set) (hc : 32 ≤ cP (mbI before) 32) : set = before := by
  rcases Classical.em (set = before) with w | w
  · exact w
  · have h1 := mb_ne h.2.2.1 w
    have h2 := (cP_le (mbI set) 32).2
    omega
end
section
set_option maxRecDepth 100000
theorem plX : plainName RX0 = true := by decide +kernel
theorem plM : plainName RX1 = true := by decide +kernel
theorem cat0 : ∀ v ∈ ([] : List Value), v.category = 1 := fun v hv => by cases hv
theorem cat1 {a : Int32} : ∀ v ∈ ([.int a] : List Value), v.category = 1 := fun v hv => by
  rw [List.mem_singleton] at hv
  rw [hv]; rfl
theorem cat2 {a b : Int32} : ∀ v ∈ ([.int a, .int b] : List Value), v.category = 1 := fun v hv => by
  rcases List.mem_cons.mp hv with rfl | hv
  · rfl
  · exact cat1 v hv
theorem cat3 {a b c : Int32} : ∀ v ∈ ([.int a, .int b, .int c] : List Value), v.category = 1 := fun v hv => by
  rcases List.mem_cons.mp hv with rfl | hv
  · rfl
  · exact cat2 v hv
theorem kX_isRegister : ph_K (sh_C shX) 48 yX0_isRegister cX0_isRegister 2 (some .boolean) 1 := ⟨lw_V q91 q93 qs0 q25 q94, by decide +kernel⟩
theorem kX_neededSet : ph_K (sh_C shX) 52 yX0_neededSet cX0_neededSet 3 (some .int) 0 := ⟨lw_V q95 q97 qs1 q25 q98, by decide +kernel⟩
theorem kX_presentRoots : ph_K (sh_C shX) 106 yX0_presentRoots cX0_presentRoots 1 (some .int) 0 := ⟨lw_V q99 q101 qs2 q25 q102, by decide +kernel⟩
theorem kX_bitOf : ph_K (sh_C shX) 103 yX0_bitOf cX0_bitOf 2 (some .int) 1 := ⟨lw_V q103 q105 qs3 q25 q106, by decide +kernel⟩
theorem kX_spread : ph_K (sh_C shX) 99 yX0_spread cX0_spread 7 (some .int) 2 := ⟨lw_V q107 q109 qs4 q25 q110, by decide +kernel⟩
theorem kX_oldFields : ph_K (sh_C shX) 109 yX0_oldFields cX0_oldFields 5 (some .int) 1 := ⟨lw_V q111 q113 qs5 q25 q114, by decide +kernel⟩
theorem kX_countOf : ph_K (sh_C shX) 56 yX0_countOf cX0_countOf 4 (some .int) 1 := ⟨lw_V q115 q117 qs6 q25 q118, by decide +kernel⟩
theorem kX_collect : ph_K (sh_C shX) 64 yX0_collect cX0_collect 1 (some .int) 0 := ⟨lw_V q119 q120 q121 q25 q122, by decide +kernel⟩
theorem kX_move : ph_K (sh_C shX) 89 yX0_move cX0_move 5 none 1 := ⟨lw_V q123 q125 qs7 q25 q126, by decide +kernel⟩
theorem kX_moved : ph_K (sh_C shX) 115 yX0_moved cX0_moved 4 (some .int) 1 := ⟨lw_V q127 q129 qs8 q25 q130, by decide +kernel⟩
theorem kX_moveOldFields : ph_K (sh_C shX) 118 yX0_moveOldFields cX0_moveOldFields 4 none 1 := ⟨lw_V q131 q133 qs9 q25 q134, by decide +kernel⟩
theorem kX_moveList : ph_K (sh_C shX) 121 yX0_moveList cX0_moveList 8 none 1 := ⟨lw_V q135 q137 qs10 q25 q138, by decide +kernel⟩
theorem kX_settle : ph_K (sh_C shX) 93 yX0_settle cX0_settle 2 none 0 := ⟨lw_V q139 q141 qs11 q25 q142, by decide +kernel⟩
theorem kX_forgetListed : ph_K (sh_C shX) 77 yX0_forgetListed cX0_forgetListed 2 none 0 := ⟨lw_V q143 q145 qs12 q25 q146, by decide +kernel⟩
theorem kX_isRoot : ph_K (sh_C shX) 70 yX0_isRoot cX0_isRoot 2 (some .boolean) 1 := ⟨lw_V q151 q153 qs13 q25 q154, by decide +kernel⟩
theorem kX_note : ph_K (sh_C shX) 73 yX0_note cX0_note 4 none 2 := ⟨lw_V q159 q161 qs14 q25 q162, by decide +kernel⟩
theorem kX_fromRoots : ph_K (sh_C shX) 80 yX0_fromRoots cX0_fromRoots 3 (some .int) 0 := ⟨lw_V q191 q193 qs15 q25 q194, by decide +kernel⟩
theorem kX_putBack : ph_K (sh_C shX) 83 yX0_putBack cX0_putBack 4 none 0 := ⟨lw_V q199 q201 qs16 q25 q202, by decide +kernel⟩
theorem kX_startAgain : ph_K (sh_C shX) 86 yX0_startAgain cX0_startAgain 2 none 0 := ⟨lw_V q207 q209 qs17 q25 q210, by decide +kernel⟩
theorem kM_isRegister : ph_K (sh_C shM) 45 yX1_isRegister cX1_isRegister 2 (some .boolean) 1 := ⟨lw_V q262 q264 qs18 q26 q265, by decide +kernel⟩
theorem kM_need : ph_K (sh_C shM) 49 yX1_need cX1_need 2 (some .int) 0 := ⟨lw_V q266 q268 qs19 q26 q269, by decide +kernel⟩
theorem kM_forget : ph_K (sh_C shM) 38 yX1_forget cX1_forget 2 none 0 := ⟨lw_V q270 q272 qs20 q26 q273, by decide +kernel⟩
theorem kM_follow : ph_K (sh_C shM) 41 yX1_follow cX1_follow 4 (some .int) 1 := ⟨lw_V q274 q276 qs21 q26 q277, by decide +kernel⟩
theorem kM_isRoot : ph_K (sh_C shM) 53 yX1_isRoot cX1_isRoot 2 (some .boolean) 1 := ⟨lw_V q282 q284 qs22 q26 q285, by decide +kernel⟩
theorem kM_save : ph_K (sh_C shM) 59 yX1_save cX1_save 2 (some .int) 0 := ⟨lw_V q330 q315 q316 q26 q317, by decide +kernel⟩
theorem kM_fromRoots : ph_K (sh_C shM) 56 yX1_fromRoots cX1_fromRoots 2 (some .int) 0 := ⟨lw_V q318 q320 qs23 q26 q321, by decide +kernel⟩
theorem kM_back : ph_K (sh_C shM) 62 yX1_back cX1_back 2 (some .int) 0 := ⟨lw_V q331 q323 q324 q26 q325, by decide +kernel⟩
theorem kM_crash : ph_K (sh_C shM) 65 yX1_crash cX1_crash 3 (some .int) 1 := ⟨lw_V q340 q327 q328 q26 q329, by decide +kernel⟩
theorem cX_isReg {g : Int} (hg : inI g) (S : St) : ph_M shX yX0_isRegister cX0_isRegister 2 (some .boolean) 0 [.int (iI g)] S (fun r u => ∃ z : Int, r = some (.int (iI z)) ∧ S = u ∧ ((z = 1 ∧ 0 ≤ g ∧ g ≤ 3) ∨ (z = 0 ∧ (g < 0 ∨ 3 < g)))) := by
  have hg1 := hg.1
  have hg2 := hg.2
  refine ph_of shX_ok plX rfl cat1 (Nat.le_of_ble_eq_true rfl) (fun Γ h ad C => ?_)
  refine ph_iload_n C dX0_isRegister_0 rfl ?_
  refine ph_if_lt C 13 dX0_isRegister_1 (by decide) ⟨by omega, by omega⟩ (fun c_1 => ?_) (fun c_1 => ?_)
  · refine ph_iconst C dX0_isRegister_13 ?_
    exact ph_zret C (by omega) dX0_isRegister_14 ⟨_, rfl, rfl, by omega⟩
  · refine ph_iload_n C dX0_isRegister_4 rfl ?_
    refine ph_iconst C dX0_isRegister_5 ?_
    refine ph_icmp_gt C 13 dX0_isRegister_6 (by decide) ⟨by omega, by omega⟩ ⟨by omega, by omega⟩ (fun c_6 => ?_) (fun c_6 => ?_)
    · refine ph_iconst C dX0_isRegister_13 ?_
      exact ph_zret C (by omega) dX0_isRegister_14 ⟨_, rfl, rfl, by omega⟩
    · refine ph_iconst C dX0_isRegister_9 ?_
      refine ph_goto C 14 dX0_isRegister_10 (by decide) ?_
      exact ph_zret C (by omega) dX0_isRegister_14 ⟨_, rfl, rfl, by omega⟩
theorem cX_isRoot {g : Int} (hg : inI g) (S : St) : ph_M shX yX0_isRoot cX0_isRoot 2 (some .boolean) 0 [.int (iI g)] S (fun r u => ∃ z : Int, r = some (.int (iI z)) ∧ S = u ∧ ((z = 1 ∧ 0 ≤ g ∧ g ≤ 2) ∨ (z = 0 ∧ (g < 0 ∨ 2 < g)))) := by
  have hg1 := hg.1
  have hg2 := hg.2
  refine ph_of shX_ok plX rfl cat1 (Nat.le_of_ble_eq_true rfl) (fun Γ h ad C => ?_)
  refine ph_iload_n C dX0_isRoot_0 rfl ?_
  refine ph_if_lt C 13 dX0_isRoot_1 (by decide) ⟨by omega, by omega⟩ (fun c_1 => ?_) (fun c_1 => ?_)
  · refine ph_iconst C dX0_isRoot_13 ?_
    exact ph_zret C (by omega) dX0_isRoot_14 ⟨_, rfl, rfl, by omega⟩
  · refine ph_iload_n C dX0_isRoot_4 rfl ?_
    refine ph_iconst C dX0_isRoot_5 ?_
    refine ph_icmp_gt C 13 dX0_isRoot_6 (by decide) ⟨by omega, by omega⟩ ⟨by omega, by omega⟩ (fun c_6 => ?_) (fun c_6 => ?_)
    · refine ph_iconst C dX0_isRoot_13 ?_
      exact ph_zret C (by omega) dX0_isRoot_14 ⟨_, rfl, rfl, by omega⟩
    · refine ph_iconst C dX0_isRoot_9 ?_
      refine ph_goto C 14 dX0_isRoot_10 (by decide) ?_
      exact ph_zret C (by omega) dX0_isRoot_14 ⟨_, rfl, rfl, by omega⟩
theorem cM_isReg {g : Int} (hg : inI g) (S : St) : ph_M shM yX1_isRegister cX1_isRegister 2 (some .boolean) 0 [.int (iI g)] S (fun r u => ∃ z : Int, r = some (.int (iI z)) ∧ S = u ∧ ((z = 1 ∧ 0 ≤ g ∧ g ≤ 3) ∨ (z = 0 ∧ (g < 0 ∨ 3 < g)))) := by
  have hg1 := hg.1
  have hg2 := hg.2
  refine ph_of shM_ok plM rfl cat1 (Nat.le_of_ble_eq_true rfl) (fun Γ h ad C => ?_)
  refine ph_iload_n C dX1_isRegister_0 rfl ?_
  refine ph_if_lt C 13 dX1_isRegister_1 (by decide) ⟨by omega, by omega⟩ (fun c_1 => ?_) (fun c_1 => ?_)
  · refine ph_iconst C dX1_isRegister_13 ?_
    exact ph_zret C (by omega) dX1_isRegister_14 ⟨_, rfl, rfl, by omega⟩
  · refine ph_iload_n C dX1_isRegister_4 rfl ?_
    refine ph_iconst C dX1_isRegister_5 ?_
    refine ph_icmp_gt C 13 dX1_isRegister_6 (by decide) ⟨by omega, by omega⟩ ⟨by omega, by omega⟩ (fun c_6 => ?_) (fun c_6 => ?_)
    · refine ph_iconst C dX1_isRegister_13 ?_
      exact ph_zret C (by omega) dX1_isRegister_14 ⟨_, rfl, rfl, by omega⟩
    · refine ph_iconst C dX1_isRegister_9 ?_
      refine ph_goto C 14 dX1_isRegister_10 (by decide) ?_
      exact ph_zret C (by omega) dX1_isRegister_14 ⟨_, rfl, rfl, by omega⟩
theorem cM_isRoot {g : Int} (hg : inI g) (S : St) : ph_M shM yX1_isRoot cX1_isRoot 2 (some .boolean) 0 [.int (iI g)] S (fun r u => ∃ z : Int, r = some (.int (iI z)) ∧ S = u ∧ ((z = 1 ∧ 0 ≤ g ∧ g ≤ 2) ∨ (z = 0 ∧ (g < 0 ∨ 2 < g)))) := by
  have hg1 := hg.1
  have hg2 := hg.2
  refine ph_of shM_ok plM rfl cat1 (Nat.le_of_ble_eq_true rfl) (fun Γ h ad C => ?_)
  refine ph_iload_n C dX1_isRoot_0 rfl ?_
  refine ph_if_lt C 13 dX1_isRoot_1 (by decide) ⟨by omega, by omega⟩ (fun c_1 => ?_) (fun c_1 => ?_)
  · refine ph_iconst C dX1_isRoot_13 ?_
    exact ph_zret C (by omega) dX1_isRoot_14 ⟨_, rfl, rfl, by omega⟩
  · refine ph_iload_n C dX1_isRoot_4 rfl ?_
    refine ph_iconst C dX1_isRoot_5 ?_
    refine ph_icmp_gt C 13 dX1_isRoot_6 (by decide) ⟨by omega, by omega⟩ ⟨by omega, by omega⟩ (fun c_6 => ?_) (fun c_6 => ?_)
    · refine ph_iconst C dX1_isRoot_13 ?_
      exact ph_zret C (by omega) dX1_isRoot_14 ⟨_, rfl, rfl, by omega⟩
    · refine ph_iconst C dX1_isRoot_9 ?_
      refine ph_goto C 14 dX1_isRoot_10 (by decide) ?_
      exact ph_zret C (by omega) dX1_isRoot_14 ⟨_, rfl, rfl, by omega⟩
theorem countOf_loop {Γ : Cx} {h : Nat} {ad : Nat → Nat} {post : Option Value → St → Prop} {S : St} (C : ph_C shX Γ h ad cX0_countOf 4 (some .int) 0) (m : Int32) (hp : ∀ z, z = cP (mbI m) 32 → post (some (.int (iI z))) S) : ∀ (n i : Nat), i + n = 32 → ph_V shX Γ h ad post S 4 [.ref h, .int m, .int (iI (cP (mbI m) i)), .int (iI (i : Int))] [] := by
  intro n
  induction n with
  | zero =>
    intro i hi
    obtain rfl : i = 32 := by omega
    refine ph_iload_n C dX0_countOf_4 rfl ?_
    refine ph_bipush C dX0_countOf_5 (by decide) ?_
    refine ph_icmp_ge C 24 dX0_countOf_7 (by decide) ⟨by omega, by omega⟩ ⟨by omega, by omega⟩ (fun c_7 => ?_) (fun c_7 => ?_)
    · refine ph_iload_n C dX0_countOf_24 rfl ?_
      exact ph_iret C dX0_countOf_25 (hp _ rfl)
    · exact absurd c_7 (by omega)
  | succ n ih =>
    intro i hi
    refine ph_iload_n C dX0_countOf_4 rfl ?_
    refine ph_bipush C dX0_countOf_5 (by decide) ?_
    refine ph_icmp_ge C 24 dX0_countOf_7 (by decide) ⟨by omega, by omega⟩ ⟨by omega, by omega⟩ (fun c_7 => ?_) (fun c_7 => ?_)
    · exact absurd c_7 (by omega)
    · refine ph_iload_n C dX0_countOf_10 rfl ?_
      refine ph_iload_n C dX0_countOf_11 rfl ?_
      refine ph_iload_n C dX0_countOf_12 rfl ?_
      refine ph_iushr C dX0_countOf_13 ?_
      refine ph_iconst C dX0_countOf_14 ?_
      refine ph_iand C dX0_countOf_15 ?_
      refine ph_top (mb_bit m (by omega) (by omega)) ?_
      refine ph_iadd C dX0_countOf_16 ?_
      refine ph_istore_n (L' := [_, _, _, _]) C dX0_countOf_17 (by decide) (Nat.le_of_ble_eq_true rfl) rfl ?_
      refine ph_iinc (L' := [_, _, _, _]) C dX0_countOf_18 rfl (by decide) rfl ?_
      refine ph_goto C 4 dX0_countOf_21 (by decide) ?_
      rw [← cP_b (by omega)]
      exact ih (i + 1) (by omega)
theorem cX_countOf (m : Int32) (S : St) : ph_M shX yX0_countOf cX0_countOf 4 (some .int) 0 [.int m] S (fun r u => ∃ z : Int, r = some (.int (iI z)) ∧ S = u ∧ z = cP (mbI m) 32) := by
  refine ph_of shX_ok plX rfl cat1 (Nat.le_of_ble_eq_true rfl) (fun Γ h ad C => ?_)
  refine ph_iconst C dX0_countOf_0 ?_
  refine ph_istore_n (L' := [_, _, _]) C dX0_countOf_1 (by decide) (Nat.le_of_ble_eq_true rfl) rfl ?_
  refine ph_iconst C dX0_countOf_2 ?_
  refine ph_istore_n (L' := [_, _, _, _]) C dX0_countOf_3 (by decide) (Nat.le_of_ble_eq_true rfl) rfl ?_
  exact countOf_loop C m (fun z hz => ⟨z, rfl, rfl, hz⟩) 32 0 (by omega)
theorem cX_bitOf {s : Int} (h0 : -1 ≤ s) (h1 : s ≤ 31) (S : St) : ph_M shX yX0_bitOf cX0_bitOf 2 (some .int) 0 [.int (iI s)] S (fun r u => r = some (.int (bM s)) ∧ S = u) := by
  refine ph_of shX_ok plX rfl cat1 (Nat.le_of_ble_eq_true rfl) (fun Γ h ad C => ?_)
  refine ph_iload_n C dX0_bitOf_0 rfl ?_
  refine ph_if_ge C 8 dX0_bitOf_1 (by decide) ⟨by omega, by omega⟩ (fun c_1 => ?_) (fun c_1 => ?_)
  · refine ph_iconst C dX0_bitOf_8 ?_
    refine ph_iload_n C dX0_bitOf_9 rfl ?_
    refine ph_ishl C dX0_bitOf_10 ?_
    exact ph_iret C dX0_bitOf_11 ⟨by first | rw [bM_n (by omega)] | rw [bM_p (by omega)], rfl⟩
  · refine ph_iconst C dX0_bitOf_4 ?_
    refine ph_goto C 11 dX0_bitOf_5 (by decide) ?_
    exact ph_iret C dX0_bitOf_11 ⟨by first | rw [bM_n (by omega)] | rw [bM_p (by omega)], rfl⟩
theorem cX_presentRoots {S : St} (hR : Rg S) : ph_M shX yX0_presentRoots cX0_presentRoots 1 (some .int) 1 [] S (fun r u => r = some (.int ((bM (S 3 (3 * S 0 0)) ||| bM (S 3 (3 * S 0 0 + 1))) ||| bM (S 3 (3 * S 0 0 + 2)))) ∧ S = u) := by
  have b0 := hR.r0
  have b1 := hR.r3 (i := 3 * S 0 0) (by omega) (by omega)
  have b2 := hR.r3 (i := 3 * S 0 0 + 1) (by omega) (by omega)
  have b3 := hR.r3 (i := 3 * S 0 0 + 2) (by omega) (by omega)
  refine ph_of shX_ok plX rfl cat0 (Nat.le_of_ble_eq_true rfl) (fun Γ h ad C => ?_)
  refine ph_aload C dX0_presentRoots_0 rfl ?_
  refine ph_aload C dX0_presentRoots_1 rfl ?_
  refine gX3 C dX0_presentRoots_2 ?_
  refine ph_iconst C dX0_presentRoots_5 ?_
  refine ph_aload C dX0_presentRoots_6 rfl ?_
  refine gX0 C dX0_presentRoots_7 ?_
  refine ph_imul C dX0_presentRoots_10 ?_
  refine lX3 C (by omega) (by omega) dX0_presentRoots_11 ?_
  refine ph_call C (cX_bitOf (by omega) (by omega) S) kX_bitOf rfl rfl rfl (Nat.le_of_ble_eq_true rfl) dX0_presentRoots_12 (by decide) (by decide) (fun r_12 u_12 hp_12 => ?_)
  obtain ⟨rfl, rfl⟩ := hp_12
  dsimp only [Option.toList_some, Option.toList_none, List.cons_append, List.nil_append]
  refine ph_aload C dX0_presentRoots_15 rfl ?_
  refine ph_aload C dX0_presentRoots_16 rfl ?_
  refine gX3 C dX0_presentRoots_17 ?_
  refine ph_iconst C dX0_presentRoots_20 ?_
  refine ph_aload C dX0_presentRoots_21 rfl ?_
  refine gX0 C dX0_presentRoots_22 ?_
  refine ph_imul C dX0_presentRoots_25 ?_
  refine ph_iconst C dX0_presentRoots_26 ?_
  refine ph_iadd C dX0_presentRoots_27 ?_
  refine lX3 C (by omega) (by omega) dX0_presentRoots_28 ?_
  refine ph_call C (cX_bitOf (by omega) (by omega) S) kX_bitOf rfl rfl rfl (Nat.le_of_ble_eq_true rfl) dX0_presentRoots_29 (by decide) (by decide) (fun r_29 u_29 hp_29 => ?_)
  obtain ⟨rfl, rfl⟩ := hp_29
  dsimp only [Option.toList_some, Option.toList_none, List.cons_append, List.nil_append]
  refine ph_ior C dX0_presentRoots_32 ?_
  refine ph_aload C dX0_presentRoots_33 rfl ?_
  refine ph_aload C dX0_presentRoots_34 rfl ?_
  refine gX3 C dX0_presentRoots_35 ?_
  refine ph_iconst C dX0_presentRoots_38 ?_
  refine ph_aload C dX0_presentRoots_39 rfl ?_
  refine gX0 C dX0_presentRoots_40 ?_
  refine ph_imul C dX0_presentRoots_43 ?_
  refine ph_iconst C dX0_presentRoots_44 ?_
  refine ph_iadd C dX0_presentRoots_45 ?_
  refine lX3 C (by omega) (by omega) dX0_presentRoots_46 ?_
  refine ph_call C (cX_bitOf (by omega) (by omega) S) kX_bitOf rfl rfl rfl (Nat.le_of_ble_eq_true rfl) dX0_presentRoots_47 (by decide) (by decide) (fun r_47 u_47 hp_47 => ?_)
  obtain ⟨rfl, rfl⟩ := hp_47
  dsimp only [Option.toList_some, Option.toList_none, List.cons_append, List.nil_append]
  refine ph_ior C dX0_presentRoots_50 ?_
  exact ph_iret C dX0_presentRoots_51 ⟨rfl, rfl⟩
end
section
set_option maxRecDepth 100000
theorem forget_loop {Γ : Cx} {h : Nat} {ad : Nat → Nat} {post : Option Value → St → Prop} {S : St} (C : ph_C shX Γ h ad cX0_forgetListed 2 none 0) (hp : post none (mp S 10 99 (fun _ => 0))) : ∀ (n : Nat) (i : Int), i + n = 99 → 0 ≤ i → ph_V shX Γ h ad post (mp S 10 i (fun _ => 0)) 2 [.ref h, .int (iI i)] [] := by
  intro n
  induction n with
  | zero =>
    intro i hi h0
    obtain rfl : i = 99 := by omega
    refine ph_iload_n C dX0_forgetListed_2 rfl ?_
    refine ph_bipush C dX0_forgetListed_3 (by decide) ?_
    refine ph_icmp_ge C 21 dX0_forgetListed_5 (by decide) ⟨by omega, by omega⟩ ⟨by omega, by omega⟩ (fun c_5 => ?_) (fun c_5 => ?_)
    · exact ph_vret C dX0_forgetListed_21 hp
    · exact absurd c_5 (by omega)
  | succ n ih =>
    intro i hi h0
    refine ph_iload_n C dX0_forgetListed_2 rfl ?_
    refine ph_bipush C dX0_forgetListed_3 (by decide) ?_
    refine ph_icmp_ge C 21 dX0_forgetListed_5 (by decide) ⟨by omega, by omega⟩ ⟨by omega, by omega⟩ (fun c_5 => ?_) (fun c_5 => ?_)
    · exact absurd c_5 (by omega)
    · refine ph_aload C dX0_forgetListed_8 rfl ?_
      refine gX10 C dX0_forgetListed_9 ?_
      refine ph_iload_n C dX0_forgetListed_12 rfl ?_
      refine ph_iconst C dX0_forgetListed_13 ?_
      refine sX10 C (by omega) (by omega) (by omega) dX0_forgetListed_14 ?_
      refine ph_iinc (L' := [_, _]) C dX0_forgetListed_15 rfl (by decide) rfl ?_
      refine ph_goto C 2 dX0_forgetListed_18 (by decide) ?_
      rw [mp_s h0 rfl]
      exact ih (i + 1) (by omega) (by omega)
theorem cX_forgetListed (S : St) : ph_M shX yX0_forgetListed cX0_forgetListed 2 none 0 [] S (fun r u => r = none ∧ mp S 10 99 (fun _ => 0) = u) := by
  refine ph_of shX_ok plX rfl cat0 (Nat.le_of_ble_eq_true rfl) (fun Γ h ad C => ?_)
  refine ph_iconst C dX0_forgetListed_0 ?_
  refine ph_istore_n (L' := [_, _]) C dX0_forgetListed_1 (by decide) (Nat.le_of_ble_eq_true rfl) rfl ?_
  have w := forget_loop (S := S) C (post := fun r u => r = none ∧ mp S 10 99 (fun _ => 0) = u) ⟨rfl, rfl⟩ 99 0 (by omega) (by omega)
  rw [mp_0] at w
  exact w
def noteF (S : St) (p v : Int) : St := if S 10 p = 0 then wr (wr (wr (wr S 10 p 1) 5 (99 * S 0 0 + S 4 (S 0 0)) p) 6 (99 * S 0 0 + S 4 (S 0 0)) v) 4 (S 0 0) (S 4 (S 0 0) + 1) else S
theorem cX_note {S : St} (hR : Rg S) {p v : Int} (hp0 : 0 ≤ p) (hp1 : p < 99) (hc : S 10 p = 0 → S 4 (S 0 0) < 99) : ph_M shX yX0_note cX0_note 4 none 0 [.int (iI p), .int (iI v)] S (fun r u => r = none ∧ noteF S p v = u) := by
  have b0 := hR.r0
  have b4 := hR.r4 (i := S 0 0) (by omega) (by omega)
  have b10 := hR.r10 hp0 hp1
  refine ph_of shX_ok plX rfl cat2 (Nat.le_of_ble_eq_true rfl) (fun Γ h ad C => ?_)
  refine ph_aload C dX0_note_0 rfl ?_
  refine gX10 C dX0_note_1 ?_
  refine ph_iload_n C dX0_note_4 rfl ?_
  refine lX10 C (by omega) (by omega) dX0_note_5 ?_
  refine ph_if_eq C 10 dX0_note_6 (by decide) ⟨by omega, by omega⟩ (fun c_6 => ?_) (fun c_6 => ?_)
  · have hc1 := hc c_6
    refine ph_aload C dX0_note_10 rfl ?_
    refine gX10 C dX0_note_11 ?_
    refine ph_iload_n C dX0_note_14 rfl ?_
    refine ph_iconst C dX0_note_15 ?_
    refine sX10 C (by omega) (by omega) (by omega) dX0_note_16 ?_
    refine ph_bipush C dX0_note_17 (by decide) ?_
    refine ph_aload C dX0_note_19 rfl ?_
    refine gX0 C dX0_note_20 ?_
    simp only [wr_k, ne_eq, reduceCtorEq, not_false_eq_true, Nat.reduceEqDiff]
    refine ph_imul C dX0_note_23 ?_
    refine ph_aload C dX0_note_24 rfl ?_
    refine gX4 C dX0_note_25 ?_
    refine ph_aload C dX0_note_28 rfl ?_
    refine gX0 C dX0_note_29 ?_
    simp only [wr_k, ne_eq, reduceCtorEq, not_false_eq_true, Nat.reduceEqDiff]
    refine lX4 C (by omega) (by omega) dX0_note_32 ?_
    simp only [wr_k, ne_eq, reduceCtorEq, not_false_eq_true, Nat.reduceEqDiff]
    refine ph_iadd C dX0_note_33 ?_
    refine ph_istore_n (L' := [_, _, _, _]) C dX0_note_34 (by decide) (Nat.le_of_ble_eq_true rfl) rfl ?_
    refine ph_aload C dX0_note_35 rfl ?_
    refine gX5 C dX0_note_36 ?_
    refine ph_iload_n C dX0_note_39 rfl ?_
    refine ph_iload_n C dX0_note_40 rfl ?_
    refine ph_i2b C dX0_note_41 (by omega) (by omega) ?_
    refine sX5 C (by omega) (by omega) (by omega) dX0_note_42 ?_
    refine ph_aload C dX0_note_43 rfl ?_
    refine gX6 C dX0_note_44 ?_
    refine ph_iload_n C dX0_note_47 rfl ?_
    refine ph_iload_n C dX0_note_48 rfl ?_
    refine sX6 C (by omega) (by omega) dX0_note_49 ?_
    refine ph_aload C dX0_note_50 rfl ?_
    refine gX4 C dX0_note_51 ?_
    refine ph_aload C dX0_note_54 rfl ?_
    refine gX0 C dX0_note_55 ?_
    simp only [wr_k, ne_eq, reduceCtorEq, not_false_eq_true, Nat.reduceEqDiff]
    refine ph_dup2 C dX0_note_58 ?_
    refine lX4 C (by omega) (by omega) dX0_note_59 ?_
    simp only [wr_k, ne_eq, reduceCtorEq, not_false_eq_true, Nat.reduceEqDiff]
    refine ph_iconst C dX0_note_60 ?_
    refine ph_iadd C dX0_note_61 ?_
    refine ph_i2b C dX0_note_62 (by omega) (by omega) ?_
    refine sX4 C (by omega) (by omega) (by omega) dX0_note_63 ?_
    exact ph_vret C dX0_note_64 ⟨rfl, by unfold noteF; rw [if_pos c_6]⟩
  · exact ph_vret C dX0_note_9 ⟨rfl, by unfold noteF; rw [if_neg c_6]⟩
theorem oldF_loop {Γ : Cx} {h : Nat} {ad : Nat → Nat} {post : Option Value → St → Prop} {S : St} (C : ph_C shX Γ h ad cX0_oldFields 5 (some .int) 1) (hR : Rg S) (hF : Rf S) (m : Int32) (hp : ∀ f, AM (iI 0) (fun k => S 5 k < 96 ∧ ¬ S 5 k % 3 = 2 ∧ mbI m (S 5 k / 3)) (S 6) (99 * S 0 0) (99 * S 0 0 + S 4 (S 0 0)) f → post (some (.int f)) S) : ∀ (n : Nat) (k : Int) (f : Int32), 99 * S 0 0 ≤ k → k + n = 99 * S 0 0 + S 4 (S 0 0) → AM (iI 0) (fun k => S 5 k < 96 ∧ ¬ S 5 k % 3 = 2 ∧ mbI m (S 5 k / 3)) (S 6) (99 * S 0 0) k f → ph_V shX Γ h ad post S 10 [.ref h, .int m, .int f, .int (iI k)] [] := by
  have b0 := hR.r0
  have b4 := hR.r4 (i := S 0 0) (by omega) (by omega)
  intro n
  induction n with
  | zero =>
    intro k f hk hn ha
    refine ph_iload_n C dX0_oldFields_10 rfl ?_
    refine ph_bipush C dX0_oldFields_11 (by decide) ?_
    refine ph_aload C dX0_oldFields_13 rfl ?_
    refine gX0 C dX0_oldFields_14 ?_
    refine ph_imul C dX0_oldFields_17 ?_
    refine ph_aload C dX0_oldFields_18 rfl ?_
    refine gX4 C dX0_oldFields_19 ?_
    refine ph_aload C dX0_oldFields_22 rfl ?_
    refine gX0 C dX0_oldFields_23 ?_
    refine lX4 C (by omega) (by omega) dX0_oldFields_26 ?_
    refine ph_iadd C dX0_oldFields_27 ?_
    refine ph_icmp_ge C 84 dX0_oldFields_28 (by decide) ⟨by omega, by omega⟩ ⟨by omega, by omega⟩ (fun c_28 => ?_) (fun c_28 => ?_)
    · refine ph_iload_n C dX0_oldFields_84 rfl ?_
      exact ph_iret C dX0_oldFields_85 (hp f (by rw [show 99 * S 0 0 + S 4 (S 0 0) = k by omega]; exact ha))
    · exact absurd c_28 (by omega)
  | succ n ih =>
    intro k f hk hn ha
    have b5 := hR.r5 (i := k) (by omega) (by omega)
    have bb := bI_le m (S 5 k / 3)
    refine ph_iload_n C dX0_oldFields_10 rfl ?_
    refine ph_bipush C dX0_oldFields_11 (by decide) ?_
    refine ph_aload C dX0_oldFields_13 rfl ?_
    refine gX0 C dX0_oldFields_14 ?_
    refine ph_imul C dX0_oldFields_17 ?_
    refine ph_aload C dX0_oldFields_18 rfl ?_
    refine gX4 C dX0_oldFields_19 ?_
    refine ph_aload C dX0_oldFields_22 rfl ?_
    refine gX0 C dX0_oldFields_23 ?_
    refine lX4 C (by omega) (by omega) dX0_oldFields_26 ?_
    refine ph_iadd C dX0_oldFields_27 ?_
    refine ph_icmp_ge C 84 dX0_oldFields_28 (by decide) ⟨by omega, by omega⟩ ⟨by omega, by omega⟩ (fun c_28 => ?_) (fun c_28 => ?_)
    · exact absurd c_28 (by omega)
    · refine ph_aload C dX0_oldFields_31 rfl ?_
      refine gX5 C dX0_oldFields_32 ?_
      refine ph_iload_n C dX0_oldFields_35 rfl ?_
      refine lX5 C (by omega) (by omega) dX0_oldFields_36 ?_
      refine ph_istore (L' := [_, _, _, _, _]) C dX0_oldFields_37 (by decide) (Nat.le_of_ble_eq_true rfl) rfl ?_
      have nxt : ∀ f' : Int32, AM (iI 0) (fun k => S 5 k < 96 ∧ ¬ S 5 k % 3 = 2 ∧ mbI m (S 5 k / 3)) (S 6) (99 * S 0 0) (k + 1) f' → ph_V shX Γ h ad post S 78 [.ref h, .int m, .int f', .int (iI k), .int (iI (S 5 k))] [] := by
        intro f' hf'
        refine ph_iinc (L' := [_, _, _, _, _]) C dX0_oldFields_78 rfl (by decide) rfl ?_
        refine ph_goto C 10 dX0_oldFields_81 (by decide) ?_
        refine ph_drop (L' := [_, _, _, _]) (L'' := [_]) rfl ?_
        exact ih (k + 1) f' (by omega) (by omega) hf'
      refine ph_iload C dX0_oldFields_39 rfl ?_
      refine ph_bipush C dX0_oldFields_41 (by decide) ?_
      refine ph_icmp_ge C 78 dX0_oldFields_43 (by decide) ⟨by omega, by omega⟩ ⟨by omega, by omega⟩ (fun c_43 => ?_) (fun c_43 => ?_)
      · first | exact nxt _ (AM_skip ha (fun w => by first | exact absurd w.1 (by omega) | exact w.2.1 (by omega) | (have := (bI_y (m := m) (by omega) (by omega)).mpr w.2.2; omega))) | exact nxt _ (AM_add ha hk ⟨c_43, c_51, (bI_y (by omega) (by omega)).mp (by omega)⟩ (by omega))
      · refine ph_iload C dX0_oldFields_46 rfl ?_
        refine ph_iconst C dX0_oldFields_48 ?_
        refine ph_irem C dX0_oldFields_49 (by omega) (by omega) (by decide) (by decide) ?_
        refine ph_iconst C dX0_oldFields_50 ?_
        refine ph_icmp_eq C 78 dX0_oldFields_51 (by decide) ⟨by omega, by omega⟩ ⟨by omega, by omega⟩ (fun c_51 => ?_) (fun c_51 => ?_)
        · first | exact nxt _ (AM_skip ha (fun w => by first | exact absurd w.1 (by omega) | exact w.2.1 (by omega) | (have := (bI_y (m := m) (by omega) (by omega)).mpr w.2.2; omega))) | exact nxt _ (AM_add ha hk ⟨c_43, c_51, (bI_y (by omega) (by omega)).mp (by omega)⟩ (by omega))
        · refine ph_iload_n C dX0_oldFields_54 rfl ?_
          refine ph_iload C dX0_oldFields_55 rfl ?_
          refine ph_iconst C dX0_oldFields_57 ?_
          refine ph_idiv C dX0_oldFields_58 (by omega) (by omega) (by decide) (by decide) ?_
          refine ph_iushr C dX0_oldFields_59 ?_
          refine ph_iconst C dX0_oldFields_60 ?_
          refine ph_iand C dX0_oldFields_61 ?_
          refine ph_top (mb_bit m (by omega) (by omega)) ?_
          refine ph_if_eq C 78 dX0_oldFields_62 (by decide) ⟨by omega, by omega⟩ (fun c_62 => ?_) (fun c_62 => ?_)
          · first | exact nxt _ (AM_skip ha (fun w => by first | exact absurd w.1 (by omega) | exact w.2.1 (by omega) | (have := (bI_y (m := m) (by omega) (by omega)).mpr w.2.2; omega))) | exact nxt _ (AM_add ha hk ⟨c_43, c_51, (bI_y (by omega) (by omega)).mp (by omega)⟩ (by omega))
          · have b6 := hF k (by omega) (by omega) (Or.inr c_51)
            refine ph_iload_n C dX0_oldFields_65 rfl ?_
            refine ph_aload C dX0_oldFields_66 rfl ?_
            refine ph_aload C dX0_oldFields_67 rfl ?_
            refine gX6 C dX0_oldFields_68 ?_
            refine ph_iload_n C dX0_oldFields_71 rfl ?_
            refine lX6 C (by omega) (by omega) dX0_oldFields_72 ?_
            refine ph_call C (cX_bitOf (by omega) (by omega) S) kX_bitOf rfl rfl rfl (Nat.le_of_ble_eq_true rfl) dX0_oldFields_73 (by decide) (by decide) (fun r_73 u_73 hp_73 => ?_)
            obtain ⟨rfl, rfl⟩ := hp_73
            dsimp only [Option.toList_some, Option.toList_none, List.cons_append, List.nil_append]
            refine ph_ior C dX0_oldFields_76 ?_
            refine ph_istore_n (L' := [_, _, _, _, _]) C dX0_oldFields_77 (by decide) (Nat.le_of_ble_eq_true rfl) rfl ?_
            first | exact nxt _ (AM_skip ha (fun w => by first | exact absurd w.1 (by omega) | exact w.2.1 (by omega) | (have := (bI_y (m := m) (by omega) (by omega)).mpr w.2.2; omega))) | exact nxt _ (AM_add ha hk ⟨c_43, c_51, (bI_y (by omega) (by omega)).mp (by omega)⟩ (by omega))
theorem cX_oldFields {S : St} (hR : Rg S) (hF : Rf S) (m : Int32) : ph_M shX yX0_oldFields cX0_oldFields 5 (some .int) 1 [.int m] S (fun r u => ∃ f : Int32, r = some (.int f) ∧ S = u ∧ AM (iI 0) (fun k => S 5 k < 96 ∧ ¬ S 5 k % 3 = 2 ∧ mbI m (S 5 k / 3)) (S 6) (99 * S 0 0) (99 * S 0 0 + S 4 (S 0 0)) f) := by
  have b0 := hR.r0
  have b4 := hR.r4 (i := S 0 0) (by omega) (by omega)
  refine ph_of shX_ok plX rfl cat1 (Nat.le_of_ble_eq_true rfl) (fun Γ h ad C => ?_)
  refine ph_iconst C dX0_oldFields_0 ?_
  refine ph_istore_n (L' := [_, _, _]) C dX0_oldFields_1 (by decide) (Nat.le_of_ble_eq_true rfl) rfl ?_
  refine ph_bipush C dX0_oldFields_2 (by decide) ?_
  refine ph_aload C dX0_oldFields_4 rfl ?_
  refine gX0 C dX0_oldFields_5 ?_
  refine ph_imul C dX0_oldFields_8 ?_
  refine ph_istore_n (L' := [_, _, _, _]) C dX0_oldFields_9 (by decide) (Nat.le_of_ble_eq_true rfl) rfl ?_
  exact oldF_loop C hR hF m (fun f hf => ⟨f, rfl, rfl, hf⟩) (S 4 (S 0 0)).toNat _ _ (by omega) (by omega) AM_0
theorem spread_in {Γ : Cx} {h : Nat} {ad : Nat → Nat} {post : Option Value → St → Prop} {S : St} (C : ph_C shX Γ h ad cX0_spread 7 (some .int) 2) (hR : Rg S) (start : Int32) (o : Int) (before : Int32) (kk : ∀ (set : Int32) (slot : Int), S 8 0 ≤ slot → SP S o start before set slot → ph_V shX Γ h ad post S 86 [.ref h, .int start, .int (iI o), .int set, .int before, .int (iI slot)] []) : ∀ (n : Nat) (slot : Int) (set : Int32), 0 ≤ slot → slot + n = S 8 0 → SP S o start before set slot → ph_V shX Γ h ad post S 17 [.ref h, .int start, .int (iI o), .int set, .int before, .int (iI slot)] [] := by
  have b0 := hR.r0
  have b8 := hR.r8
  intro n
  induction n with
  | zero =>
    intro slot set h0 hn hs
    refine ph_iload C dX0_spread_17 rfl ?_
    refine ph_aload C dX0_spread_19 rfl ?_
    refine gX8 C dX0_spread_20 ?_
    refine ph_icmp_ge C 86 dX0_spread_23 (by decide) ⟨by omega, by omega⟩ ⟨by omega, by omega⟩ (fun c_23 => ?_) (fun c_23 => ?_)
    · exact kk set slot (by omega) hs
    · exact absurd c_23 (by omega)
  | succ n ih =>
    intro slot set h0 hn hs
    have bb := bI_le set slot
    have b1 := hR.r1 (i := 2 * (32 * S 0 0 + slot)) (by omega) (by omega)
    have b2 := hR.r1 (i := 2 * (32 * S 0 0 + slot) + 1) (by omega) (by omega)
    refine ph_iload C dX0_spread_17 rfl ?_
    refine ph_aload C dX0_spread_19 rfl ?_
    refine gX8 C dX0_spread_20 ?_
    refine ph_icmp_ge C 86 dX0_spread_23 (by decide) ⟨by omega, by omega⟩ ⟨by omega, by omega⟩ (fun c_23 => ?_) (fun c_23 => ?_)
    · exact absurd c_23 (by omega)
    · have nxt : ∀ set' : Int32, SP S o start before set' (slot + 1) → ph_V shX Γ h ad post S 80 [.ref h, .int start, .int (iI o), .int set', .int before, .int (iI slot)] [] := by
        intro set' hs'
        refine ph_iinc (L' := [_, _, _, _, _, _]) C dX0_spread_80 rfl (by decide) rfl ?_
        refine ph_goto C 17 dX0_spread_83 (by decide) ?_
        exact ih (slot + 1) set' (by omega) (by omega) hs'
      refine ph_iload_n C dX0_spread_26 rfl ?_
      refine ph_iload C dX0_spread_27 rfl ?_
      refine ph_iushr C dX0_spread_29 ?_
      refine ph_iconst C dX0_spread_30 ?_
      refine ph_iand C dX0_spread_31 ?_
      refine ph_top (mb_bit set (by omega) (by omega)) ?_
      refine ph_if_ne C 38 dX0_spread_32 (by decide) ⟨by omega, by omega⟩ (fun c_32 => ?_) (fun c_32 => ?_)
      · refine ph_iconst C dX0_spread_38 ?_
        refine ph_bipush C dX0_spread_39 (by decide) ?_
        refine ph_aload C dX0_spread_41 rfl ?_
        refine gX0 C dX0_spread_42 ?_
        refine ph_imul C dX0_spread_45 ?_
        refine ph_iload C dX0_spread_46 rfl ?_
        refine ph_iadd C dX0_spread_48 ?_
        refine ph_imul C dX0_spread_49 ?_
        refine ph_istore (L' := [_, _, _, _, _, _, _]) C dX0_spread_50 (by decide) (Nat.le_of_ble_eq_true rfl) rfl ?_
        refine ph_iload_n C dX0_spread_52 rfl ?_
        refine ph_aload C dX0_spread_53 rfl ?_
        refine ph_aload C dX0_spread_54 rfl ?_
        refine gX1 C dX0_spread_55 ?_
        refine ph_iload C dX0_spread_58 rfl ?_
        refine lX1 C (by omega) (by omega) dX0_spread_60 ?_
        refine ph_call C (cX_bitOf (by omega) (by omega) S) kX_bitOf rfl rfl rfl (Nat.le_of_ble_eq_true rfl) dX0_spread_61 (by decide) (by decide) (fun r_61 u_61 hp_61 => ?_)
        obtain ⟨rfl, rfl⟩ := hp_61
        dsimp only [Option.toList_some, Option.toList_none, List.cons_append, List.nil_append]
        refine ph_aload C dX0_spread_64 rfl ?_
        refine ph_aload C dX0_spread_65 rfl ?_
        refine gX1 C dX0_spread_66 ?_
        refine ph_iload C dX0_spread_69 rfl ?_
        refine ph_iconst C dX0_spread_71 ?_
        refine ph_iadd C dX0_spread_72 ?_
        refine lX1 C (by omega) (by omega) dX0_spread_73 ?_
        refine ph_call C (cX_bitOf (by omega) (by omega) S) kX_bitOf rfl rfl rfl (Nat.le_of_ble_eq_true rfl) dX0_spread_74 (by decide) (by decide) (fun r_74 u_74 hp_74 => ?_)
        obtain ⟨rfl, rfl⟩ := hp_74
        dsimp only [Option.toList_some, Option.toList_none, List.cons_append, List.nil_append]
        refine ph_ior C dX0_spread_77 ?_
        refine ph_ior C dX0_spread_78 ?_
        refine ph_istore_n (L' := [_, _, _, _, _, _, _]) C dX0_spread_79 (by decide) (Nat.le_of_ble_eq_true rfl) rfl ?_
        first | exact nxt _ (SP_skip hs (fun w => by have := (bI_y (m := set) (j := slot) (by omega) (by omega)).mpr w; omega)) | (refine ph_drop (L' := [_, _, _, _, _, _]) (L'' := [_]) rfl ?_; exact nxt _ (SP_add hs ((bI_y (by omega) (by omega)).mp (by omega)) (by omega) rfl rfl (by omega) (by omega)))
      · refine ph_goto C 80 dX0_spread_35 (by decide) ?_
        first | exact nxt _ (SP_skip hs (fun w => by have := (bI_y (m := set) (j := slot) (by omega) (by omega)).mpr w; omega)) | (refine ph_drop (L' := [_, _, _, _, _, _]) (L'' := [_]) rfl ?_; exact nxt _ (SP_add hs ((bI_y (by omega) (by omega)).mp (by omega)) (by omega) rfl rfl (by omega) (by omega)))
theorem spread_out {Γ : Cx} {h : Nat} {ad : Nat → Nat} {post : Option Value → St → Prop} {S : St} (C : ph_C shX Γ h ad cX0_spread 7 (some .int) 2) (hR : Rg S) (hF : Rf S) (start : Int32) {o : Int} (ho : o = 0 ∨ o = 1) (hp : ∀ f, (∀ j, mbI f j ↔ Cl (Eg S o) (mbI start) j) → post (some (.int f)) S) : ∀ (n : Nat) (before set : Int32), 32 ≤ cP (mbI before) 32 + n → SPE S o start before set → ph_V shX Γ h ad post S 5 [.ref h, .int start, .int (iI o), .int set, .int before] [] := by
  have b8 := hR.r8
  intro n
  induction n with
  | zero =>
    intro before set hn hs
    have he := SPE_full hs (by omega)
    refine ph_iload_n C dX0_spread_5 rfl ?_
    refine ph_iload C dX0_spread_6 rfl ?_
    refine ph_icmpr_eq C 101 dX0_spread_8 (by decide)  (fun c_8 => ?_) (fun c_8 => ?_)
    · refine ph_iload_n C dX0_spread_101 rfl ?_
      exact ph_iret C dX0_spread_102 (hp set (SPE_end (by rw [← he] at hs; exact hs)))
    · exact absurd he c_8
  | succ n ih =>
    intro before set hn hs
    refine ph_iload_n C dX0_spread_5 rfl ?_
    refine ph_iload C dX0_spread_6 rfl ?_
    refine ph_icmpr_eq C 101 dX0_spread_8 (by decide)  (fun c_8 => ?_) (fun c_8 => ?_)
    · refine ph_iload_n C dX0_spread_101 rfl ?_
      exact ph_iret C dX0_spread_102 (hp set (SPE_end (by rw [← c_8] at hs; exact hs)))
    · have hlt := mb_ne hs.2.2.1 c_8
      refine ph_iload_n C dX0_spread_11 rfl ?_
      refine ph_istore (L' := [_, _, _, _, _]) C dX0_spread_12 (by decide) (Nat.le_of_ble_eq_true rfl) rfl ?_
      refine ph_iconst C dX0_spread_14 ?_
      refine ph_istore (L' := [_, _, _, _, _, _]) C dX0_spread_15 (by decide) (Nat.le_of_ble_eq_true rfl) rfl ?_
      refine spread_in C hR start o set (fun set' slot hsl hsp => ?_) (S 8 0).toNat 0 set (by omega) (by omega) (SPE_start hs)
      refine ph_iload_n C dX0_spread_86 rfl ?_
      refine ph_if_eq C 5 dX0_spread_87 (by decide) ⟨by omega, by omega⟩ (fun c_87 => ?_) (fun c_87 => ?_)
      · refine ph_drop (L' := [_, _, _, _, _]) (L'' := [_]) rfl ?_
        first | exact ih _ _ (by omega) (SPE_of0 hsp hsl (by omega)) | exact ih _ _ (by omega) (SPE_of1 hsp hsl (by omega) hf)
      · refine ph_iload_n C dX0_spread_90 rfl ?_
        refine ph_aload C dX0_spread_91 rfl ?_
        refine ph_iload_n C dX0_spread_92 rfl ?_
        refine ph_call C (cX_oldFields hR hF set') kX_oldFields rfl rfl rfl (Nat.le_of_ble_eq_true rfl) dX0_spread_93 (by decide) (by decide) (fun r_93 u_93 hp_93 => ?_)
        obtain ⟨f, rfl, rfl, hf⟩ := hp_93
        dsimp only [Option.toList_some, Option.toList_none, List.cons_append, List.nil_append]
        refine ph_ior C dX0_spread_96 ?_
        refine ph_istore_n (L' := [_, _, _, _, _, _]) C dX0_spread_97 (by decide) (Nat.le_of_ble_eq_true rfl) rfl ?_
        refine ph_goto C 5 dX0_spread_98 (by decide) ?_
        refine ph_drop (L' := [_, _, _, _, _]) (L'' := [_]) rfl ?_
        first | exact ih _ _ (by omega) (SPE_of0 hsp hsl (by omega)) | exact ih _ _ (by omega) (SPE_of1 hsp hsl (by omega) hf)
theorem cX_spread {S : St} (hR : Rg S) (hF : Rf S) (start : Int32) {o : Int} (ho : o = 0 ∨ o = 1) : ph_M shX yX0_spread cX0_spread 7 (some .int) 2 [.int start, .int (iI o)] S (fun r u => ∃ f : Int32, r = some (.int f) ∧ S = u ∧ ∀ j, mbI f j ↔ Cl (Eg S o) (mbI start) j) := by
  refine ph_of shX_ok plX rfl cat2 (Nat.le_of_ble_eq_true rfl) (fun Γ h ad C => ?_)
  refine ph_iload_n C dX0_spread_0 rfl ?_
  refine ph_istore_n (L' := [_, _, _, _]) C dX0_spread_1 (by decide) (Nat.le_of_ble_eq_true rfl) rfl ?_
  refine ph_iconst C dX0_spread_2 ?_
  refine ph_istore (L' := [_, _, _, _, _]) C dX0_spread_3 (by decide) (Nat.le_of_ble_eq_true rfl) rfl ?_
  exact spread_out C hR hF start ho (fun f hf => ⟨f, rfl, rfl, hf⟩) 32 _ _ (by have := (cP_le (mbI (iI 0)) 32).1; omega) SPE_0
def prM (S : St) : Int32 := (bM (S 3 (3 * S 0 0)) ||| bM (S 3 (3 * S 0 0 + 1))) ||| bM (S 3 (3 * S 0 0 + 2))
theorem prM_mb {S : St} (hR : Rg S) (j : Int) : mbI (prM S) j ↔ Rt0 S j := by
  have b0 := hR.r0
  have b1 := hR.r3 (i := 3 * S 0 0) (by omega) (by omega)
  have b2 := hR.r3 (i := 3 * S 0 0 + 1) (by omega) (by omega)
  have b3 := hR.r3 (i := 3 * S 0 0 + 2) (by omega) (by omega)
  unfold prM
  rw [mb_or, mb_or, mb_bM b1.2, mb_bM b2.2, mb_bM b3.2]
  constructor
  · rintro ((⟨h1, h2⟩ | ⟨h1, h2⟩) | ⟨h1, h2⟩)
    · exact ⟨by omega, 0, by omega, by omega, by rw [Int.add_zero]; omega⟩
    · exact ⟨by omega, 1, by omega, by omega, by omega⟩
    · exact ⟨by omega, 2, by omega, by omega, by omega⟩
  · rintro ⟨h0, r, h1, h2, h3⟩
    rcases (show r = 0 ∨ r = 1 ∨ r = 2 by omega) with rfl | rfl | rfl
    · rw [Int.add_zero] at h3
      exact Or.inl (Or.inl ⟨by omega, by omega⟩)
    · exact Or.inl (Or.inr ⟨by omega, by omega⟩)
    · exact Or.inr ⟨by omega, by omega⟩
theorem Rt_mask {S : St} (hR : Rg S) {f1 f2 : Int32} (h1 : AM (prM S) (fun _ => True) (S 7) 0 4 f1) (h2 : AM f1 (fun k => 96 ≤ S 5 k) (S 6) (99 * S 0 0) (99 * S 0 0 + S 4 (S 0 0)) f2) (j : Int) : mbI f2 j ↔ Rt S j := by
  rw [h2 j, h1 j, prM_mb hR]
  unfold Rt Rt0 LK
  constructor
  · rintro ((⟨h0, w⟩ | ⟨g, g1, g2, -, g3, g4⟩) | ⟨k, k1, k2, k3, k4, k5⟩)
    · exact ⟨h0, Or.inl w⟩
    · exact ⟨g4, Or.inr (Or.inl ⟨g, g1, g2, g3⟩)⟩
    · exact ⟨k5, Or.inr (Or.inr ⟨k, ⟨k1, k2⟩, k3, k4⟩)⟩
  · rintro ⟨h0, w | ⟨g, g1, g2, g3⟩ | ⟨k, ⟨k1, k2⟩, k3, k4⟩⟩
    · exact Or.inl (Or.inl ⟨h0, w⟩)
    · exact Or.inl (Or.inr ⟨g, g1, g2, trivial, g3, h0⟩)
    · exact Or.inr ⟨k, k1, k2, k3, k4, h0⟩
theorem nds_reg {Γ : Cx} {h : Nat} {ad : Nat → Nat} {post : Option Value → St → Prop} {S : St} (C : ph_C shX Γ h ad cX0_neededSet 3 (some .int) 3) (hR : Rg S) (f0 : Int32) (kk : ∀ f, AM f0 (fun _ => True) (S 7) 0 4 f → ph_V shX Γ h ad post S 31 [.ref h, .int f, .int (iI 4)] []) : ∀ (n : Nat) (i : Int) (f : Int32), 0 ≤ i → i + n = 4 → AM f0 (fun _ => True) (S 7) 0 i f → ph_V shX Γ h ad post S 7 [.ref h, .int f, .int (iI i)] [] := by
  intro n
  induction n with
  | zero =>
    intro i f h0 hn ha
    obtain rfl : i = 4 := by omega
    refine ph_iload_n C dX0_neededSet_7 rfl ?_
    refine ph_iconst C dX0_neededSet_8 ?_
    refine ph_icmp_ge C 31 dX0_neededSet_9 (by decide) ⟨by omega, by omega⟩ ⟨by omega, by omega⟩ (fun c_9 => ?_) (fun c_9 => ?_)
    · exact kk f ha
    · exact absurd c_9 (by omega)
  | succ n ih =>
    intro i f h0 hn ha
    have b7 := hR.r7 (i := i) (by omega) (by omega)
    refine ph_iload_n C dX0_neededSet_7 rfl ?_
    refine ph_iconst C dX0_neededSet_8 ?_
    refine ph_icmp_ge C 31 dX0_neededSet_9 (by decide) ⟨by omega, by omega⟩ ⟨by omega, by omega⟩ (fun c_9 => ?_) (fun c_9 => ?_)
    · exact absurd c_9 (by omega)
    · refine ph_iload_n C dX0_neededSet_12 rfl ?_
      refine ph_aload C dX0_neededSet_13 rfl ?_
      refine ph_aload C dX0_neededSet_14 rfl ?_
      refine gX7 C dX0_neededSet_15 ?_
      refine ph_iload_n C dX0_neededSet_18 rfl ?_
      refine lX7 C (by omega) (by omega) dX0_neededSet_19 ?_
      refine ph_call C (cX_bitOf (by omega) (by omega) S) kX_bitOf rfl rfl rfl (Nat.le_of_ble_eq_true rfl) dX0_neededSet_20 (by decide) (by decide) (fun r_20 u_20 hp_20 => ?_)
      obtain ⟨rfl, rfl⟩ := hp_20
      dsimp only [Option.toList_some, Option.toList_none, List.cons_append, List.nil_append]
      refine ph_ior C dX0_neededSet_23 ?_
      refine ph_istore_n (L' := [_, _, _]) C dX0_neededSet_24 (by decide) (Nat.le_of_ble_eq_true rfl) rfl ?_
      refine ph_iinc (L' := [_, _, _]) C dX0_neededSet_25 rfl (by decide) rfl ?_
      refine ph_goto C 7 dX0_neededSet_28 (by decide) ?_
      exact ih (i + 1) _ (by omega) (by omega) (AM_add ha h0 trivial (by omega))
theorem nds_list {Γ : Cx} {h : Nat} {ad : Nat → Nat} {post : Option Value → St → Prop} {S : St} (C : ph_C shX Γ h ad cX0_neededSet 3 (some .int) 3) (hR : Rg S) (hF : Rf S) (f0 : Int32) (kk : ∀ f k, AM f0 (fun k => 96 ≤ S 5 k) (S 6) (99 * S 0 0) (99 * S 0 0 + S 4 (S 0 0)) f → ph_V shX Γ h ad post S 90 [.ref h, .int f, .int (iI k)] []) : ∀ (n : Nat) (k : Int) (f : Int32), 99 * S 0 0 ≤ k → k + n = 99 * S 0 0 + S 4 (S 0 0) → AM f0 (fun k => 96 ≤ S 5 k) (S 6) (99 * S 0 0) k f → ph_V shX Γ h ad post S 39 [.ref h, .int f, .int (iI k)] [] := by
  have b0 := hR.r0
  have b4 := hR.r4 (i := S 0 0) (by omega) (by omega)
  intro n
  induction n with
  | zero =>
    intro k f hk hn ha
    refine ph_iload_n C dX0_neededSet_39 rfl ?_
    refine ph_bipush C dX0_neededSet_40 (by decide) ?_
    refine ph_aload C dX0_neededSet_42 rfl ?_
    refine gX0 C dX0_neededSet_43 ?_
    refine ph_imul C dX0_neededSet_46 ?_
    refine ph_aload C dX0_neededSet_47 rfl ?_
    refine gX4 C dX0_neededSet_48 ?_
    refine ph_aload C dX0_neededSet_51 rfl ?_
    refine gX0 C dX0_neededSet_52 ?_
    refine lX4 C (by omega) (by omega) dX0_neededSet_55 ?_
    refine ph_iadd C dX0_neededSet_56 ?_
    refine ph_icmp_ge C 90 dX0_neededSet_57 (by decide) ⟨by omega, by omega⟩ ⟨by omega, by omega⟩ (fun c_57 => ?_) (fun c_57 => ?_)
    · exact kk f k (by rw [show 99 * S 0 0 + S 4 (S 0 0) = k by omega]; exact ha)
    · exact absurd c_57 (by omega)
  | succ n ih =>
    intro k f hk hn ha
    have b5 := hR.r5 (i := k) (by omega) (by omega)
    refine ph_iload_n C dX0_neededSet_39 rfl ?_
    refine ph_bipush C dX0_neededSet_40 (by decide) ?_
    refine ph_aload C dX0_neededSet_42 rfl ?_
    refine gX0 C dX0_neededSet_43 ?_
    refine ph_imul C dX0_neededSet_46 ?_
    refine ph_aload C dX0_neededSet_47 rfl ?_
    refine gX4 C dX0_neededSet_48 ?_
    refine ph_aload C dX0_neededSet_51 rfl ?_
    refine gX0 C dX0_neededSet_52 ?_
    refine lX4 C (by omega) (by omega) dX0_neededSet_55 ?_
    refine ph_iadd C dX0_neededSet_56 ?_
    refine ph_icmp_ge C 90 dX0_neededSet_57 (by decide) ⟨by omega, by omega⟩ ⟨by omega, by omega⟩ (fun c_57 => ?_) (fun c_57 => ?_)
    · exact absurd c_57 (by omega)
    · have nxt : ∀ f' : Int32, AM f0 (fun k => 96 ≤ S 5 k) (S 6) (99 * S 0 0) (k + 1) f' → ph_V shX Γ h ad post S 84 [.ref h, .int f', .int (iI k)] [] := by
        intro f' hf'
        refine ph_iinc (L' := [_, _, _]) C dX0_neededSet_84 rfl (by decide) rfl ?_
        refine ph_goto C 39 dX0_neededSet_87 (by decide) ?_
        exact ih (k + 1) f' (by omega) (by omega) hf'
      refine ph_aload C dX0_neededSet_60 rfl ?_
      refine gX5 C dX0_neededSet_61 ?_
      refine ph_iload_n C dX0_neededSet_64 rfl ?_
      refine lX5 C (by omega) (by omega) dX0_neededSet_65 ?_
      refine ph_bipush C dX0_neededSet_66 (by decide) ?_
      refine ph_icmp_lt C 84 dX0_neededSet_68 (by decide) ⟨by omega, by omega⟩ ⟨by omega, by omega⟩ (fun c_68 => ?_) (fun c_68 => ?_)
      · first | exact nxt _ (AM_skip ha (show ¬ 96 ≤ S 5 k by omega)) | exact nxt _ (AM_add ha hk c_68 (by omega))
      · have b6 := hF k (by omega) (by omega) (Or.inl c_68)
        refine ph_iload_n C dX0_neededSet_71 rfl ?_
        refine ph_aload C dX0_neededSet_72 rfl ?_
        refine ph_aload C dX0_neededSet_73 rfl ?_
        refine gX6 C dX0_neededSet_74 ?_
        refine ph_iload_n C dX0_neededSet_77 rfl ?_
        refine lX6 C (by omega) (by omega) dX0_neededSet_78 ?_
        refine ph_call C (cX_bitOf (by omega) (by omega) S) kX_bitOf rfl rfl rfl (Nat.le_of_ble_eq_true rfl) dX0_neededSet_79 (by decide) (by decide) (fun r_79 u_79 hp_79 => ?_)
        obtain ⟨rfl, rfl⟩ := hp_79
        dsimp only [Option.toList_some, Option.toList_none, List.cons_append, List.nil_append]
        refine ph_ior C dX0_neededSet_82 ?_
        refine ph_istore_n (L' := [_, _, _]) C dX0_neededSet_83 (by decide) (Nat.le_of_ble_eq_true rfl) rfl ?_
        first | exact nxt _ (AM_skip ha (show ¬ 96 ≤ S 5 k by omega)) | exact nxt _ (AM_add ha hk c_68 (by omega))
theorem cX_neededSet {S : St} (hR : Rg S) (hF : Rf S) : ph_M shX yX0_neededSet cX0_neededSet 3 (some .int) 3 [] S (fun r u => ∃ f : Int32, r = some (.int f) ∧ S = u ∧ ∀ j, mbI f j ↔ Nd S j) := by
  have b0 := hR.r0
  have b4 := hR.r4 (i := S 0 0) (by omega) (by omega)
  refine ph_of shX_ok plX rfl cat0 (Nat.le_of_ble_eq_true rfl) (fun Γ h ad C => ?_)
  refine ph_aload C dX0_neededSet_0 rfl ?_
  refine ph_call C (cX_presentRoots hR) kX_presentRoots rfl rfl rfl (Nat.le_of_ble_eq_true rfl) dX0_neededSet_1 (by decide) (by decide) (fun r_1 u_1 hp_1 => ?_)
  obtain ⟨rfl, rfl⟩ := hp_1
  dsimp only [Option.toList_some, Option.toList_none, List.cons_append, List.nil_append]
  refine ph_istore_n (L' := [_, _]) C dX0_neededSet_4 (by decide) (Nat.le_of_ble_eq_true rfl) rfl ?_
  refine ph_iconst C dX0_neededSet_5 ?_
  refine ph_istore_n (L' := [_, _, _]) C dX0_neededSet_6 (by decide) (Nat.le_of_ble_eq_true rfl) rfl ?_
  refine nds_reg C hR (prM S) (fun f1 h1 => ?_) 4 0 _ (by omega) (by omega) AM_0
  refine ph_bipush C dX0_neededSet_31 (by decide) ?_
  refine ph_aload C dX0_neededSet_33 rfl ?_
  refine gX0 C dX0_neededSet_34 ?_
  refine ph_imul C dX0_neededSet_37 ?_
  refine ph_istore_n (L' := [_, _, _]) C dX0_neededSet_38 (by decide) (Nat.le_of_ble_eq_true rfl) rfl ?_
  refine nds_list C hR hF f1 (fun f2 k h2 => ?_) (S 4 (S 0 0)).toNat _ _ (by omega) (by omega) AM_0
  refine ph_aload C dX0_neededSet_90 rfl ?_
  refine ph_iload_n C dX0_neededSet_91 rfl ?_
  refine ph_iconst C dX0_neededSet_92 ?_
  refine ph_call C (cX_spread hR hF f2 (Or.inr rfl)) kX_spread rfl rfl rfl (Nat.le_of_ble_eq_true rfl) dX0_neededSet_93 (by decide) (by decide) (fun r_93 u_93 hp_93 => ?_)
  obtain ⟨f3, rfl, rfl, h3⟩ := hp_93
  dsimp only [Option.toList_some, Option.toList_none, List.cons_append, List.nil_append]
  exact ph_iret C dX0_neededSet_96 ⟨f3, rfl, rfl, fun j => (h3 j).trans (Cl.congr (Rt_mask hR h1 h2) (fun _ _ => Iff.rfl) j)⟩
theorem cX_fromRoots {S : St} (hR : Rg S) (hF : Rf S) : ph_M shX yX0_fromRoots cX0_fromRoots 3 (some .int) 3 [] S (fun r u => ∃ z : Int, r = some (.int (iI z)) ∧ S = u ∧ z = cP (Rd S) 32) := by
  refine ph_of shX_ok plX rfl cat0 (Nat.le_of_ble_eq_true rfl) (fun Γ h ad C => ?_)
  refine ph_aload C dX0_fromRoots_0 rfl ?_
  refine ph_call C (cX_presentRoots hR) kX_presentRoots rfl rfl rfl (Nat.le_of_ble_eq_true rfl) dX0_fromRoots_1 (by decide) (by decide) (fun r_1 u_1 hp_1 => ?_)
  obtain ⟨rfl, rfl⟩ := hp_1
  dsimp only [Option.toList_some, Option.toList_none, List.cons_append, List.nil_append]
  refine ph_istore_n (L' := [_, _]) C dX0_fromRoots_4 (by decide) (Nat.le_of_ble_eq_true rfl) rfl ?_
  refine ph_aload C dX0_fromRoots_5 rfl ?_
  refine ph_iload_n C dX0_fromRoots_6 rfl ?_
  refine ph_iconst C dX0_fromRoots_7 ?_
  refine ph_call C (cX_spread hR hF (prM S) (Or.inl rfl)) kX_spread rfl rfl rfl (Nat.le_of_ble_eq_true rfl) dX0_fromRoots_8 (by decide) (by decide) (fun r_8 u_8 hp_8 => ?_)
  obtain ⟨f3, rfl, rfl, h3⟩ := hp_8
  dsimp only [Option.toList_some, Option.toList_none, List.cons_append, List.nil_append]
  refine ph_istore_n (L' := [_, _, _]) C dX0_fromRoots_11 (by decide) (Nat.le_of_ble_eq_true rfl) rfl ?_
  refine ph_aload C dX0_fromRoots_12 rfl ?_
  refine ph_iload_n C dX0_fromRoots_13 rfl ?_
  refine ph_call C (cX_countOf f3 S) kX_countOf rfl rfl rfl (Nat.le_of_ble_eq_true rfl) dX0_fromRoots_14 (by decide) (by decide) (fun r_14 u_14 hp_14 => ?_)
  obtain ⟨z, rfl, rfl, hz⟩ := hp_14
  dsimp only [Option.toList_some, Option.toList_none, List.cons_append, List.nil_append]
  exact ph_iret C dX0_fromRoots_17 ⟨z, rfl, rfl, hz.trans (cP_congr (fun j _ _ => (h3 j).trans (Cl.congr (prM_mb hR) (fun _ _ => Iff.rfl) j)))⟩
theorem cX_needed {S : St} (hR : Rg S) (hF : Rf S) : ph_M shX yX0_needed cX0_needed 2 (some .int) 4 [] S (fun r u => ∃ z : Int, r = some (.int (iI z)) ∧ S = u ∧ z = cP (Nd S) 32) := by
  refine ph_of shX_ok plX rfl cat0 (Nat.le_of_ble_eq_true rfl) (fun Γ h ad C => ?_)
  refine ph_aload C dX0_needed_0 rfl ?_
  refine ph_call C (cX_neededSet hR hF) kX_neededSet rfl rfl rfl (Nat.le_of_ble_eq_true rfl) dX0_needed_1 (by decide) (by decide) (fun r_1 u_1 hp_1 => ?_)
  obtain ⟨f3, rfl, rfl, h3⟩ := hp_1
  dsimp only [Option.toList_some, Option.toList_none, List.cons_append, List.nil_append]
  refine ph_istore_n (L' := [_, _]) C dX0_needed_4 (by decide) (Nat.le_of_ble_eq_true rfl) rfl ?_
  refine ph_aload C dX0_needed_5 rfl ?_
  refine ph_iload_n C dX0_needed_6 rfl ?_
  refine ph_call C (cX_countOf f3 S) kX_countOf rfl rfl rfl (Nat.le_of_ble_eq_true rfl) dX0_needed_7 (by decide) (by decide) (fun r_7 u_7 hp_7 => ?_)
  obtain ⟨z, rfl, rfl, hz⟩ := hp_7
  dsimp only [Option.toList_some, Option.toList_none, List.cons_append, List.nil_append]
  exact ph_iret C dX0_needed_10 ⟨z, rfl, rfl, hz.trans (cP_congr (fun j _ _ => h3 j))⟩
theorem reach_t {Γ : Cx} {h : Nat} {ad : Nat → Nat} {post : Option Value → St → Prop} {S : St} (C : ph_C shX Γ h ad cX0_reach 4 (some .int) 3) (hR : Rg S) (hF : Rf S) {g : Int} (h0 : 0 ≤ g) (h1 : g ≤ 2) (hp : ∀ z, z = cP (Cl (Eg S 0) (fun j => 0 ≤ j ∧ S 3 (3 * S 0 0 + g) = j)) 32 → post (some (.int (iI z))) S) : ph_V shX Γ h ad post S 45 [.ref h, .int (iI g)] [.int (bM (S 3 (3 * S 0 0 + g)))] := by
  have b0 := hR.r0
  have b3 := hR.r3 (i := 3 * S 0 0 + g) (by omega) (by omega)
  refine ph_istore_n (L' := [_, _, _]) C dX0_reach_45 (by decide) (Nat.le_of_ble_eq_true rfl) rfl ?_
  refine ph_aload C dX0_reach_46 rfl ?_
  refine ph_iload_n C dX0_reach_47 rfl ?_
  refine ph_iconst C dX0_reach_48 ?_
  refine ph_call C (cX_spread hR hF (bM (S 3 (3 * S 0 0 + g))) (Or.inl rfl)) kX_spread rfl rfl rfl (Nat.le_of_ble_eq_true rfl) dX0_reach_49 (by decide) (by decide) (fun r_49 u_49 hp_49 => ?_)
  obtain ⟨f3, rfl, rfl, h3⟩ := hp_49
  dsimp only [Option.toList_some, Option.toList_none, List.cons_append, List.nil_append]
  refine ph_istore_n (L' := [_, _, _, _]) C dX0_reach_52 (by decide) (Nat.le_of_ble_eq_true rfl) rfl ?_
  refine ph_aload C dX0_reach_53 rfl ?_
  refine ph_iload_n C dX0_reach_54 rfl ?_
  refine ph_call C (cX_countOf f3 S) kX_countOf rfl rfl rfl (Nat.le_of_ble_eq_true rfl) dX0_reach_55 (by decide) (by decide) (fun r_55 u_55 hp_55 => ?_)
  obtain ⟨z, rfl, rfl, hz⟩ := hp_55
  dsimp only [Option.toList_some, Option.toList_none, List.cons_append, List.nil_append]
  exact ph_iret C dX0_reach_58 (hp z (hz.trans (cP_congr (fun j _ _ => (h3 j).trans (Cl.congr (fun y => by rw [mb_bM b3.2]; constructor <;> (intro w; omega)) (fun _ _ => Iff.rfl) j)))))
theorem cX_reach {S : St} (hR : Rg S) (hF : Rf S) {g : Int} (hg : inI g) : ph_M shX yX0_reach cX0_reach 4 (some .int) 3 [.int (iI g)] S (fun r u => ∃ z : Int, r = some (.int (iI z)) ∧ S = u ∧ (((g < 0 ∨ 2 < g) ∧ z = -1) ∨ (0 ≤ g ∧ g ≤ 2 ∧ z = cP (Cl (Eg S 0) (fun j => 0 ≤ j ∧ S 3 (3 * S 0 0 + g) = j)) 32))) := by
  have b0 := hR.r0
  refine ph_of shX_ok plX rfl cat1 (Nat.le_of_ble_eq_true rfl) (fun Γ h ad C => ?_)
  refine ph_aload C dX0_reach_0 rfl ?_
  refine ph_iload_n C dX0_reach_1 rfl ?_
  refine ph_call C (cX_isRoot hg S) kX_isRoot rfl rfl rfl (Nat.le_of_ble_eq_true rfl) dX0_reach_2 (by decide) (by decide) (fun r_2 u_2 hp_2 => ?_)
  obtain ⟨z2, rfl, rfl, hz2⟩ := hp_2
  dsimp only [Option.toList_some, Option.toList_none, List.cons_append, List.nil_append]
  refine ph_if_ne C 10 dX0_reach_5 (by decide) ⟨by omega, by omega⟩ (fun c_5 => ?_) (fun c_5 => ?_)
  · have b3 := hR.r3 (i := 3 * S 0 0 + g) (by omega) (by omega)
    refine ph_aload C dX0_reach_10 rfl ?_
    refine gX3 C dX0_reach_11 ?_
    refine ph_iconst C dX0_reach_14 ?_
    refine ph_aload C dX0_reach_15 rfl ?_
    refine gX0 C dX0_reach_16 ?_
    refine ph_imul C dX0_reach_19 ?_
    refine ph_iload_n C dX0_reach_20 rfl ?_
    refine ph_iadd C dX0_reach_21 ?_
    refine lX3 C (by omega) (by omega) dX0_reach_22 ?_
    refine ph_if_ge C 30 dX0_reach_23 (by decide) ⟨by omega, by omega⟩ (fun c_23 => ?_) (fun c_23 => ?_)
    · refine ph_iconst C dX0_reach_30 ?_
      refine ph_aload C dX0_reach_31 rfl ?_
      refine gX3 C dX0_reach_32 ?_
      refine ph_iconst C dX0_reach_35 ?_
      refine ph_aload C dX0_reach_36 rfl ?_
      refine gX0 C dX0_reach_37 ?_
      refine ph_imul C dX0_reach_40 ?_
      refine ph_iload_n C dX0_reach_41 rfl ?_
      refine ph_iadd C dX0_reach_42 ?_
      refine lX3 C (by omega) (by omega) dX0_reach_43 ?_
      refine ph_ishl C dX0_reach_44 ?_
      first | (rw [← bM_p (by omega)]; exact reach_t C hR hF (by omega) (by omega) (fun z hz => ⟨z, rfl, rfl, Or.inr ⟨by omega, by omega, hz⟩⟩)) | (have e := bM_n (s := S 3 (3 * S 0 0 + g)) (by omega); rw [← e]; exact reach_t C hR hF (by omega) (by omega) (fun z hz => ⟨z, rfl, rfl, Or.inr ⟨by omega, by omega, hz⟩⟩))
    · refine ph_iconst C dX0_reach_26 ?_
      refine ph_goto C 45 dX0_reach_27 (by decide) ?_
      first | (rw [← bM_p (by omega)]; exact reach_t C hR hF (by omega) (by omega) (fun z hz => ⟨z, rfl, rfl, Or.inr ⟨by omega, by omega, hz⟩⟩)) | (have e := bM_n (s := S 3 (3 * S 0 0 + g)) (by omega); rw [← e]; exact reach_t C hR hF (by omega) (by omega) (fun z hz => ⟨z, rfl, rfl, Or.inr ⟨by omega, by omega, hz⟩⟩))
  · refine ph_iconst C dX0_reach_8 ?_
    exact ph_iret C dX0_reach_9 ⟨_, rfl, rfl, Or.inl ⟨by omega, rfl⟩⟩
end
section
set_option maxRecDepth 100000
/-- there is room on the list for a place that isn't on it -/
def NR (S : St) : Prop := ∀ p, 0 ≤ p → p < 99 → S 10 p = 0 → S 4 (S 0 0) < 99
theorem noteF_k {S : St} {p v i : Int} {k : Nat} (h : k ≠ 10 ∧ k ≠ 5 ∧ k ≠ 6 ∧ k ≠ 4) : noteF S p v k i = S k i := by
  unfold noteF
  split
  · rw [wr_k h.2.2.2, wr_k h.2.2.1, wr_k h.2.1, wr_k h.1]
  · rfl
theorem noteF_0 {S : St} {p v i : Int} : noteF S p v 0 i = S 0 i := noteF_k (by decide)
theorem noteF_1 {S : St} {p v i : Int} : noteF S p v 1 i = S 1 i := noteF_k (by decide)
theorem noteF_2 {S : St} {p v i : Int} : noteF S p v 2 i = S 2 i := noteF_k (by decide)
theorem noteF_3 {S : St} {p v i : Int} : noteF S p v 3 i = S 3 i := noteF_k (by decide)
theorem noteF_7 {S : St} {p v i : Int} : noteF S p v 7 i = S 7 i := noteF_k (by decide)
theorem noteF_8 {S : St} {p v i : Int} : noteF S p v 8 i = S 8 i := noteF_k (by decide)
theorem noteF_9 {S : St} {p v i : Int} : noteF S p v 9 i = S 9 i := noteF_k (by decide)
theorem noteF_11 {S : St} {p v i : Int} : noteF S p v 11 i = S 11 i := noteF_k (by decide)
theorem noteF_12 {S : St} {p v i : Int} : noteF S p v 12 i = S 12 i := noteF_k (by decide)
theorem noteF_13 {S : St} {p v i : Int} : noteF S p v 13 i = S 13 i := noteF_k (by decide)
theorem noteF_14 {S : St} {p v i : Int} : noteF S p v 14 i = S 14 i := noteF_k (by decide)
theorem noteF_15 {S : St} {p v i : Int} : noteF S p v 15 i = S 15 i := noteF_k (by decide)
theorem cX_fromRoot {S : St} (hR : Rg S) {g q : Int} (hg : inI g) (hq : inI q) : ph_M shX yX0_fromRoot cX0_fromRoot 3 (some .int) 1 [.int (iI g), .int (iI q)] S (fun r u => ∃ z : Int, r = some (.int (iI z)) ∧ (((g < 0 ∨ 3 < g ∨ q < 0 ∨ 2 < q) ∧ z = -1 ∧ S = u) ∨ ((0 ≤ g ∧ g ≤ 3 ∧ 0 ≤ q ∧ q ≤ 2) ∧ z = 0 ∧ wr S 7 g (S 3 (3 * S 0 0 + q)) = u))) := by
  have hg1 := hg.1
  have hg2 := hg.2
  have hq1 := hq.1
  have hq2 := hq.2
  have b0 := hR.r0
  refine ph_of shX_ok plX rfl cat2 (Nat.le_of_ble_eq_true rfl) (fun Γ h ad C => ?_)
  refine ph_aload C dX0_fromRoot_0 rfl ?_
  refine ph_iload_n C dX0_fromRoot_1 rfl ?_
  refine ph_call C (cX_isReg hg S) kX_isRegister rfl rfl rfl (Nat.le_of_ble_eq_true rfl) dX0_fromRoot_2 (by decide) (by decide) (fun r_2 u_2 hp_2 => ?_)
  obtain ⟨z1, rfl, rfl, hz1⟩ := hp_2
  dsimp only [Option.toList_some, Option.toList_none, List.cons_append, List.nil_append]
  refine ph_if_eq C 16 dX0_fromRoot_5 (by decide) ⟨by omega, by omega⟩ (fun c_5 => ?_) (fun c_5 => ?_)
  · refine ph_iconst C dX0_fromRoot_16 ?_
    exact ph_iret C dX0_fromRoot_17 ⟨_, rfl, Or.inl ⟨by omega, rfl, rfl⟩⟩
  · refine ph_aload C dX0_fromRoot_8 rfl ?_
    refine ph_iload_n C dX0_fromRoot_9 rfl ?_
    refine ph_call C (cX_isRoot hq S) kX_isRoot rfl rfl rfl (Nat.le_of_ble_eq_true rfl) dX0_fromRoot_10 (by decide) (by decide) (fun r_10 u_10 hp_10 => ?_)
    obtain ⟨z2, rfl, rfl, hz2⟩ := hp_10
    dsimp only [Option.toList_some, Option.toList_none, List.cons_append, List.nil_append]
    refine ph_if_ne C 18 dX0_fromRoot_13 (by decide) ⟨by omega, by omega⟩ (fun c_13 => ?_) (fun c_13 => ?_)
    · have b3 := hR.r3 (i := 3 * S 0 0 + q) (by omega) (by omega)
      refine ph_aload C dX0_fromRoot_18 rfl ?_
      refine gX7 C dX0_fromRoot_19 ?_
      refine ph_iload_n C dX0_fromRoot_22 rfl ?_
      refine ph_aload C dX0_fromRoot_23 rfl ?_
      refine gX3 C dX0_fromRoot_24 ?_
      refine ph_iconst C dX0_fromRoot_27 ?_
      refine ph_aload C dX0_fromRoot_28 rfl ?_
      refine gX0 C dX0_fromRoot_29 ?_
      refine ph_imul C dX0_fromRoot_32 ?_
      refine ph_iload_n C dX0_fromRoot_33 rfl ?_
      refine ph_iadd C dX0_fromRoot_34 ?_
      refine lX3 C (by omega) (by omega) dX0_fromRoot_35 ?_
      refine sX7 C (by omega) (by omega) (by omega) dX0_fromRoot_36 ?_
      refine ph_iconst C dX0_fromRoot_37 ?_
      exact ph_iret C dX0_fromRoot_38 ⟨_, rfl, Or.inr ⟨by omega, rfl, rfl⟩⟩
    · refine ph_iconst C dX0_fromRoot_16 ?_
      exact ph_iret C dX0_fromRoot_17 ⟨_, rfl, Or.inl ⟨by omega, rfl, rfl⟩⟩
theorem cX_toRoot {S : St} (hR : Rg S) (hN : NR S) {g q : Int} (hg : inI g) (hq : inI q) : ph_M shX yX0_toRoot cX0_toRoot 3 (some .int) 1 [.int (iI q), .int (iI g)] S (fun r u => ∃ z : Int, r = some (.int (iI z)) ∧ (((g < 0 ∨ 3 < g ∨ q < 0 ∨ 2 < q) ∧ z = -1 ∧ S = u) ∨ ((0 ≤ g ∧ g ≤ 3 ∧ 0 ≤ q ∧ q ≤ 2) ∧ z = 0 ∧ wr (noteF S (96 + q) (S 3 (3 * S 0 0 + q))) 3 (3 * S 0 0 + q) (S 7 g) = u))) := by
  have hg1 := hg.1
  have hg2 := hg.2
  have hq1 := hq.1
  have hq2 := hq.2
  have b0 := hR.r0
  refine ph_of shX_ok plX rfl cat2 (Nat.le_of_ble_eq_true rfl) (fun Γ h ad C => ?_)
  refine ph_aload C dX0_toRoot_0 rfl ?_
  refine ph_iload_n C dX0_toRoot_1 rfl ?_
  refine ph_call C (cX_isReg hg S) kX_isRegister rfl rfl rfl (Nat.le_of_ble_eq_true rfl) dX0_toRoot_2 (by decide) (by decide) (fun r_2 u_2 hp_2 => ?_)
  obtain ⟨z1, rfl, rfl, hz1⟩ := hp_2
  dsimp only [Option.toList_some, Option.toList_none, List.cons_append, List.nil_append]
  refine ph_if_eq C 16 dX0_toRoot_5 (by decide) ⟨by omega, by omega⟩ (fun c_5 => ?_) (fun c_5 => ?_)
  · refine ph_iconst C dX0_toRoot_16 ?_
    exact ph_iret C dX0_toRoot_17 ⟨_, rfl, Or.inl ⟨by omega, rfl, rfl⟩⟩
  · refine ph_aload C dX0_toRoot_8 rfl ?_
    refine ph_iload_n C dX0_toRoot_9 rfl ?_
    refine ph_call C (cX_isRoot hq S) kX_isRoot rfl rfl rfl (Nat.le_of_ble_eq_true rfl) dX0_toRoot_10 (by decide) (by decide) (fun r_10 u_10 hp_10 => ?_)
    obtain ⟨z2, rfl, rfl, hz2⟩ := hp_10
    dsimp only [Option.toList_some, Option.toList_none, List.cons_append, List.nil_append]
    refine ph_if_ne C 18 dX0_toRoot_13 (by decide) ⟨by omega, by omega⟩ (fun c_13 => ?_) (fun c_13 => ?_)
    · have b3 := hR.r3 (i := 3 * S 0 0 + q) (by omega) (by omega)
      have b7 := hR.r7 (i := g) (by omega) (by omega)
      refine ph_aload C dX0_toRoot_18 rfl ?_
      refine ph_bipush C dX0_toRoot_19 (by decide) ?_
      refine ph_iload_n C dX0_toRoot_21 rfl ?_
      refine ph_iadd C dX0_toRoot_22 ?_
      refine ph_aload C dX0_toRoot_23 rfl ?_
      refine gX3 C dX0_toRoot_24 ?_
      refine ph_iconst C dX0_toRoot_27 ?_
      refine ph_aload C dX0_toRoot_28 rfl ?_
      refine gX0 C dX0_toRoot_29 ?_
      refine ph_imul C dX0_toRoot_32 ?_
      refine ph_iload_n C dX0_toRoot_33 rfl ?_
      refine ph_iadd C dX0_toRoot_34 ?_
      refine lX3 C (by omega) (by omega) dX0_toRoot_35 ?_
      refine ph_call C (cX_note hR (by omega) (by omega) (hN _ (by omega) (by omega))) kX_note rfl rfl rfl (Nat.le_of_ble_eq_true rfl) dX0_toRoot_36 (by decide) (by decide) (fun r_36 u_36 hp_36 => ?_)
      obtain ⟨rfl, rfl⟩ := hp_36
      dsimp only [Option.toList_some, Option.toList_none, List.cons_append, List.nil_append]
      refine ph_aload C dX0_toRoot_39 rfl ?_
      refine gX3 C dX0_toRoot_40 ?_
      refine ph_iconst C dX0_toRoot_43 ?_
      refine ph_aload C dX0_toRoot_44 rfl ?_
      refine gX0 C dX0_toRoot_45 ?_
      simp only [noteF_0, noteF_1, noteF_2, noteF_3, noteF_7, noteF_8, noteF_9]
      refine ph_imul C dX0_toRoot_48 ?_
      refine ph_iload_n C dX0_toRoot_49 rfl ?_
      refine ph_iadd C dX0_toRoot_50 ?_
      refine ph_aload C dX0_toRoot_51 rfl ?_
      refine gX7 C dX0_toRoot_52 ?_
      refine ph_iload_n C dX0_toRoot_55 rfl ?_
      refine lX7 C (by omega) (by omega) dX0_toRoot_56 ?_
      simp only [noteF_0, noteF_1, noteF_2, noteF_3, noteF_7, noteF_8, noteF_9]
      refine sX3 C (by omega) (by omega) (by omega) dX0_toRoot_57 ?_
      refine ph_iconst C dX0_toRoot_58 ?_
      exact ph_iret C dX0_toRoot_59 ⟨_, rfl, Or.inr ⟨by omega, rfl, rfl⟩⟩
    · refine ph_iconst C dX0_toRoot_16 ?_
      exact ph_iret C dX0_toRoot_17 ⟨_, rfl, Or.inl ⟨by omega, rfl, rfl⟩⟩
theorem cX_fromField {S : St} (hR : Rg S) {g s f : Int} (hg : inI g) (hs : inI s) (hf : inI f) : ph_M shX yX0_fromField cX0_fromField 4 (some .int) 1 [.int (iI g), .int (iI s), .int (iI f)] S (fun r u => ∃ z : Int, r = some (.int (iI z)) ∧ (((g < 0 ∨ 3 < g ∨ s < 0 ∨ 3 < s ∨ f < 0 ∨ 1 < f) ∧ z = -1 ∧ S = u) ∨ ((0 ≤ g ∧ g ≤ 3 ∧ 0 ≤ s ∧ s ≤ 3 ∧ 0 ≤ f ∧ f ≤ 1) ∧ S 7 s < 0 ∧ z = -3 ∧ S = u) ∨ ((0 ≤ g ∧ g ≤ 3 ∧ 0 ≤ s ∧ s ≤ 3 ∧ 0 ≤ f ∧ f ≤ 1) ∧ 0 ≤ S 7 s ∧ z = 0 ∧ wr S 7 g (S 1 (2 * (32 * S 0 0 + S 7 s) + f)) = u))) := by
  have hg1 := hg.1
  have hg2 := hg.2
  have hs1 := hs.1
  have hs2 := hs.2
  have hf1 := hf.1
  have hf2 := hf.2
  have b0 := hR.r0
  refine ph_of shX_ok plX rfl cat3 (Nat.le_of_ble_eq_true rfl) (fun Γ h ad C => ?_)
  refine ph_aload C dX0_fromField_0 rfl ?_
  refine ph_iload_n C dX0_fromField_1 rfl ?_
  refine ph_call C (cX_isReg hg S) kX_isRegister rfl rfl rfl (Nat.le_of_ble_eq_true rfl) dX0_fromField_2 (by decide) (by decide) (fun r_2 u_2 hp_2 => ?_)
  obtain ⟨z1, rfl, rfl, hz1⟩ := hp_2
  dsimp only [Option.toList_some, Option.toList_none, List.cons_append, List.nil_append]
  refine ph_if_eq C 25 dX0_fromField_5 (by decide) ⟨by omega, by omega⟩ (fun c_5 => ?_) (fun c_5 => ?_)
  · refine ph_iconst C dX0_fromField_25 ?_
    exact ph_iret C dX0_fromField_26 ⟨_, rfl, Or.inl ⟨by omega, rfl, rfl⟩⟩
  · refine ph_aload C dX0_fromField_8 rfl ?_
    refine ph_iload_n C dX0_fromField_9 rfl ?_
    refine ph_call C (cX_isReg hs S) kX_isRegister rfl rfl rfl (Nat.le_of_ble_eq_true rfl) dX0_fromField_10 (by decide) (by decide) (fun r_10 u_10 hp_10 => ?_)
    obtain ⟨z2, rfl, rfl, hz2⟩ := hp_10
    dsimp only [Option.toList_some, Option.toList_none, List.cons_append, List.nil_append]
    refine ph_if_eq C 25 dX0_fromField_13 (by decide) ⟨by omega, by omega⟩ (fun c_13 => ?_) (fun c_13 => ?_)
    · refine ph_iconst C dX0_fromField_25 ?_
      exact ph_iret C dX0_fromField_26 ⟨_, rfl, Or.inl ⟨by omega, rfl, rfl⟩⟩
    · refine ph_iload_n C dX0_fromField_16 rfl ?_
      refine ph_if_lt C 25 dX0_fromField_17 (by decide) ⟨by omega, by omega⟩ (fun c_17 => ?_) (fun c_17 => ?_)
      · refine ph_iconst C dX0_fromField_25 ?_
        exact ph_iret C dX0_fromField_26 ⟨_, rfl, Or.inl ⟨by omega, rfl, rfl⟩⟩
      · refine ph_iload_n C dX0_fromField_20 rfl ?_
        refine ph_iconst C dX0_fromField_21 ?_
        refine ph_icmp_le C 27 dX0_fromField_22 (by decide) ⟨by omega, by omega⟩ ⟨by omega, by omega⟩ (fun c_22 => ?_) (fun c_22 => ?_)
        · have b7 := hR.r7 (i := s) (by omega) (by omega)
          refine ph_aload C dX0_fromField_27 rfl ?_
          refine gX7 C dX0_fromField_28 ?_
          refine ph_iload_n C dX0_fromField_31 rfl ?_
          refine lX7 C (by omega) (by omega) dX0_fromField_32 ?_
          refine ph_if_ge C 39 dX0_fromField_33 (by decide) ⟨by omega, by omega⟩ (fun c_33 => ?_) (fun c_33 => ?_)
          · have b1 := hR.r1 (i := 2 * (32 * S 0 0 + S 7 s) + f) (by omega) (by omega)
            refine ph_aload C dX0_fromField_39 rfl ?_
            refine gX7 C dX0_fromField_40 ?_
            refine ph_iload_n C dX0_fromField_43 rfl ?_
            refine ph_aload C dX0_fromField_44 rfl ?_
            refine gX1 C dX0_fromField_45 ?_
            refine ph_iconst C dX0_fromField_48 ?_
            refine ph_bipush C dX0_fromField_49 (by decide) ?_
            refine ph_aload C dX0_fromField_51 rfl ?_
            refine gX0 C dX0_fromField_52 ?_
            refine ph_imul C dX0_fromField_55 ?_
            refine ph_aload C dX0_fromField_56 rfl ?_
            refine gX7 C dX0_fromField_57 ?_
            refine ph_iload_n C dX0_fromField_60 rfl ?_
            refine lX7 C (by omega) (by omega) dX0_fromField_61 ?_
            refine ph_iadd C dX0_fromField_62 ?_
            refine ph_imul C dX0_fromField_63 ?_
            refine ph_iload_n C dX0_fromField_64 rfl ?_
            refine ph_iadd C dX0_fromField_65 ?_
            refine lX1 C (by omega) (by omega) dX0_fromField_66 ?_
            refine sX7 C (by omega) (by omega) (by omega) dX0_fromField_67 ?_
            refine ph_iconst C dX0_fromField_68 ?_
            exact ph_iret C dX0_fromField_69 ⟨_, rfl, Or.inr (Or.inr ⟨by omega, by omega, rfl, rfl⟩)⟩
          · refine ph_bipush C dX0_fromField_36 (by decide) ?_
            exact ph_iret C dX0_fromField_38 ⟨_, rfl, Or.inr (Or.inl ⟨by omega, by omega, rfl, rfl⟩)⟩
        · refine ph_iconst C dX0_fromField_25 ?_
          exact ph_iret C dX0_fromField_26 ⟨_, rfl, Or.inl ⟨by omega, rfl, rfl⟩⟩
theorem cX_toField {S : St} (hR : Rg S) (hN : NR S) {g s f : Int} (hg : inI g) (hs : inI s) (hf : inI f) : ph_M shX yX0_toField cX0_toField 6 (some .int) 1 [.int (iI s), .int (iI f), .int (iI g)] S (fun r u => ∃ z : Int, r = some (.int (iI z)) ∧ (((g < 0 ∨ 3 < g ∨ s < 0 ∨ 3 < s ∨ f < 0 ∨ 1 < f) ∧ z = -1 ∧ S = u) ∨ ((0 ≤ g ∧ g ≤ 3 ∧ 0 ≤ s ∧ s ≤ 3 ∧ 0 ≤ f ∧ f ≤ 1) ∧ S 7 s < 0 ∧ z = -3 ∧ S = u) ∨ ((0 ≤ g ∧ g ≤ 3 ∧ 0 ≤ s ∧ s ≤ 3 ∧ 0 ≤ f ∧ f ≤ 1) ∧ 0 ≤ S 7 s ∧ ¬ S 9 (S 7 s) = 0 ∧ z = 0 ∧ wr S 1 (2 * (32 * S 0 0 + S 7 s) + f) (S 7 g) = u) ∨ ((0 ≤ g ∧ g ≤ 3 ∧ 0 ≤ s ∧ s ≤ 3 ∧ 0 ≤ f ∧ f ≤ 1) ∧ 0 ≤ S 7 s ∧ S 9 (S 7 s) = 0 ∧ z = 0 ∧ wr (noteF S (3 * S 7 s + f) (S 1 (2 * (32 * S 0 0 + S 7 s) + f))) 1 (2 * (32 * S 0 0 + S 7 s) + f) (S 7 g) = u))) := by
  have hg1 := hg.1
  have hg2 := hg.2
  have hs1 := hs.1
  have hs2 := hs.2
  have hf1 := hf.1
  have hf2 := hf.2
  have b0 := hR.r0
  refine ph_of shX_ok plX rfl cat3 (Nat.le_of_ble_eq_true rfl) (fun Γ h ad C => ?_)
  refine ph_aload C dX0_toField_0 rfl ?_
  refine ph_iload_n C dX0_toField_1 rfl ?_
  refine ph_call C (cX_isReg hg S) kX_isRegister rfl rfl rfl (Nat.le_of_ble_eq_true rfl) dX0_toField_2 (by decide) (by decide) (fun r_2 u_2 hp_2 => ?_)
  obtain ⟨z1, rfl, rfl, hz1⟩ := hp_2
  dsimp only [Option.toList_some, Option.toList_none, List.cons_append, List.nil_append]
  refine ph_if_eq C 25 dX0_toField_5 (by decide) ⟨by omega, by omega⟩ (fun c_5 => ?_) (fun c_5 => ?_)
  · refine ph_iconst C dX0_toField_25 ?_
    exact ph_iret C dX0_toField_26 ⟨_, rfl, Or.inl ⟨by omega, rfl, rfl⟩⟩
  · refine ph_aload C dX0_toField_8 rfl ?_
    refine ph_iload_n C dX0_toField_9 rfl ?_
    refine ph_call C (cX_isReg hs S) kX_isRegister rfl rfl rfl (Nat.le_of_ble_eq_true rfl) dX0_toField_10 (by decide) (by decide) (fun r_10 u_10 hp_10 => ?_)
    obtain ⟨z2, rfl, rfl, hz2⟩ := hp_10
    dsimp only [Option.toList_some, Option.toList_none, List.cons_append, List.nil_append]
    refine ph_if_eq C 25 dX0_toField_13 (by decide) ⟨by omega, by omega⟩ (fun c_13 => ?_) (fun c_13 => ?_)
    · refine ph_iconst C dX0_toField_25 ?_
      exact ph_iret C dX0_toField_26 ⟨_, rfl, Or.inl ⟨by omega, rfl, rfl⟩⟩
    · refine ph_iload_n C dX0_toField_16 rfl ?_
      refine ph_if_lt C 25 dX0_toField_17 (by decide) ⟨by omega, by omega⟩ (fun c_17 => ?_) (fun c_17 => ?_)
      · refine ph_iconst C dX0_toField_25 ?_
        exact ph_iret C dX0_toField_26 ⟨_, rfl, Or.inl ⟨by omega, rfl, rfl⟩⟩
      · refine ph_iload_n C dX0_toField_20 rfl ?_
        refine ph_iconst C dX0_toField_21 ?_
        refine ph_icmp_le C 27 dX0_toField_22 (by decide) ⟨by omega, by omega⟩ ⟨by omega, by omega⟩ (fun c_22 => ?_) (fun c_22 => ?_)
        · have b7 := hR.r7 (i := s) (by omega) (by omega)
          have b8 := hR.r7 (i := g) (by omega) (by omega)
          refine ph_aload C dX0_toField_27 rfl ?_
          refine gX7 C dX0_toField_28 ?_
          refine ph_iload_n C dX0_toField_31 rfl ?_
          refine lX7 C (by omega) (by omega) dX0_toField_32 ?_
          refine ph_if_ge C 39 dX0_toField_33 (by decide) ⟨by omega, by omega⟩ (fun c_33 => ?_) (fun c_33 => ?_)
          · have b1 := hR.r1 (i := 2 * (32 * S 0 0 + S 7 s) + f) (by omega) (by omega)
            have b9 := hR.r9 (i := S 7 s) (by omega) (by omega)
            refine ph_aload C dX0_toField_39 rfl ?_
            refine gX7 C dX0_toField_40 ?_
            refine ph_iload_n C dX0_toField_43 rfl ?_
            refine lX7 C (by omega) (by omega) dX0_toField_44 ?_
            refine ph_istore (L' := [_, _, _, _, _]) C dX0_toField_45 (by decide) (Nat.le_of_ble_eq_true rfl) rfl ?_
            refine ph_iconst C dX0_toField_47 ?_
            refine ph_bipush C dX0_toField_48 (by decide) ?_
            refine ph_aload C dX0_toField_50 rfl ?_
            refine gX0 C dX0_toField_51 ?_
            refine ph_imul C dX0_toField_54 ?_
            refine ph_iload C dX0_toField_55 rfl ?_
            refine ph_iadd C dX0_toField_57 ?_
            refine ph_imul C dX0_toField_58 ?_
            refine ph_iload_n C dX0_toField_59 rfl ?_
            refine ph_iadd C dX0_toField_60 ?_
            refine ph_istore (L' := [_, _, _, _, _, _]) C dX0_toField_61 (by decide) (Nat.le_of_ble_eq_true rfl) rfl ?_
            refine ph_aload C dX0_toField_63 rfl ?_
            refine gX9 C dX0_toField_64 ?_
            refine ph_iload C dX0_toField_67 rfl ?_
            refine lX9 C (by omega) (by omega) dX0_toField_69 ?_
            refine ph_if_ne C 90 dX0_toField_70 (by decide) ⟨by omega, by omega⟩ (fun c_70 => ?_) (fun c_70 => ?_)
            · refine ph_aload C dX0_toField_90 rfl ?_
              refine gX1 C dX0_toField_91 ?_
              refine ph_iload C dX0_toField_94 rfl ?_
              refine ph_aload C dX0_toField_96 rfl ?_
              refine gX7 C dX0_toField_97 ?_
              refine ph_iload_n C dX0_toField_100 rfl ?_
              refine lX7 C (by omega) (by omega) dX0_toField_101 ?_
              try simp only [noteF_0, noteF_1, noteF_2, noteF_3, noteF_7, noteF_8, noteF_9]
              refine sX1 C (by omega) (by omega) (by omega) dX0_toField_102 ?_
              refine ph_iconst C dX0_toField_103 ?_
              exact ph_iret C dX0_toField_104 ⟨_, rfl, by first | exact Or.inr (Or.inr (Or.inl ⟨by omega, by omega, c_70, rfl, rfl⟩)) | exact Or.inr (Or.inr (Or.inr ⟨by omega, by omega, c_70, rfl, rfl⟩))⟩
            · refine ph_aload C dX0_toField_73 rfl ?_
              refine ph_iconst C dX0_toField_74 ?_
              refine ph_iload C dX0_toField_75 rfl ?_
              refine ph_imul C dX0_toField_77 ?_
              refine ph_iload_n C dX0_toField_78 rfl ?_
              refine ph_iadd C dX0_toField_79 ?_
              refine ph_aload C dX0_toField_80 rfl ?_
              refine gX1 C dX0_toField_81 ?_
              refine ph_iload C dX0_toField_84 rfl ?_
              refine lX1 C (by omega) (by omega) dX0_toField_86 ?_
              refine ph_call C (cX_note hR (by omega) (by omega) (hN _ (by omega) (by omega))) kX_note rfl rfl rfl (Nat.le_of_ble_eq_true rfl) dX0_toField_87 (by decide) (by decide) (fun r_87 u_87 hp_87 => ?_)
              obtain ⟨rfl, rfl⟩ := hp_87
              dsimp only [Option.toList_some, Option.toList_none, List.cons_append, List.nil_append]
              refine ph_aload C dX0_toField_90 rfl ?_
              refine gX1 C dX0_toField_91 ?_
              refine ph_iload C dX0_toField_94 rfl ?_
              refine ph_aload C dX0_toField_96 rfl ?_
              refine gX7 C dX0_toField_97 ?_
              refine ph_iload_n C dX0_toField_100 rfl ?_
              refine lX7 C (by omega) (by omega) dX0_toField_101 ?_
              try simp only [noteF_0, noteF_1, noteF_2, noteF_3, noteF_7, noteF_8, noteF_9]
              refine sX1 C (by omega) (by omega) (by omega) dX0_toField_102 ?_
              refine ph_iconst C dX0_toField_103 ?_
              exact ph_iret C dX0_toField_104 ⟨_, rfl, by first | exact Or.inr (Or.inr (Or.inl ⟨by omega, by omega, c_70, rfl, rfl⟩)) | exact Or.inr (Or.inr (Or.inr ⟨by omega, by omega, c_70, rfl, rfl⟩))⟩
          · refine ph_bipush C dX0_toField_36 (by decide) ?_
            exact ph_iret C dX0_toField_38 ⟨_, rfl, Or.inr (Or.inl ⟨by omega, by omega, rfl, rfl⟩)⟩
        · refine ph_iconst C dX0_toField_25 ?_
          exact ph_iret C dX0_toField_26 ⟨_, rfl, Or.inl ⟨by omega, rfl, rfl⟩⟩
theorem cX_release {S : St} {g : Int} (hg : inI g) : ph_M shX yX0_release cX0_release 2 (some .int) 1 [.int (iI g)] S (fun r u => ∃ z : Int, r = some (.int (iI z)) ∧ (((g < 0 ∨ 3 < g) ∧ z = -1 ∧ S = u) ∨ ((0 ≤ g ∧ g ≤ 3) ∧ z = 0 ∧ wr S 7 g (-1) = u))) := by
  have hg1 := hg.1
  have hg2 := hg.2
  refine ph_of shX_ok plX rfl cat1 (Nat.le_of_ble_eq_true rfl) (fun Γ h ad C => ?_)
  refine ph_aload C dX0_release_0 rfl ?_
  refine ph_iload_n C dX0_release_1 rfl ?_
  refine ph_call C (cX_isReg hg S) kX_isRegister rfl rfl rfl (Nat.le_of_ble_eq_true rfl) dX0_release_2 (by decide) (by decide) (fun r_2 u_2 hp_2 => ?_)
  obtain ⟨z1, rfl, rfl, hz1⟩ := hp_2
  dsimp only [Option.toList_some, Option.toList_none, List.cons_append, List.nil_append]
  refine ph_if_ne C 10 dX0_release_5 (by decide) ⟨by omega, by omega⟩ (fun c_5 => ?_) (fun c_5 => ?_)
  · refine ph_aload C dX0_release_10 rfl ?_
    refine gX7 C dX0_release_11 ?_
    refine ph_iload_n C dX0_release_14 rfl ?_
    refine ph_iconst C dX0_release_15 ?_
    refine sX7 C (by omega) (by omega) (by omega) dX0_release_16 ?_
    refine ph_iconst C dX0_release_17 ?_
    exact ph_iret C dX0_release_18 ⟨_, rfl, Or.inr ⟨by omega, rfl, rfl⟩⟩
  · refine ph_iconst C dX0_release_8 ?_
    exact ph_iret C dX0_release_9 ⟨_, rfl, Or.inl ⟨by omega, rfl, rfl⟩⟩
theorem cX_number {S : St} (hR : Rg S) {g : Int} (hg : inI g) : ph_M shX yX0_number cX0_number 2 (some .int) 1 [.int (iI g)] S (fun r u => ∃ z : Int, r = some (.int (iI z)) ∧ S = u ∧ (((g < 0 ∨ 3 < g) ∧ z = 0) ∨ ((0 ≤ g ∧ g ≤ 3) ∧ S 7 g < 0 ∧ z = 0) ∨ ((0 ≤ g ∧ g ≤ 3) ∧ 0 ≤ S 7 g ∧ z = S 2 (32 * S 0 0 + S 7 g)))) := by
  have hg1 := hg.1
  have hg2 := hg.2
  have b0 := hR.r0
  refine ph_of shX_ok plX rfl cat1 (Nat.le_of_ble_eq_true rfl) (fun Γ h ad C => ?_)
  refine ph_aload C dX0_number_0 rfl ?_
  refine ph_iload_n C dX0_number_1 rfl ?_
  refine ph_call C (cX_isReg hg S) kX_isRegister rfl rfl rfl (Nat.le_of_ble_eq_true rfl) dX0_number_2 (by decide) (by decide) (fun r_2 u_2 hp_2 => ?_)
  obtain ⟨z1, rfl, rfl, hz1⟩ := hp_2
  dsimp only [Option.toList_some, Option.toList_none, List.cons_append, List.nil_append]
  refine ph_if_eq C 17 dX0_number_5 (by decide) ⟨by omega, by omega⟩ (fun c_5 => ?_) (fun c_5 => ?_)
  · refine ph_iconst C dX0_number_17 ?_
    refine ph_goto C 40 dX0_number_18 (by decide) ?_
    exact ph_iret C dX0_number_40 ⟨_, rfl, rfl, by first | exact Or.inl ⟨by omega, rfl⟩ | exact Or.inr (Or.inl ⟨by omega, by omega, rfl⟩) | exact Or.inr (Or.inr ⟨by omega, by omega, rfl⟩)⟩
  · have b7 := hR.r7 (i := g) (by omega) (by omega)
    refine ph_aload C dX0_number_8 rfl ?_
    refine gX7 C dX0_number_9 ?_
    refine ph_iload_n C dX0_number_12 rfl ?_
    refine lX7 C (by omega) (by omega) dX0_number_13 ?_
    refine ph_if_ge C 21 dX0_number_14 (by decide) ⟨by omega, by omega⟩ (fun c_14 => ?_) (fun c_14 => ?_)
    · refine ph_aload C dX0_number_21 rfl ?_
      refine gX2 C dX0_number_22 ?_
      refine ph_bipush C dX0_number_25 (by decide) ?_
      refine ph_aload C dX0_number_27 rfl ?_
      refine gX0 C dX0_number_28 ?_
      refine ph_imul C dX0_number_31 ?_
      refine ph_aload C dX0_number_32 rfl ?_
      refine gX7 C dX0_number_33 ?_
      refine ph_iload_n C dX0_number_36 rfl ?_
      refine lX7 C (by omega) (by omega) dX0_number_37 ?_
      refine ph_iadd C dX0_number_38 ?_
      refine lX2 C (by omega) (by omega) dX0_number_39 ?_
      exact ph_iret C dX0_number_40 ⟨_, rfl, rfl, by first | exact Or.inl ⟨by omega, rfl⟩ | exact Or.inr (Or.inl ⟨by omega, by omega, rfl⟩) | exact Or.inr (Or.inr ⟨by omega, by omega, rfl⟩)⟩
    · refine ph_iconst C dX0_number_17 ?_
      refine ph_goto C 40 dX0_number_18 (by decide) ?_
      exact ph_iret C dX0_number_40 ⟨_, rfl, rfl, by first | exact Or.inl ⟨by omega, rfl⟩ | exact Or.inr (Or.inl ⟨by omega, by omega, rfl⟩) | exact Or.inr (Or.inr ⟨by omega, by omega, rfl⟩)⟩
theorem cX_setNumber {S : St} (hR : Rg S) (hN : NR S) {g v : Int} (hg : inI g) : ph_M shX yX0_setNumber cX0_setNumber 4 (some .int) 1 [.int (iI g), .int (iI v)] S (fun r u => ∃ z : Int, r = some (.int (iI z)) ∧ (((g < 0 ∨ 3 < g) ∧ z = -1 ∧ S = u) ∨ ((0 ≤ g ∧ g ≤ 3) ∧ S 7 g < 0 ∧ z = -3 ∧ S = u) ∨ ((0 ≤ g ∧ g ≤ 3) ∧ 0 ≤ S 7 g ∧ ¬ S 9 (S 7 g) = 0 ∧ z = 0 ∧ wr S 2 (32 * S 0 0 + S 7 g) v = u) ∨ ((0 ≤ g ∧ g ≤ 3) ∧ 0 ≤ S 7 g ∧ S 9 (S 7 g) = 0 ∧ z = 0 ∧ wr (noteF S (3 * S 7 g + 2) (S 2 (32 * S 0 0 + S 7 g))) 2 (32 * S 0 0 + S 7 g) v = u))) := by
  have hg1 := hg.1
  have hg2 := hg.2
  have b0 := hR.r0
  refine ph_of shX_ok plX rfl cat2 (Nat.le_of_ble_eq_true rfl) (fun Γ h ad C => ?_)
  refine ph_aload C dX0_setNumber_0 rfl ?_
  refine ph_iload_n C dX0_setNumber_1 rfl ?_
  refine ph_call C (cX_isReg hg S) kX_isRegister rfl rfl rfl (Nat.le_of_ble_eq_true rfl) dX0_setNumber_2 (by decide) (by decide) (fun r_2 u_2 hp_2 => ?_)
  obtain ⟨z1, rfl, rfl, hz1⟩ := hp_2
  dsimp only [Option.toList_some, Option.toList_none, List.cons_append, List.nil_append]
  refine ph_if_ne C 10 dX0_setNumber_5 (by decide) ⟨by omega, by omega⟩ (fun c_5 => ?_) (fun c_5 => ?_)
  · have b7 := hR.r7 (i := g) (by omega) (by omega)
    refine ph_aload C dX0_setNumber_10 rfl ?_
    refine gX7 C dX0_setNumber_11 ?_
    refine ph_iload_n C dX0_setNumber_14 rfl ?_
    refine lX7 C (by omega) (by omega) dX0_setNumber_15 ?_
    refine ph_if_ge C 22 dX0_setNumber_16 (by decide) ⟨by omega, by omega⟩ (fun c_16 => ?_) (fun c_16 => ?_)
    · have b9 := hR.r9 (i := S 7 g) (by omega) (by omega)
      refine ph_aload C dX0_setNumber_22 rfl ?_
      refine gX7 C dX0_setNumber_23 ?_
      refine ph_iload_n C dX0_setNumber_26 rfl ?_
      refine lX7 C (by omega) (by omega) dX0_setNumber_27 ?_
      refine ph_istore_n (L' := [_, _, _, _]) C dX0_setNumber_28 (by decide) (Nat.le_of_ble_eq_true rfl) rfl ?_
      refine ph_aload C dX0_setNumber_29 rfl ?_
      refine gX9 C dX0_setNumber_30 ?_
      refine ph_iload_n C dX0_setNumber_33 rfl ?_
      refine lX9 C (by omega) (by omega) dX0_setNumber_34 ?_
      refine ph_if_ne C 61 dX0_setNumber_35 (by decide) ⟨by omega, by omega⟩ (fun c_35 => ?_) (fun c_35 => ?_)
      · refine ph_aload C dX0_setNumber_61 rfl ?_
        refine gX2 C dX0_setNumber_62 ?_
        refine ph_bipush C dX0_setNumber_65 (by decide) ?_
        refine ph_aload C dX0_setNumber_67 rfl ?_
        refine gX0 C dX0_setNumber_68 ?_
        try simp only [noteF_0, noteF_1, noteF_2, noteF_3, noteF_7, noteF_8, noteF_9]
        refine ph_imul C dX0_setNumber_71 ?_
        refine ph_iload_n C dX0_setNumber_72 rfl ?_
        refine ph_iadd C dX0_setNumber_73 ?_
        refine ph_iload_n C dX0_setNumber_74 rfl ?_
        refine sX2 C (by omega) (by omega) dX0_setNumber_75 ?_
        refine ph_iconst C dX0_setNumber_76 ?_
        exact ph_iret C dX0_setNumber_77 ⟨_, rfl, by first | exact Or.inr (Or.inr (Or.inl ⟨by omega, by omega, c_35, rfl, rfl⟩)) | exact Or.inr (Or.inr (Or.inr ⟨by omega, by omega, c_35, rfl, rfl⟩))⟩
      · refine ph_aload C dX0_setNumber_38 rfl ?_
        refine ph_iconst C dX0_setNumber_39 ?_
        refine ph_iload_n C dX0_setNumber_40 rfl ?_
        refine ph_imul C dX0_setNumber_41 ?_
        refine ph_iconst C dX0_setNumber_42 ?_
        refine ph_iadd C dX0_setNumber_43 ?_
        refine ph_aload C dX0_setNumber_44 rfl ?_
        refine gX2 C dX0_setNumber_45 ?_
        refine ph_bipush C dX0_setNumber_48 (by decide) ?_
        refine ph_aload C dX0_setNumber_50 rfl ?_
        refine gX0 C dX0_setNumber_51 ?_
        refine ph_imul C dX0_setNumber_54 ?_
        refine ph_iload_n C dX0_setNumber_55 rfl ?_
        refine ph_iadd C dX0_setNumber_56 ?_
        refine lX2 C (by omega) (by omega) dX0_setNumber_57 ?_
        refine ph_call C (cX_note hR (by omega) (by omega) (hN _ (by omega) (by omega))) kX_note rfl rfl rfl (Nat.le_of_ble_eq_true rfl) dX0_setNumber_58 (by decide) (by decide) (fun r_58 u_58 hp_58 => ?_)
        obtain ⟨rfl, rfl⟩ := hp_58
        dsimp only [Option.toList_some, Option.toList_none, List.cons_append, List.nil_append]
        refine ph_aload C dX0_setNumber_61 rfl ?_
        refine gX2 C dX0_setNumber_62 ?_
        refine ph_bipush C dX0_setNumber_65 (by decide) ?_
        refine ph_aload C dX0_setNumber_67 rfl ?_
        refine gX0 C dX0_setNumber_68 ?_
        try simp only [noteF_0, noteF_1, noteF_2, noteF_3, noteF_7, noteF_8, noteF_9]
        refine ph_imul C dX0_setNumber_71 ?_
        refine ph_iload_n C dX0_setNumber_72 rfl ?_
        refine ph_iadd C dX0_setNumber_73 ?_
        refine ph_iload_n C dX0_setNumber_74 rfl ?_
        refine sX2 C (by omega) (by omega) dX0_setNumber_75 ?_
        refine ph_iconst C dX0_setNumber_76 ?_
        exact ph_iret C dX0_setNumber_77 ⟨_, rfl, by first | exact Or.inr (Or.inr (Or.inl ⟨by omega, by omega, c_35, rfl, rfl⟩)) | exact Or.inr (Or.inr (Or.inr ⟨by omega, by omega, c_35, rfl, rfl⟩))⟩
    · refine ph_bipush C dX0_setNumber_19 (by decide) ?_
      exact ph_iret C dX0_setNumber_21 ⟨_, rfl, Or.inr (Or.inl ⟨by omega, by omega, rfl, rfl⟩)⟩
  · refine ph_iconst C dX0_setNumber_8 ?_
    exact ph_iret C dX0_setNumber_9 ⟨_, rfl, Or.inl ⟨by omega, rfl, rfl⟩⟩
theorem cX_same {S : St} (hR : Rg S) {g q : Int} (hg : inI g) (hq : inI q) : ph_M shX yX0_same cX0_same 3 (some .boolean) 1 [.int (iI g), .int (iI q)] S (fun r u => ∃ z : Int, r = some (.int (iI z)) ∧ S = u ∧ (((g < 0 ∨ 3 < g ∨ q < 0 ∨ 3 < q) ∧ z = 0) ∨ ((0 ≤ g ∧ g ≤ 3 ∧ 0 ≤ q ∧ q ≤ 3) ∧ ((z = 1 ∧ S 7 g = S 7 q) ∨ (z = 0 ∧ ¬ S 7 g = S 7 q))))) := by
  have hg1 := hg.1
  have hg2 := hg.2
  have hq1 := hq.1
  have hq2 := hq.2
  refine ph_of shX_ok plX rfl cat2 (Nat.le_of_ble_eq_true rfl) (fun Γ h ad C => ?_)
  refine ph_aload C dX0_same_0 rfl ?_
  refine ph_iload_n C dX0_same_1 rfl ?_
  refine ph_call C (cX_isReg hg S) kX_isRegister rfl rfl rfl (Nat.le_of_ble_eq_true rfl) dX0_same_2 (by decide) (by decide) (fun r_2 u_2 hp_2 => ?_)
  obtain ⟨z1, rfl, rfl, hz1⟩ := hp_2
  dsimp only [Option.toList_some, Option.toList_none, List.cons_append, List.nil_append]
  refine ph_if_eq C 35 dX0_same_5 (by decide) ⟨by omega, by omega⟩ (fun c_5 => ?_) (fun c_5 => ?_)
  · refine ph_iconst C dX0_same_35 ?_
    exact ph_zret C (by omega) dX0_same_36 ⟨_, rfl, rfl, by omega⟩
  · refine ph_aload C dX0_same_8 rfl ?_
    refine ph_iload_n C dX0_same_9 rfl ?_
    refine ph_call C (cX_isReg hq S) kX_isRegister rfl rfl rfl (Nat.le_of_ble_eq_true rfl) dX0_same_10 (by decide) (by decide) (fun r_10 u_10 hp_10 => ?_)
    obtain ⟨z2, rfl, rfl, hz2⟩ := hp_10
    dsimp only [Option.toList_some, Option.toList_none, List.cons_append, List.nil_append]
    refine ph_if_eq C 35 dX0_same_13 (by decide) ⟨by omega, by omega⟩ (fun c_13 => ?_) (fun c_13 => ?_)
    · refine ph_iconst C dX0_same_35 ?_
      exact ph_zret C (by omega) dX0_same_36 ⟨_, rfl, rfl, by omega⟩
    · have b7 := hR.r7 (i := g) (by omega) (by omega)
      have b8 := hR.r7 (i := q) (by omega) (by omega)
      refine ph_aload C dX0_same_16 rfl ?_
      refine gX7 C dX0_same_17 ?_
      refine ph_iload_n C dX0_same_20 rfl ?_
      refine lX7 C (by omega) (by omega) dX0_same_21 ?_
      refine ph_aload C dX0_same_22 rfl ?_
      refine gX7 C dX0_same_23 ?_
      refine ph_iload_n C dX0_same_26 rfl ?_
      refine lX7 C (by omega) (by omega) dX0_same_27 ?_
      refine ph_icmp_ne C 35 dX0_same_28 (by decide) ⟨by omega, by omega⟩ ⟨by omega, by omega⟩ (fun c_28 => ?_) (fun c_28 => ?_)
      · refine ph_iconst C dX0_same_35 ?_
        exact ph_zret C (by omega) dX0_same_36 ⟨_, rfl, rfl, by omega⟩
      · refine ph_iconst C dX0_same_31 ?_
        refine ph_goto C 36 dX0_same_32 (by decide) ?_
        exact ph_zret C (by omega) dX0_same_36 ⟨_, rfl, rfl, by omega⟩
end
section
set_option maxRecDepth 100000
theorem Rf.put {S : St} (h : Rf S) {k : Nat} {i z : Int} (h5 : 5 ≠ k) (h6 : 6 ≠ k) : Rf (wr S k i z) := by
  intro j h0 h1 h2
  rw [wr_k h5] at h2
  rw [wr_k h6]
  exact h j h0 h1 h2
theorem Rf.fill {S : St} (h : Rf S) {k : Nat} {n : Int} {f : Int → Int} (h5 : 5 ≠ k) (h6 : 6 ≠ k) : Rf (mp S k n f) := by
  intro j h0 h1 h2
  rw [mp_k h5] at h2
  rw [mp_k h6]
  exact h j h0 h1 h2
/-- one entry of the list put back -/
def pb1 (S : St) (n : Int) : St := if 96 ≤ S 5 (99 * S 0 0 + n) then wr S 3 (3 * S 0 0 + S 5 (99 * S 0 0 + n) - 96) (S 6 (99 * S 0 0 + n)) else if S 5 (99 * S 0 0 + n) % 3 = 2 then wr S 2 (32 * S 0 0 + S 5 (99 * S 0 0 + n) / 3) (S 6 (99 * S 0 0 + n)) else wr S 1 (2 * (32 * S 0 0 + S 5 (99 * S 0 0 + n) / 3) + S 5 (99 * S 0 0 + n) % 3) (S 6 (99 * S 0 0 + n))
theorem pb1_r {S : St} {n : Int} (h : 96 ≤ S 5 (99 * S 0 0 + n)) : pb1 S n = wr S 3 (3 * S 0 0 + S 5 (99 * S 0 0 + n) - 96) (S 6 (99 * S 0 0 + n)) := by unfold pb1; rw [if_pos h]
theorem pb1_n {S : St} {n : Int} (h : S 5 (99 * S 0 0 + n) < 96) (h2 : S 5 (99 * S 0 0 + n) % 3 = 2) : pb1 S n = wr S 2 (32 * S 0 0 + S 5 (99 * S 0 0 + n) / 3) (S 6 (99 * S 0 0 + n)) := by unfold pb1; rw [if_neg (by omega), if_pos h2]
theorem pb1_f {S : St} {n : Int} (h : S 5 (99 * S 0 0 + n) < 96) (h2 : ¬ S 5 (99 * S 0 0 + n) % 3 = 2) : pb1 S n = wr S 1 (2 * (32 * S 0 0 + S 5 (99 * S 0 0 + n) / 3) + S 5 (99 * S 0 0 + n) % 3) (S 6 (99 * S 0 0 + n)) := by unfold pb1; rw [if_neg (by omega), if_neg h2]
theorem pb1_k {S : St} {n i : Int} {k : Nat} (h : k ≠ 1 ∧ k ≠ 2 ∧ k ≠ 3) : pb1 S n k i = S k i := by
  unfold pb1
  split
  · rw [wr_k h.2.2]
  · split
    · rw [wr_k h.2.1]
    · rw [wr_k h.1]
def pbF : Nat → St → St
  | 0, S => S
  | n + 1, S => pbF n (pb1 S (n : Int))
theorem pbF_k {k : Nat} (h : k ≠ 1 ∧ k ≠ 2 ∧ k ≠ 3) {i : Int} : ∀ (n : Nat) (S : St), pbF n S k i = S k i
  | 0, _ => rfl
  | n + 1, S => (pbF_k h n (pb1 S (n : Int))).trans (pb1_k h)
theorem pb1_ok {S : St} (hR : Rg S) (hF : Rf S) {n : Int} (h0 : 0 ≤ n) (h1 : n < 99) : Rg (pb1 S n) ∧ Rf (pb1 S n) := by
  have b0 := hR.r0
  have b5 := hR.r5 (i := 99 * S 0 0 + n) (by omega) (by omega)
  have b6 := hR.r6 (i := 99 * S 0 0 + n) (by omega) (by omega)
  have b7 := hF (99 * S 0 0 + n) (by omega) (by omega)
  by_cases h : 96 ≤ S 5 (99 * S 0 0 + n)
  · rw [pb1_r h]
    have b8 := b7 (Or.inl h)
    exact ⟨hR.put b8.1 b8.2, hF.put (by decide) (by decide)⟩
  · by_cases h2 : S 5 (99 * S 0 0 + n) % 3 = 2
    · rw [pb1_n (by omega) h2]
      exact ⟨hR.put b6.1 b6.2, hF.put (by decide) (by decide)⟩
    · rw [pb1_f (by omega) h2]
      have b8 := b7 (Or.inr h2)
      exact ⟨hR.put b8.1 b8.2, hF.put (by decide) (by decide)⟩
theorem pbF_ok : ∀ (n : Nat) (S : St), n ≤ 99 → Rg S → Rf S → Rg (pbF n S) ∧ Rf (pbF n S)
  | 0, _, _, hR, hF => ⟨hR, hF⟩
  | n + 1, S, hn, hR, hF => by
    have h := pb1_ok hR hF (n := (n : Int)) (by omega) (by omega)
    exact pbF_ok n _ (by omega) h.1 h.2
def pbAll (S : St) : St := mp (wr (pbF (S 4 (S 0 0)).toNat S) 4 (S 0 0) 0) 10 99 (fun _ => 0)
theorem pbAll_ok {S : St} (hR : Rg S) (hF : Rf S) : Rg (pbAll S) ∧ Rf (pbAll S) := by
  have b0 := hR.r0
  have b4 := hR.r4 (i := S 0 0) (by omega) (by omega)
  have h := pbF_ok (S 4 (S 0 0)).toNat S (by omega) hR hF
  exact ⟨(h.1.put (by decide) (by decide)).fill (fun _ _ _ => ⟨by decide, by decide⟩), (h.2.put (by decide) (by decide)).fill (by decide) (by decide)⟩
theorem pb_loop {Γ : Cx} {h : Nat} {ad : Nat → Nat} {post : Option Value → St → Prop} (C : ph_C shX Γ h ad cX0_putBack 4 none 1) : ∀ (n : Nat) (S : St), Rg S → Rf S → n ≤ 99 → (∀ k : Int, ph_V shX Γ h ad post (pbF n S) 130 [.ref h, .int (iI k)] []) → ph_V shX Γ h ad post S 12 [.ref h, .int (iI ((n : Int) - 1))] [] := by
  intro n
  induction n with
  | zero =>
    intro S hR hF hn kk
    refine ph_iload_n C dX0_putBack_12 rfl ?_
    refine ph_if_lt C 130 dX0_putBack_13 (by decide) ⟨by omega, by omega⟩ (fun c_13 => ?_) (fun c_13 => ?_)
    · exact kk _
    · exact absurd c_13 (by omega)
  | succ n ih =>
    intro S hR hF hn kk
    rw [show (((n + 1 : Nat) : Int) - 1) = (n : Int) by omega]
    have b0 := hR.r0
    have b5 := hR.r5 (i := 99 * S 0 0 + (n : Int)) (by omega) (by omega)
    have b6 := hR.r6 (i := 99 * S 0 0 + (n : Int)) (by omega) (by omega)
    have b7 := hF (99 * S 0 0 + (n : Int)) (by omega) (by omega)
    have hok := pb1_ok hR hF (n := (n : Int)) (by omega) (by omega)
    refine ph_iload_n C dX0_putBack_12 rfl ?_
    refine ph_if_lt C 130 dX0_putBack_13 (by decide) ⟨by omega, by omega⟩ (fun c_13 => ?_) (fun c_13 => ?_)
    · exact absurd c_13 (by omega)
    · refine ph_aload C dX0_putBack_16 rfl ?_
      refine gX5 C dX0_putBack_17 ?_
      refine ph_bipush C dX0_putBack_20 (by decide) ?_
      refine ph_aload C dX0_putBack_22 rfl ?_
      refine gX0 C dX0_putBack_23 ?_
      refine ph_imul C dX0_putBack_26 ?_
      refine ph_iload_n C dX0_putBack_27 rfl ?_
      refine ph_iadd C dX0_putBack_28 ?_
      refine lX5 C (by omega) (by omega) dX0_putBack_29 ?_
      refine ph_istore_n (L' := [_, _, _]) C dX0_putBack_30 (by decide) (Nat.le_of_ble_eq_true rfl) rfl ?_
      refine ph_aload C dX0_putBack_31 rfl ?_
      refine gX6 C dX0_putBack_32 ?_
      refine ph_bipush C dX0_putBack_35 (by decide) ?_
      refine ph_aload C dX0_putBack_37 rfl ?_
      refine gX0 C dX0_putBack_38 ?_
      refine ph_imul C dX0_putBack_41 ?_
      refine ph_iload_n C dX0_putBack_42 rfl ?_
      refine ph_iadd C dX0_putBack_43 ?_
      refine lX6 C (by omega) (by omega) dX0_putBack_44 ?_
      refine ph_istore_n (L' := [_, _, _, _]) C dX0_putBack_45 (by decide) (Nat.le_of_ble_eq_true rfl) rfl ?_
      have nxt : ph_V shX Γ h ad post (pb1 S (n : Int)) 124 [.ref h, .int (iI (n : Int)), .int (iI (S 5 (99 * S 0 0 + (n : Int)))), .int (iI (S 6 (99 * S 0 0 + (n : Int))))] [] := by
        refine ph_iinc (L' := [_, _, _, _]) C dX0_putBack_124 rfl (by decide) rfl ?_
        refine ph_goto C 12 dX0_putBack_127 (by decide) ?_
        refine ph_drop (L' := [_, _]) (L'' := [_, _]) rfl ?_
        rw [show (n : Int) + -1 = (n : Int) - 1 by omega]
        exact ih _ hok.1 hok.2 (by omega) kk
      refine ph_iload_n C dX0_putBack_46 rfl ?_
      refine ph_bipush C dX0_putBack_47 (by decide) ?_
      refine ph_icmp_lt C 73 dX0_putBack_49 (by decide) ⟨by omega, by omega⟩ ⟨by omega, by omega⟩ (fun c_49 => ?_) (fun c_49 => ?_)
      · refine ph_iload_n C dX0_putBack_73 rfl ?_
        refine ph_iconst C dX0_putBack_74 ?_
        refine ph_irem C dX0_putBack_75 (by omega) (by omega) (by decide) (by decide) ?_
        refine ph_iconst C dX0_putBack_76 ?_
        refine ph_icmp_ne C 100 dX0_putBack_77 (by decide) ⟨by omega, by omega⟩ ⟨by omega, by omega⟩ (fun c_77 => ?_) (fun c_77 => ?_)
        · have b8 := b7 (Or.inr c_77)
          refine ph_aload C dX0_putBack_100 rfl ?_
          refine gX1 C dX0_putBack_101 ?_
          refine ph_iconst C dX0_putBack_104 ?_
          refine ph_bipush C dX0_putBack_105 (by decide) ?_
          refine ph_aload C dX0_putBack_107 rfl ?_
          refine gX0 C dX0_putBack_108 ?_
          refine ph_imul C dX0_putBack_111 ?_
          refine ph_iload_n C dX0_putBack_112 rfl ?_
          refine ph_iconst C dX0_putBack_113 ?_
          refine ph_idiv C dX0_putBack_114 (by omega) (by omega) (by decide) (by decide) ?_
          refine ph_iadd C dX0_putBack_115 ?_
          refine ph_imul C dX0_putBack_116 ?_
          refine ph_iload_n C dX0_putBack_117 rfl ?_
          refine ph_iconst C dX0_putBack_118 ?_
          refine ph_irem C dX0_putBack_119 (by omega) (by omega) (by decide) (by decide) ?_
          refine ph_iadd C dX0_putBack_120 ?_
          refine ph_iload_n C dX0_putBack_121 rfl ?_
          refine ph_i2b C dX0_putBack_122 (by omega) (by omega) ?_
          refine sX1 C (by omega) (by omega) (by omega) dX0_putBack_123 ?_
          first | (rw [pb1_r c_49] at nxt; exact nxt) | (rw [pb1_n c_49 c_77] at nxt; exact nxt) | (rw [pb1_f c_49 c_77] at nxt; exact nxt)
        · refine ph_aload C dX0_putBack_80 rfl ?_
          refine gX2 C dX0_putBack_81 ?_
          refine ph_bipush C dX0_putBack_84 (by decide) ?_
          refine ph_aload C dX0_putBack_86 rfl ?_
          refine gX0 C dX0_putBack_87 ?_
          refine ph_imul C dX0_putBack_90 ?_
          refine ph_iload_n C dX0_putBack_91 rfl ?_
          refine ph_iconst C dX0_putBack_92 ?_
          refine ph_idiv C dX0_putBack_93 (by omega) (by omega) (by decide) (by decide) ?_
          refine ph_iadd C dX0_putBack_94 ?_
          refine ph_iload_n C dX0_putBack_95 rfl ?_
          refine sX2 C (by omega) (by omega) dX0_putBack_96 ?_
          refine ph_goto C 124 dX0_putBack_97 (by decide) ?_
          first | (rw [pb1_r c_49] at nxt; exact nxt) | (rw [pb1_n c_49 c_77] at nxt; exact nxt) | (rw [pb1_f c_49 c_77] at nxt; exact nxt)
      · have b8 := b7 (Or.inl c_49)
        refine ph_aload C dX0_putBack_52 rfl ?_
        refine gX3 C dX0_putBack_53 ?_
        refine ph_iconst C dX0_putBack_56 ?_
        refine ph_aload C dX0_putBack_57 rfl ?_
        refine gX0 C dX0_putBack_58 ?_
        refine ph_imul C dX0_putBack_61 ?_
        refine ph_iload_n C dX0_putBack_62 rfl ?_
        refine ph_iadd C dX0_putBack_63 ?_
        refine ph_bipush C dX0_putBack_64 (by decide) ?_
        refine ph_isub C dX0_putBack_66 ?_
        refine ph_iload_n C dX0_putBack_67 rfl ?_
        refine ph_i2b C dX0_putBack_68 (by omega) (by omega) ?_
        refine sX3 C (by omega) (by omega) (by omega) dX0_putBack_69 ?_
        refine ph_goto C 124 dX0_putBack_70 (by decide) ?_
        first | (rw [pb1_r c_49] at nxt; exact nxt) | (rw [pb1_n c_49 c_77] at nxt; exact nxt) | (rw [pb1_f c_49 c_77] at nxt; exact nxt)
theorem cX_putBack {S : St} (hR : Rg S) (hF : Rf S) : ph_M shX yX0_putBack cX0_putBack 4 none 1 [] S (fun r u => r = none ∧ pbAll S = u) := by
  have b0 := hR.r0
  have b4 := hR.r4 (i := S 0 0) (by omega) (by omega)
  have e0 : ∀ i, pbF (S 4 (S 0 0)).toNat S 0 i = S 0 i := fun i => pbF_k (by decide) _ _
  refine ph_of shX_ok plX rfl cat0 (Nat.le_of_ble_eq_true rfl) (fun Γ h ad C => ?_)
  refine ph_aload C dX0_putBack_0 rfl ?_
  refine gX4 C dX0_putBack_1 ?_
  refine ph_aload C dX0_putBack_4 rfl ?_
  refine gX0 C dX0_putBack_5 ?_
  refine lX4 C (by omega) (by omega) dX0_putBack_8 ?_
  refine ph_iconst C dX0_putBack_9 ?_
  refine ph_isub C dX0_putBack_10 ?_
  refine ph_istore_n (L' := [_, _]) C dX0_putBack_11 (by decide) (Nat.le_of_ble_eq_true rfl) rfl ?_
  have e : S 4 (S 0 0) - 1 = (((S 4 (S 0 0)).toNat : Nat) : Int) - 1 := by omega
  rw [e]
  refine pb_loop C _ S hR hF (by omega) (fun k => ?_)
  refine ph_aload C dX0_putBack_130 rfl ?_
  refine gX4 C dX0_putBack_131 ?_
  refine ph_aload C dX0_putBack_134 rfl ?_
  refine gX0 C dX0_putBack_135 ?_
  rw [e0]
  refine ph_iconst C dX0_putBack_138 ?_
  refine sX4 C (by omega) (by omega) (by omega) dX0_putBack_139 ?_
  refine ph_aload C dX0_putBack_140 rfl ?_
  refine ph_call C (cX_forgetListed _) kX_forgetListed rfl rfl rfl (Nat.le_of_ble_eq_true rfl) dX0_putBack_141 (by decide) (by decide) (fun r_141 u_141 hp_141 => ?_)
  obtain ⟨rfl, rfl⟩ := hp_141
  dsimp only [Option.toList_some, Option.toList_none, List.cons_append, List.nil_append]
  exact ph_vret C dX0_putBack_144 ⟨rfl, rfl⟩
theorem save_fill {Γ : Cx} {h : Nat} {ad : Nat → Nat} {post : Option Value → St → Prop} {S : St} (C : ph_C shX Γ h ad cX0_save 2 (some .int) 4) (kk : ph_V shX Γ h ad post (mp S 9 32 (fun _ => 0)) 35 [.ref h, .int (iI 32)] []) : ∀ (n : Nat) (i : Int), i + n = 32 → 0 ≤ i → ph_V shX Γ h ad post (mp S 9 i (fun _ => 0)) 16 [.ref h, .int (iI i)] [] := by
  intro n
  induction n with
  | zero =>
    intro i hi h0
    obtain rfl : i = 32 := by omega
    refine ph_iload_n C dX0_save_16 rfl ?_
    refine ph_bipush C dX0_save_17 (by decide) ?_
    refine ph_icmp_ge C 35 dX0_save_19 (by decide) ⟨by omega, by omega⟩ ⟨by omega, by omega⟩ (fun c_19 => ?_) (fun c_19 => ?_)
    · exact kk
    · exact absurd c_19 (by omega)
  | succ n ih =>
    intro i hi h0
    refine ph_iload_n C dX0_save_16 rfl ?_
    refine ph_bipush C dX0_save_17 (by decide) ?_
    refine ph_icmp_ge C 35 dX0_save_19 (by decide) ⟨by omega, by omega⟩ ⟨by omega, by omega⟩ (fun c_19 => ?_) (fun c_19 => ?_)
    · exact absurd c_19 (by omega)
    · refine ph_aload C dX0_save_22 rfl ?_
      refine gX9 C dX0_save_23 ?_
      refine ph_iload_n C dX0_save_26 rfl ?_
      refine ph_iconst C dX0_save_27 ?_
      refine sX9 C (by omega) (by omega) (by omega) dX0_save_28 ?_
      refine ph_iinc (L' := [_, _]) C dX0_save_29 rfl (by decide) rfl ?_
      refine ph_goto C 16 dX0_save_32 (by decide) ?_
      rw [mp_s h0 rfl]
      exact ih (i + 1) (by omega) (by omega)
def saveF (S : St) : St := mp (mp (wr S 4 (S 0 0) 0) 10 99 (fun _ => 0)) 9 32 (fun _ => 0)
theorem saveF_ok {S : St} (hR : Rg S) (hF : Rf S) : Rg (saveF S) ∧ Rf (saveF S) := ⟨((hR.put (by decide) (by decide)).fill (fun _ _ _ => ⟨by decide, by decide⟩)).fill (fun _ _ _ => ⟨by decide, by decide⟩), ((hF.put (by decide) (by decide)).fill (by decide) (by decide)).fill (by decide) (by decide)⟩
theorem cX_save {S : St} (hR : Rg S) (hF : Rf S) : ph_M shX yX0_save cX0_save 2 (some .int) 4 [] S (fun r u => ∃ z : Int, r = some (.int (iI z)) ∧ saveF S = u ∧ z = cP (Rd u) 32) := by
  have b0 := hR.r0
  have hok := saveF_ok hR hF
  refine ph_of shX_ok plX rfl cat0 (Nat.le_of_ble_eq_true rfl) (fun Γ h ad C => ?_)
  refine ph_aload C dX0_save_0 rfl ?_
  refine gX4 C dX0_save_1 ?_
  refine ph_aload C dX0_save_4 rfl ?_
  refine gX0 C dX0_save_5 ?_
  refine ph_iconst C dX0_save_8 ?_
  refine sX4 C (by omega) (by omega) (by omega) dX0_save_9 ?_
  refine ph_aload C dX0_save_10 rfl ?_
  refine ph_call C (cX_forgetListed _) kX_forgetListed rfl rfl rfl (Nat.le_of_ble_eq_true rfl) dX0_save_11 (by decide) (by decide) (fun r_11 u_11 hp_11 => ?_)
  obtain ⟨rfl, rfl⟩ := hp_11
  dsimp only [Option.toList_some, Option.toList_none, List.cons_append, List.nil_append]
  refine ph_iconst C dX0_save_14 ?_
  refine ph_istore_n (L' := [_, _]) C dX0_save_15 (by decide) (Nat.le_of_ble_eq_true rfl) rfl ?_
  refine ph_tab (mp_0 (S := mp (wr S 4 (S 0 0) 0) 10 99 (fun _ => 0)) (k := 9) (f := fun _ => 0)).symm ?_
  refine save_fill C ?_ 32 0 (by omega) (by omega)
  show ph_V shX Γ h ad _ (saveF S) 35 _ _
  refine ph_aload C dX0_save_35 rfl ?_
  refine ph_call C (cX_fromRoots hok.1 hok.2) kX_fromRoots rfl rfl rfl (Nat.le_of_ble_eq_true rfl) dX0_save_36 (by decide) (by decide) (fun r_36 u_36 hp_36 => ?_)
  obtain ⟨z, rfl, rfl, hz⟩ := hp_36
  dsimp only [Option.toList_some, Option.toList_none, List.cons_append, List.nil_append]
  exact ph_iret C dX0_save_39 ⟨z, rfl, rfl, hz⟩
theorem cX_back {S : St} (hR : Rg S) (hF : Rf S) : ph_M shX yX0_back cX0_back 1 (some .int) 4 [] S (fun r u => ∃ z : Int, r = some (.int (iI z)) ∧ pbAll S = u ∧ z = cP (Rd u) 32) := by
  have hok := pbAll_ok hR hF
  refine ph_of shX_ok plX rfl cat0 (Nat.le_of_ble_eq_true rfl) (fun Γ h ad C => ?_)
  refine ph_aload C dX0_back_0 rfl ?_
  refine ph_call C (cX_putBack hR hF) kX_putBack rfl rfl rfl (Nat.le_of_ble_eq_true rfl) dX0_back_1 (by decide) (by decide) (fun r_1 u_1 hp_1 => ?_)
  obtain ⟨rfl, rfl⟩ := hp_1
  dsimp only [Option.toList_some, Option.toList_none, List.cons_append, List.nil_append]
  refine ph_aload C dX0_back_4 rfl ?_
  refine ph_call C (cX_fromRoots hok.1 hok.2) kX_fromRoots rfl rfl rfl (Nat.le_of_ble_eq_true rfl) dX0_back_5 (by decide) (by decide) (fun r_5 u_5 hp_5 => ?_)
  obtain ⟨z, rfl, rfl, hz⟩ := hp_5
  dsimp only [Option.toList_some, Option.toList_none, List.cons_append, List.nil_append]
  exact ph_iret C dX0_back_8 ⟨z, rfl, rfl, hz⟩
theorem sa_fill7 {Γ : Cx} {h : Nat} {ad : Nat → Nat} {post : Option Value → St → Prop} {S : St} (C : ph_C shX Γ h ad cX0_startAgain 2 none 4) (kk : ph_V shX Γ h ad post (mp S 7 4 (fun _ => -1)) 20 [.ref h, .int (iI 4)] []) : ∀ (n : Nat) (i : Int), i + n = 4 → 0 ≤ i → ph_V shX Γ h ad post (mp S 7 i (fun _ => -1)) 2 [.ref h, .int (iI i)] [] := by
  intro n
  induction n with
  | zero =>
    intro i hi h0
    obtain rfl : i = 4 := by omega
    refine ph_iload_n C dX0_startAgain_2 rfl ?_
    refine ph_iconst C dX0_startAgain_3 ?_
    refine ph_icmp_ge C 20 dX0_startAgain_4 (by decide) ⟨by omega, by omega⟩ ⟨by omega, by omega⟩ (fun c_4 => ?_) (fun c_4 => ?_)
    · exact kk
    · exact absurd c_4 (by omega)
  | succ n ih =>
    intro i hi h0
    refine ph_iload_n C dX0_startAgain_2 rfl ?_
    refine ph_iconst C dX0_startAgain_3 ?_
    refine ph_icmp_ge C 20 dX0_startAgain_4 (by decide) ⟨by omega, by omega⟩ ⟨by omega, by omega⟩ (fun c_4 => ?_) (fun c_4 => ?_)
    · exact absurd c_4 (by omega)
    · refine ph_aload C dX0_startAgain_7 rfl ?_
      refine gX7 C dX0_startAgain_8 ?_
      refine ph_iload_n C dX0_startAgain_11 rfl ?_
      refine ph_iconst C dX0_startAgain_12 ?_
      refine sX7 C (by omega) (by omega) (by omega) dX0_startAgain_13 ?_
      refine ph_iinc (L' := [_, _]) C dX0_startAgain_14 rfl (by decide) rfl ?_
      refine ph_goto C 2 dX0_startAgain_17 (by decide) ?_
      rw [mp_s h0 rfl]
      exact ih (i + 1) (by omega) (by omega)
theorem sa_fill9 {Γ : Cx} {h : Nat} {ad : Nat → Nat} {post : Option Value → St → Prop} {S : St} (C : ph_C shX Γ h ad cX0_startAgain 2 none 4) (kk : ph_V shX Γ h ad post (mp S 9 32 (fun _ => 0)) 45 [.ref h, .int (iI 32)] []) : ∀ (n : Nat) (i : Int), i + n = 32 → 0 ≤ i → ph_V shX Γ h ad post (mp S 9 i (fun _ => 0)) 26 [.ref h, .int (iI i)] [] := by
  intro n
  induction n with
  | zero =>
    intro i hi h0
    obtain rfl : i = 32 := by omega
    refine ph_iload_n C dX0_startAgain_26 rfl ?_
    refine ph_bipush C dX0_startAgain_27 (by decide) ?_
    refine ph_icmp_ge C 45 dX0_startAgain_29 (by decide) ⟨by omega, by omega⟩ ⟨by omega, by omega⟩ (fun c_29 => ?_) (fun c_29 => ?_)
    · exact kk
    · exact absurd c_29 (by omega)
  | succ n ih =>
    intro i hi h0
    refine ph_iload_n C dX0_startAgain_26 rfl ?_
    refine ph_bipush C dX0_startAgain_27 (by decide) ?_
    refine ph_icmp_ge C 45 dX0_startAgain_29 (by decide) ⟨by omega, by omega⟩ ⟨by omega, by omega⟩ (fun c_29 => ?_) (fun c_29 => ?_)
    · exact absurd c_29 (by omega)
    · refine ph_aload C dX0_startAgain_32 rfl ?_
      refine gX9 C dX0_startAgain_33 ?_
      refine ph_iload_n C dX0_startAgain_36 rfl ?_
      refine ph_iconst C dX0_startAgain_37 ?_
      refine sX9 C (by omega) (by omega) (by omega) dX0_startAgain_38 ?_
      refine ph_iinc (L' := [_, _]) C dX0_startAgain_39 rfl (by decide) rfl ?_
      refine ph_goto C 26 dX0_startAgain_42 (by decide) ?_
      rw [mp_s h0 rfl]
      exact ih (i + 1) (by omega) (by omega)
def saF (S : St) : St := mp (pbAll (mp S 7 4 (fun _ => -1))) 9 32 (fun _ => 0)
theorem saF_ok {S : St} (hR : Rg S) (hF : Rf S) : Rg (saF S) ∧ Rf (saF S) := by
  have h := pbAll_ok (S := mp S 7 4 (fun _ => -1)) (hR.fill (fun _ _ _ => ⟨by decide, by decide⟩)) (hF.fill (by decide) (by decide))
  exact ⟨h.1.fill (fun _ _ _ => ⟨by decide, by decide⟩), h.2.fill (by decide) (by decide)⟩
theorem wr_wr {S : St} {k : Nat} {i a b : Int} : wr (wr S k i a) k i b = wr S k i b := by
  funext k' i'
  by_cases hk : k' = k
  · subst hk
    by_cases hi : i' = i
    · subst hi; rw [wr_s, wr_s]
    · rw [wr_i hi, wr_i hi, wr_i hi]
  · rw [wr_k hk, wr_k hk, wr_k hk]
/-- what a restart leaves -/
def SA (S u : St) : Prop := ∃ w, 0 ≤ w ∧ w ≤ 32 ∧ (∀ j, Nd (wr (saF S) 8 0 32) j → j < w) ∧ wr (saF S) 8 0 w = u
theorem SA_ok {S u : St} (hR : Rg S) (hF : Rf S) (h : SA S u) : Rg u ∧ Rf u := by
  obtain ⟨w, h0, h1, -, rfl⟩ := h
  have hk := saF_ok hR hF
  exact ⟨hk.1.put h0 h1, hk.2.put (by decide) (by decide)⟩
theorem sa_loop {Γ : Cx} {h : Nat} {ad : Nat → Nat} {post : Option Value → St → Prop} {S : St} (C : ph_C shX Γ h ad cX0_startAgain 2 none 4) (f : Int32) (hp : ∀ w, 0 ≤ w → w ≤ 32 → (∀ j, mbI f j → j < w) → post none (wr S 8 0 w)) : ∀ (n : Nat), n ≤ 32 → (∀ j, mbI f j → j < (n : Int)) → ph_V shX Γ h ad post (wr S 8 0 (n : Int)) 56 [.ref h, .int f] [] := by
  intro n
  induction n with
  | zero =>
    intro hn hf
    refine ph_aload C dX0_startAgain_56 rfl ?_
    refine gX8 C dX0_startAgain_57 ?_
    rw [wr_s]
    refine ph_if_le C 89 dX0_startAgain_60 (by decide) ⟨by omega, by omega⟩ (fun c_60 => ?_) (fun c_60 => ?_)
    · exact ph_vret C dX0_startAgain_89 (hp _ (by omega) (by omega) hf)
    · exact absurd c_60 (by omega)
  | succ n ih =>
    intro hn hf
    have bb := bI_le f (n : Int)
    have hb := bI_y (m := f) (j := (n : Int)) (by omega) (by omega)
    refine ph_aload C dX0_startAgain_56 rfl ?_
    refine gX8 C dX0_startAgain_57 ?_
    rw [wr_s]
    refine ph_if_le C 89 dX0_startAgain_60 (by decide) ⟨by omega, by omega⟩ (fun c_60 => ?_) (fun c_60 => ?_)
    · exact ph_vret C dX0_startAgain_89 (hp _ (by omega) (by omega) hf)
    · refine ph_iload_n C dX0_startAgain_63 rfl ?_
      refine ph_aload C dX0_startAgain_64 rfl ?_
      refine gX8 C dX0_startAgain_65 ?_
      refine ph_iconst C dX0_startAgain_68 ?_
      rw [wr_s]
      refine ph_isub C dX0_startAgain_69 ?_
      rw [show (((n + 1 : Nat) : Int) - 1) = (n : Int) by omega]
      refine ph_iushr C dX0_startAgain_70 ?_
      refine ph_iconst C dX0_startAgain_71 ?_
      refine ph_iand C dX0_startAgain_72 ?_
      refine ph_top (mb_bit f (by omega) (by omega)) ?_
      refine ph_if_ne C 89 dX0_startAgain_73 (by decide) ⟨by omega, by omega⟩ (fun c_73 => ?_) (fun c_73 => ?_)
      · exact ph_vret C dX0_startAgain_89 (hp _ (by omega) (by omega) hf)
      · refine ph_aload C dX0_startAgain_76 rfl ?_
        refine ph_dupr C dX0_startAgain_77 ?_
        refine gX8 C dX0_startAgain_78 ?_
        refine ph_iconst C dX0_startAgain_81 ?_
        rw [wr_s]
        refine ph_isub C dX0_startAgain_82 ?_
        rw [show (((n + 1 : Nat) : Int) - 1) = (n : Int) by omega]
        refine pX8 C dX0_startAgain_83 ?_
        rw [wr_wr]
        refine ph_goto C 56 dX0_startAgain_86 (by decide) ?_
        refine ih (by omega) (fun j hj => ?_)
        have h1 := hf j hj
        have h2 : j ≠ (n : Int) := fun e => by have h3 := hb.mpr (e ▸ hj); omega
        omega
theorem cX_startAgain {S : St} (hR : Rg S) (hF : Rf S) : ph_M shX yX0_startAgain cX0_startAgain 2 none 4 [] S (fun r u => r = none ∧ SA S u) := by
  have hR1 : Rg (mp S 7 4 (fun _ => -1)) := hR.fill (fun _ _ _ => ⟨by decide, by decide⟩)
  have hF1 : Rf (mp S 7 4 (fun _ => -1)) := hF.fill (by decide) (by decide)
  have hok := saF_ok hR hF
  have hR2 : Rg (wr (saF S) 8 0 32) := hok.1.put (by decide) (by decide)
  have hF2 : Rf (wr (saF S) 8 0 32) := hok.2.put (by decide) (by decide)
  refine ph_of shX_ok plX rfl cat0 (Nat.le_of_ble_eq_true rfl) (fun Γ h ad C => ?_)
  refine ph_iconst C dX0_startAgain_0 ?_
  refine ph_istore_n (L' := [_, _]) C dX0_startAgain_1 (by decide) (Nat.le_of_ble_eq_true rfl) rfl ?_
  refine ph_tab (mp_0 (S := S) (k := 7) (f := fun _ => -1)).symm ?_
  refine sa_fill7 C ?_ 4 0 (by omega) (by omega)
  refine ph_aload C dX0_startAgain_20 rfl ?_
  refine ph_call C (cX_putBack hR1 hF1) kX_putBack rfl rfl rfl (Nat.le_of_ble_eq_true rfl) dX0_startAgain_21 (by decide) (by decide) (fun r_21 u_21 hp_21 => ?_)
  obtain ⟨rfl, rfl⟩ := hp_21
  dsimp only [Option.toList_some, Option.toList_none, List.cons_append, List.nil_append]
  refine ph_iconst C dX0_startAgain_24 ?_
  refine ph_istore_n (L' := [_, _]) C dX0_startAgain_25 (by decide) (Nat.le_of_ble_eq_true rfl) rfl ?_
  refine ph_tab (mp_0 (S := pbAll (mp S 7 4 (fun _ => -1))) (k := 9) (f := fun _ => 0)).symm ?_
  refine sa_fill9 C ?_ 32 0 (by omega) (by omega)
  show ph_V shX Γ h ad _ (saF S) 45 _ _
  refine ph_aload C dX0_startAgain_45 rfl ?_
  refine ph_bipush C dX0_startAgain_46 (by decide) ?_
  refine pX8 C dX0_startAgain_48 ?_
  refine ph_aload C dX0_startAgain_51 rfl ?_
  refine ph_call C (cX_neededSet hR2 hF2) kX_neededSet rfl rfl rfl (Nat.le_of_ble_eq_true rfl) dX0_startAgain_52 (by decide) (by decide) (fun r_52 u_52 hp_52 => ?_)
  obtain ⟨f, rfl, rfl, hf⟩ := hp_52
  dsimp only [Option.toList_some, Option.toList_none, List.cons_append, List.nil_append]
  refine ph_istore_n (L' := [_, _]) C dX0_startAgain_55 (by decide) (Nat.le_of_ble_eq_true rfl) rfl ?_
  exact sa_loop C f (fun w h0 h1 h2 => ⟨rfl, w, h0, h1, fun j hj => h2 j ((hf j).mpr hj), rfl⟩) 32 (by omega) (fun j hj => hj.2.1)
theorem cX_crash {S : St} (hR : Rg S) (hF : Rf S) {w : Int} (hw : inI w) : ph_M shX yX0_crash cX0_crash 2 (some .int) 5 [.int (iI w)] S (fun r u => ∃ z : Int, r = some (.int (iI z)) ∧ (((w < 0 ∨ 2 < w) ∧ z = -1 ∧ S = u) ∨ ((0 ≤ w ∧ w ≤ 1) ∧ SA S u ∧ z = cP (Rd u) 32) ∨ (w = 2 ∧ SA (wr S 4 (S 0 0) 0) u ∧ z = cP (Rd u) 32))) := by
  have hw1 := hw.1
  have hw2 := hw.2
  have b0 := hR.r0
  have hR1 : Rg (wr S 4 (S 0 0) 0) := hR.put (by decide) (by decide)
  have hF1 : Rf (wr S 4 (S 0 0) 0) := hF.put (by decide) (by decide)
  refine ph_of shX_ok plX rfl cat1 (Nat.le_of_ble_eq_true rfl) (fun Γ h ad C => ?_)
  refine ph_iload_n C dX0_crash_0 rfl ?_
  refine ph_if_lt C 9 dX0_crash_1 (by decide) ⟨by omega, by omega⟩ (fun c_1 => ?_) (fun c_1 => ?_)
  · refine ph_iconst C dX0_crash_9 ?_
    exact ph_iret C dX0_crash_10 ⟨_, rfl, Or.inl ⟨by omega, rfl, rfl⟩⟩
  · refine ph_iload_n C dX0_crash_4 rfl ?_
    refine ph_iconst C dX0_crash_5 ?_
    refine ph_icmp_le C 11 dX0_crash_6 (by decide) ⟨by omega, by omega⟩ ⟨by omega, by omega⟩ (fun c_6 => ?_) (fun c_6 => ?_)
    · refine ph_iload_n C dX0_crash_11 rfl ?_
      refine ph_iconst C dX0_crash_12 ?_
      refine ph_icmp_ne C 26 dX0_crash_13 (by decide) ⟨by omega, by omega⟩ ⟨by omega, by omega⟩ (fun c_13 => ?_) (fun c_13 => ?_)
      · refine ph_aload C dX0_crash_26 rfl ?_
        refine ph_call C (cX_startAgain (by first | exact hR | exact hR1) (by first | exact hF | exact hF1)) kX_startAgain rfl rfl rfl (Nat.le_of_ble_eq_true rfl) dX0_crash_27 (by decide) (by decide) (fun r_27 u_27 hp_27 => ?_)
        obtain ⟨rfl, hsa⟩ := hp_27
        dsimp only [Option.toList_some, Option.toList_none, List.cons_append, List.nil_append]
        have hok := SA_ok (by first | exact hR | exact hR1) (by first | exact hF | exact hF1) hsa
        refine ph_aload C dX0_crash_30 rfl ?_
        refine ph_call C (cX_fromRoots hok.1 hok.2) kX_fromRoots rfl rfl rfl (Nat.le_of_ble_eq_true rfl) dX0_crash_31 (by decide) (by decide) (fun r_31 u_31 hp_31 => ?_)
        obtain ⟨z, rfl, rfl, hz⟩ := hp_31
        dsimp only [Option.toList_some, Option.toList_none, List.cons_append, List.nil_append]
        exact ph_iret C dX0_crash_34 ⟨z, rfl, by first | exact Or.inr (Or.inl ⟨by omega, hsa, hz⟩) | exact Or.inr (Or.inr ⟨by omega, hsa, hz⟩)⟩
      · refine ph_aload C dX0_crash_16 rfl ?_
        refine gX4 C dX0_crash_17 ?_
        refine ph_aload C dX0_crash_20 rfl ?_
        refine gX0 C dX0_crash_21 ?_
        refine ph_iconst C dX0_crash_24 ?_
        refine sX4 C (by omega) (by omega) (by omega) dX0_crash_25 ?_
        refine ph_aload C dX0_crash_26 rfl ?_
        refine ph_call C (cX_startAgain (by first | exact hR | exact hR1) (by first | exact hF | exact hF1)) kX_startAgain rfl rfl rfl (Nat.le_of_ble_eq_true rfl) dX0_crash_27 (by decide) (by decide) (fun r_27 u_27 hp_27 => ?_)
        obtain ⟨rfl, hsa⟩ := hp_27
        dsimp only [Option.toList_some, Option.toList_none, List.cons_append, List.nil_append]
        have hok := SA_ok (by first | exact hR | exact hR1) (by first | exact hF | exact hF1) hsa
        refine ph_aload C dX0_crash_30 rfl ?_
        refine ph_call C (cX_fromRoots hok.1 hok.2) kX_fromRoots rfl rfl rfl (Nat.le_of_ble_eq_true rfl) dX0_crash_31 (by decide) (by decide) (fun r_31 u_31 hp_31 => ?_)
        obtain ⟨z, rfl, rfl, hz⟩ := hp_31
        dsimp only [Option.toList_some, Option.toList_none, List.cons_append, List.nil_append]
        exact ph_iret C dX0_crash_34 ⟨z, rfl, by first | exact Or.inr (Or.inl ⟨by omega, hsa, hz⟩) | exact Or.inr (Or.inr ⟨by omega, hsa, hz⟩)⟩
    · refine ph_iconst C dX0_crash_9 ?_
      exact ph_iret C dX0_crash_10 ⟨_, rfl, Or.inl ⟨by omega, rfl, rfl⟩⟩
end
section
set_option maxRecDepth 100000
/-- an object moves, if it hasn't yet and may -/
def mvF (S : St) (s : Int) : St := if 0 ≤ s ∧ S 11 s < 0 ∧ ¬ S 13 0 = S 14 0 then wr (wr (wr (wr (wr (wr S 2 (32 * (1 - S 0 0) + S 13 0) (S 2 (32 * S 0 0 + s))) 1 (2 * (32 * (1 - S 0 0) + S 13 0)) (S 1 (2 * (32 * S 0 0 + s)))) 1 (2 * (32 * (1 - S 0 0) + S 13 0) + 1) (S 1 (2 * (32 * S 0 0 + s) + 1))) 11 s (S 13 0)) 12 (S 13 0) s) 13 0 (S 13 0 + 1) else S
theorem mvF_n {S : St} {s : Int} (h : s < 0 ∨ 0 ≤ S 11 s ∨ S 13 0 = S 14 0) : mvF S s = S := by
  unfold mvF
  rw [if_neg (by omega)]
theorem mvF_y {S : St} {s : Int} (h0 : 0 ≤ s) (h1 : S 11 s < 0) (h2 : ¬ S 13 0 = S 14 0) : mvF S s = wr (wr (wr (wr (wr (wr S 2 (32 * (1 - S 0 0) + S 13 0) (S 2 (32 * S 0 0 + s))) 1 (2 * (32 * (1 - S 0 0) + S 13 0)) (S 1 (2 * (32 * S 0 0 + s)))) 1 (2 * (32 * (1 - S 0 0) + S 13 0) + 1) (S 1 (2 * (32 * S 0 0 + s) + 1))) 11 s (S 13 0)) 12 (S 13 0) s) 13 0 (S 13 0 + 1) := by
  unfold mvF
  rw [if_pos ⟨h0, h1, h2⟩]
theorem mvF_k {S : St} {s i : Int} {k : Nat} (h : k ≠ 1 ∧ k ≠ 2 ∧ k ≠ 11 ∧ k ≠ 12 ∧ k ≠ 13) : mvF S s k i = S k i := by
  unfold mvF
  split
  · rw [wr_k h.2.2.2.2, wr_k h.2.2.2.1, wr_k h.2.2.1, wr_k h.1, wr_k h.1, wr_k h.2.1]
  · rfl
/-- where it is then -/
def mvV (S : St) (s : Int) : Int := if s < 0 then -1 else mvF S s 11 s
/-- what holds all through a move -/
def WI (S : St) : Prop := Rg S ∧ Rf S ∧ S 13 0 ≤ S 14 0
theorem mvF_ok {S : St} (h : WI S) {s : Int} (h1 : s ≤ 31) : WI (mvF S s) := by
  by_cases hc : 0 ≤ s ∧ S 11 s < 0 ∧ ¬ S 13 0 = S 14 0
  · obtain ⟨hR, hF, hA⟩ := h
    obtain ⟨c0, c1, c2⟩ := hc
    have b0 := hR.r0
    have b13 := hR.r13
    have b14 := hR.r14
    have b2 := hR.r2 (i := 32 * S 0 0 + s) (by omega) (by omega)
    have b1 := hR.r1 (i := 2 * (32 * S 0 0 + s)) (by omega) (by omega)
    have b3 := hR.r1 (i := 2 * (32 * S 0 0 + s) + 1) (by omega) (by omega)
    rw [mvF_y c0 c1 c2]
    refine ⟨?_, ?_, ?_⟩
    · exact (((((hR.put b2.1 b2.2).put b1.1 b1.2).put b3.1 b3.2).put (k := 11) (show -1 ≤ S 13 0 by omega) (show S 13 0 ≤ 31 by omega)).put (k := 12) (show 0 ≤ s by omega) (show s ≤ 31 by omega)).put (k := 13) (show 0 ≤ S 13 0 + 1 by omega) (show S 13 0 + 1 ≤ 32 by omega)
    · exact (((((hF.put (by decide) (by decide)).put (by decide) (by decide)).put (by decide) (by decide)).put (by decide) (by decide)).put (by decide) (by decide)).put (by decide) (by decide)
    · rw [wr_s]
      simp only [wr_k, ne_eq, reduceCtorEq, not_false_eq_true, Nat.reduceEqDiff]
      omega
  · rw [mvF_n (by omega)]
    exact h
theorem mvV_ok {S : St} (h : WI S) {s : Int} (h1 : s ≤ 31) : -1 ≤ mvV S s ∧ mvV S s ≤ 31 := by
  unfold mvV
  split
  · exact ⟨by decide, by decide⟩
  · exact (mvF_ok h h1).1.r11 (by omega) (by omega)
theorem cX_moved {S : St} (hW : WI S) {s : Int} (h0 : -1 ≤ s) (h1 : s ≤ 31) : ph_M shX yX0_moved cX0_moved 4 (some .int) 0 [.int (iI s)] S (fun r u => r = some (.int (iI (mvV S s))) ∧ mvF S s = u) := by
  obtain ⟨hR, hF, hA⟩ := hW
  have b0 := hR.r0
  have b13 := hR.r13
  have b14 := hR.r14
  refine ph_of shX_ok plX rfl cat1 (Nat.le_of_ble_eq_true rfl) (fun Γ h ad C => ?_)
  refine ph_iload_n C dX0_moved_0 rfl ?_
  refine ph_if_ge C 6 dX0_moved_1 (by decide) ⟨by omega, by omega⟩ (fun c_1 => ?_) (fun c_1 => ?_)
  · have b11 := hR.r11 (i := s) (by omega) (by omega)
    refine ph_aload C dX0_moved_6 rfl ?_
    refine gX11 C dX0_moved_7 ?_
    refine ph_iload_n C dX0_moved_10 rfl ?_
    refine lX11 C (by omega) (by omega) dX0_moved_11 ?_
    refine ph_if_ge C 26 dX0_moved_12 (by decide) ⟨by omega, by omega⟩ (fun c_12 => ?_) (fun c_12 => ?_)
    · refine ph_aload C dX0_moved_26 rfl ?_
      refine gX11 C dX0_moved_27 ?_
      refine ph_iload_n C dX0_moved_30 rfl ?_
      refine lX11 C (by omega) (by omega) dX0_moved_31 ?_
      exact ph_iret C dX0_moved_32 ⟨by unfold mvV; rw [if_neg (by omega), mvF_n (by omega)], mvF_n (by omega)⟩
    · refine ph_aload C dX0_moved_15 rfl ?_
      refine gX13 C dX0_moved_16 ?_
      refine ph_aload C dX0_moved_19 rfl ?_
      refine gX14 C dX0_moved_20 ?_
      refine ph_icmp_ne C 33 dX0_moved_23 (by decide) ⟨by omega, by omega⟩ ⟨by omega, by omega⟩ (fun c_23 => ?_) (fun c_23 => ?_)
      · have b2 := hR.r2 (i := 32 * S 0 0 + s) (by omega) (by omega)
        have b1 := hR.r1 (i := 2 * (32 * S 0 0 + s)) (by omega) (by omega)
        have b3 := hR.r1 (i := 2 * (32 * S 0 0 + s) + 1) (by omega) (by omega)
        refine ph_bipush C dX0_moved_33 (by decide) ?_
        refine ph_aload C dX0_moved_35 rfl ?_
        refine gX0 C dX0_moved_36 ?_
        refine ph_imul C dX0_moved_39 ?_
        refine ph_iload_n C dX0_moved_40 rfl ?_
        refine ph_iadd C dX0_moved_41 ?_
        refine ph_istore_n (L' := [_, _, _]) C dX0_moved_42 (by decide) (Nat.le_of_ble_eq_true rfl) rfl ?_
        refine ph_bipush C dX0_moved_43 (by decide) ?_
        refine ph_iconst C dX0_moved_45 ?_
        refine ph_aload C dX0_moved_46 rfl ?_
        refine gX0 C dX0_moved_47 ?_
        refine ph_isub C dX0_moved_50 ?_
        refine ph_imul C dX0_moved_51 ?_
        refine ph_aload C dX0_moved_52 rfl ?_
        refine gX13 C dX0_moved_53 ?_
        refine ph_iadd C dX0_moved_56 ?_
        refine ph_istore_n (L' := [_, _, _, _]) C dX0_moved_57 (by decide) (Nat.le_of_ble_eq_true rfl) rfl ?_
        refine ph_aload C dX0_moved_58 rfl ?_
        refine gX2 C dX0_moved_59 ?_
        refine ph_iload_n C dX0_moved_62 rfl ?_
        refine ph_aload C dX0_moved_63 rfl ?_
        refine gX2 C dX0_moved_64 ?_
        refine ph_iload_n C dX0_moved_67 rfl ?_
        refine lX2 C (by omega) (by omega) dX0_moved_68 ?_
        refine sX2 C (by omega) (by omega) dX0_moved_69 ?_
        refine ph_aload C dX0_moved_70 rfl ?_
        refine gX1 C dX0_moved_71 ?_
        refine ph_iconst C dX0_moved_74 ?_
        refine ph_iload_n C dX0_moved_75 rfl ?_
        refine ph_imul C dX0_moved_76 ?_
        refine ph_aload C dX0_moved_77 rfl ?_
        refine gX1 C dX0_moved_78 ?_
        refine ph_iconst C dX0_moved_81 ?_
        refine ph_iload_n C dX0_moved_82 rfl ?_
        refine ph_imul C dX0_moved_83 ?_
        refine lX1 C (by omega) (by omega) dX0_moved_84 ?_
        simp only [wr_k, ne_eq, reduceCtorEq, not_false_eq_true, Nat.reduceEqDiff]
        refine sX1 C (by omega) (by omega) (by omega) dX0_moved_85 ?_
        refine ph_aload C dX0_moved_86 rfl ?_
        refine gX1 C dX0_moved_87 ?_
        refine ph_iconst C dX0_moved_90 ?_
        refine ph_iload_n C dX0_moved_91 rfl ?_
        refine ph_imul C dX0_moved_92 ?_
        refine ph_iconst C dX0_moved_93 ?_
        refine ph_iadd C dX0_moved_94 ?_
        refine ph_aload C dX0_moved_95 rfl ?_
        refine gX1 C dX0_moved_96 ?_
        refine ph_iconst C dX0_moved_99 ?_
        refine ph_iload_n C dX0_moved_100 rfl ?_
        refine ph_imul C dX0_moved_101 ?_
        refine ph_iconst C dX0_moved_102 ?_
        refine ph_iadd C dX0_moved_103 ?_
        refine lX1 C (by omega) (by omega) dX0_moved_104 ?_
        rw [wr_i (show 2 * (32 * S 0 0 + s) + 1 ≠ 2 * (32 * (1 - S 0 0) + S 13 0) by omega)]
        simp only [wr_k, ne_eq, reduceCtorEq, not_false_eq_true, Nat.reduceEqDiff]
        refine sX1 C (by omega) (by omega) (by omega) dX0_moved_105 ?_
        refine ph_aload C dX0_moved_106 rfl ?_
        refine gX11 C dX0_moved_107 ?_
        refine ph_iload_n C dX0_moved_110 rfl ?_
        refine ph_aload C dX0_moved_111 rfl ?_
        refine gX13 C dX0_moved_112 ?_
        simp only [wr_k, ne_eq, reduceCtorEq, not_false_eq_true, Nat.reduceEqDiff]
        refine ph_i2b C dX0_moved_115 (by omega) (by omega) ?_
        refine sX11 C (by omega) (by omega) (by omega) dX0_moved_116 ?_
        refine ph_aload C dX0_moved_117 rfl ?_
        refine gX12 C dX0_moved_118 ?_
        refine ph_aload C dX0_moved_121 rfl ?_
        refine gX13 C dX0_moved_122 ?_
        simp only [wr_k, ne_eq, reduceCtorEq, not_false_eq_true, Nat.reduceEqDiff]
        refine ph_iload_n C dX0_moved_125 rfl ?_
        refine ph_i2b C dX0_moved_126 (by omega) (by omega) ?_
        refine sX12 C (by omega) (by omega) (by omega) dX0_moved_127 ?_
        refine ph_aload C dX0_moved_128 rfl ?_
        refine ph_dupr C dX0_moved_129 ?_
        refine gX13 C dX0_moved_130 ?_
        simp only [wr_k, ne_eq, reduceCtorEq, not_false_eq_true, Nat.reduceEqDiff]
        refine ph_iconst C dX0_moved_133 ?_
        refine ph_iadd C dX0_moved_134 ?_
        refine pX13 C dX0_moved_135 ?_
        refine ph_aload C dX0_moved_138 rfl ?_
        refine gX11 C dX0_moved_139 ?_
        refine ph_iload_n C dX0_moved_142 rfl ?_
        refine lX11 C (by omega) (by omega) dX0_moved_143 ?_
        exact ph_iret C dX0_moved_144 ⟨by unfold mvV; rw [if_neg (by omega), mvF_y (by omega) (by omega) c_23], mvF_y (by omega) (by omega) c_23⟩
      · refine ph_aload C dX0_moved_26 rfl ?_
        refine gX11 C dX0_moved_27 ?_
        refine ph_iload_n C dX0_moved_30 rfl ?_
        refine lX11 C (by omega) (by omega) dX0_moved_31 ?_
        exact ph_iret C dX0_moved_32 ⟨by unfold mvV; rw [if_neg (by omega), mvF_n (by omega)], mvF_n (by omega)⟩
  · refine ph_iconst C dX0_moved_4 ?_
    exact ph_iret C dX0_moved_5 ⟨by unfold mvV; rw [if_pos (by omega)], mvF_n (by omega)⟩
def moB (s k : Int) (S : St) : St := if S 5 k / 3 = s ∧ S 5 k < 96 ∧ ¬ S 5 k % 3 = 2 then mvF S (S 6 k) else S
theorem moB_y {s k : Int} {S : St} (h : S 5 k / 3 = s ∧ S 5 k < 96 ∧ ¬ S 5 k % 3 = 2) : moB s k S = mvF S (S 6 k) := by unfold moB; rw [if_pos h]
theorem moB_n {s k : Int} {S : St} (h : ¬ (S 5 k / 3 = s ∧ S 5 k < 96 ∧ ¬ S 5 k % 3 = 2)) : moB s k S = S := by unfold moB; rw [if_neg h]
theorem moB_k {S : St} {s j i : Int} {k : Nat} (h : k ≠ 1 ∧ k ≠ 2 ∧ k ≠ 11 ∧ k ≠ 12 ∧ k ≠ 13) : moB s j S k i = S k i := by
  unfold moB
  split
  · exact mvF_k h
  · rfl
theorem moB_ok {S : St} (h : WI S) {s k : Int} (h0 : 0 ≤ k) (h1 : k < 198) : WI (moB s k S) := by
  by_cases hc : S 5 k / 3 = s ∧ S 5 k < 96 ∧ ¬ S 5 k % 3 = 2
  · rw [moB_y hc]
    exact mvF_ok h (h.2.1 k h0 h1 (Or.inr hc.2.2)).2
  · rw [moB_n hc]
    exact h
def moF (S : St) (s : Int) : St := itF (moB s) (S 4 (S 0 0)).toNat (99 * S 0 0) S
theorem itF_k {f : Int → St → St} {k : Nat} {i : Int} (h : ∀ j S, f j S k i = S k i) : ∀ (n : Nat) (j : Int) (S : St), itF f n j S k i = S k i
  | 0, _, _ => rfl
  | n + 1, j, S => (itF_k h n (j + 1) (f j S)).trans (h j S)
theorem itF_inv {f : Int → St → St} {I : St → Prop} {a b : Int} (h : ∀ j S, a ≤ j → j < b → I S → I (f j S)) : ∀ (n : Nat) (j : Int) (S : St), a ≤ j → j + n ≤ b → I S → I (itF f n j S)
  | 0, _, _, _, _, hS => hS
  | n + 1, j, S, h1, h2, hS => itF_inv h n (j + 1) (f j S) (by omega) (by omega) (h j S h1 (by omega) hS)
theorem moF_k {S : St} {s i : Int} {k : Nat} (h : k ≠ 1 ∧ k ≠ 2 ∧ k ≠ 11 ∧ k ≠ 12 ∧ k ≠ 13) : moF S s k i = S k i := itF_k (fun _ _ => moB_k h) _ _ _
theorem moF_ok {S : St} (h : WI S) {s : Int} : WI (moF S s) := by
  have b0 := h.1.r0
  have b4 := h.1.r4 (i := S 0 0) (by omega) (by omega)
  exact itF_inv (I := WI) (a := 0) (b := 198) (fun j T h1 h2 hT => moB_ok hT h1 h2) _ _ _ (by omega) (by omega) h
theorem mo_loop {Γ : Cx} {h : Nat} {ad : Nat → Nat} {post : Option Value → St → Prop} (C : ph_C shX Γ h ad cX0_moveOldFields 4 none 1) (s : Int) (hs0 : 0 ≤ s) (hs1 : s ≤ 31) : ∀ (n : Nat) (k : Int) (S : St), WI S → 99 * S 0 0 ≤ k → k + n = 99 * S 0 0 + S 4 (S 0 0) → post none (itF (moB s) n k S) → ph_V shX Γ h ad post S 8 [.ref h, .int (iI s), .int (iI k)] [] := by
  intro n
  induction n with
  | zero =>
    intro k S hW hk hn hp
    have b0 := hW.1.r0
    have b4 := hW.1.r4 (i := S 0 0) (by omega) (by omega)
    refine ph_iload_n C dX0_moveOldFields_8 rfl ?_
    refine ph_bipush C dX0_moveOldFields_9 (by decide) ?_
    refine ph_aload C dX0_moveOldFields_11 rfl ?_
    refine gX0 C dX0_moveOldFields_12 ?_
    refine ph_imul C dX0_moveOldFields_15 ?_
    refine ph_aload C dX0_moveOldFields_16 rfl ?_
    refine gX4 C dX0_moveOldFields_17 ?_
    refine ph_aload C dX0_moveOldFields_20 rfl ?_
    refine gX0 C dX0_moveOldFields_21 ?_
    refine lX4 C (by omega) (by omega) dX0_moveOldFields_24 ?_
    refine ph_iadd C dX0_moveOldFields_25 ?_
    refine ph_icmp_ge C 73 dX0_moveOldFields_26 (by decide) ⟨by omega, by omega⟩ ⟨by omega, by omega⟩ (fun c_26 => ?_) (fun c_26 => ?_)
    · exact ph_vret C dX0_moveOldFields_73 hp
    · exact absurd c_26 (by omega)
  | succ n ih =>
    intro k S hW hk hn hp
    have b0 := hW.1.r0
    have b4 := hW.1.r4 (i := S 0 0) (by omega) (by omega)
    have b5 := hW.1.r5 (i := k) (by omega) (by omega)
    have b6 := hW.2.1 k (by omega) (by omega)
    have hok := moB_ok (s := s) hW (k := k) (by omega) (by omega)
    have e0 : moB s k S 0 0 = S 0 0 := moB_k (by decide)
    have e4 : ∀ i, moB s k S 4 i = S 4 i := fun i => moB_k (by decide)
    refine ph_iload_n C dX0_moveOldFields_8 rfl ?_
    refine ph_bipush C dX0_moveOldFields_9 (by decide) ?_
    refine ph_aload C dX0_moveOldFields_11 rfl ?_
    refine gX0 C dX0_moveOldFields_12 ?_
    refine ph_imul C dX0_moveOldFields_15 ?_
    refine ph_aload C dX0_moveOldFields_16 rfl ?_
    refine gX4 C dX0_moveOldFields_17 ?_
    refine ph_aload C dX0_moveOldFields_20 rfl ?_
    refine gX0 C dX0_moveOldFields_21 ?_
    refine lX4 C (by omega) (by omega) dX0_moveOldFields_24 ?_
    refine ph_iadd C dX0_moveOldFields_25 ?_
    refine ph_icmp_ge C 73 dX0_moveOldFields_26 (by decide) ⟨by omega, by omega⟩ ⟨by omega, by omega⟩ (fun c_26 => ?_) (fun c_26 => ?_)
    · exact absurd c_26 (by omega)
    · refine ph_aload C dX0_moveOldFields_29 rfl ?_
      refine gX5 C dX0_moveOldFields_30 ?_
      refine ph_iload_n C dX0_moveOldFields_33 rfl ?_
      refine lX5 C (by omega) (by omega) dX0_moveOldFields_34 ?_
      refine ph_istore_n (L' := [_, _, _, _]) C dX0_moveOldFields_35 (by decide) (Nat.le_of_ble_eq_true rfl) rfl ?_
      have nxt : ph_V shX Γ h ad post (moB s k S) 67 [.ref h, .int (iI s), .int (iI k), .int (iI (S 5 k))] [] := by
        refine ph_iinc (L' := [_, _, _, _]) C dX0_moveOldFields_67 rfl (by decide) rfl ?_
        refine ph_goto C 8 dX0_moveOldFields_70 (by decide) ?_
        refine ph_drop (L' := [_, _, _]) (L'' := [_]) rfl ?_
        exact ih (k + 1) _ hok (by rw [e0]; omega) (by rw [e0, e4]; omega) hp
      refine ph_iload_n C dX0_moveOldFields_36 rfl ?_
      refine ph_iconst C dX0_moveOldFields_37 ?_
      refine ph_idiv C dX0_moveOldFields_38 (by omega) (by omega) (by decide) (by decide) ?_
      refine ph_iload_n C dX0_moveOldFields_39 rfl ?_
      refine ph_icmp_ne C 67 dX0_moveOldFields_40 (by decide) ⟨by omega, by omega⟩ ⟨by omega, by omega⟩ (fun c_40 => ?_) (fun c_40 => ?_)
      · first | (rw [moB_n (by omega)] at nxt; exact nxt) | (rw [moB_y ⟨c_40, c_46, c_53⟩] at nxt; exact nxt)
      · refine ph_iload_n C dX0_moveOldFields_43 rfl ?_
        refine ph_bipush C dX0_moveOldFields_44 (by decide) ?_
        refine ph_icmp_ge C 67 dX0_moveOldFields_46 (by decide) ⟨by omega, by omega⟩ ⟨by omega, by omega⟩ (fun c_46 => ?_) (fun c_46 => ?_)
        · first | (rw [moB_n (by omega)] at nxt; exact nxt) | (rw [moB_y ⟨c_40, c_46, c_53⟩] at nxt; exact nxt)
        · refine ph_iload_n C dX0_moveOldFields_49 rfl ?_
          refine ph_iconst C dX0_moveOldFields_50 ?_
          refine ph_irem C dX0_moveOldFields_51 (by omega) (by omega) (by decide) (by decide) ?_
          refine ph_iconst C dX0_moveOldFields_52 ?_
          refine ph_icmp_eq C 67 dX0_moveOldFields_53 (by decide) ⟨by omega, by omega⟩ ⟨by omega, by omega⟩ (fun c_53 => ?_) (fun c_53 => ?_)
          · first | (rw [moB_n (by omega)] at nxt; exact nxt) | (rw [moB_y ⟨c_40, c_46, c_53⟩] at nxt; exact nxt)
          · have b7 := b6 (Or.inr c_53)
            refine ph_aload C dX0_moveOldFields_56 rfl ?_
            refine ph_aload C dX0_moveOldFields_57 rfl ?_
            refine gX6 C dX0_moveOldFields_58 ?_
            refine ph_iload_n C dX0_moveOldFields_61 rfl ?_
            refine lX6 C (by omega) (by omega) dX0_moveOldFields_62 ?_
            refine ph_call C (cX_moved hW (by omega) (by omega)) kX_moved rfl rfl rfl (Nat.le_of_ble_eq_true rfl) dX0_moveOldFields_63 (by decide) (by decide) (fun r_63 u_63 hp_63 => ?_)
            obtain ⟨rfl, rfl⟩ := hp_63
            dsimp only [Option.toList_some, Option.toList_none, List.cons_append, List.nil_append]
            refine ph_pop C dX0_moveOldFields_66 ?_
            first | (rw [moB_n (by omega)] at nxt; exact nxt) | (rw [moB_y ⟨c_40, c_46, c_53⟩] at nxt; exact nxt)
theorem cX_moveOldFields {S : St} (hW : WI S) {s : Int} (h0 : 0 ≤ s) (h1 : s ≤ 31) : ph_M shX yX0_moveOldFields cX0_moveOldFields 4 none 1 [.int (iI s)] S (fun r u => r = none ∧ moF S s = u) := by
  have b0 := hW.1.r0
  have b4 := hW.1.r4 (i := S 0 0) (by omega) (by omega)
  refine ph_of shX_ok plX rfl cat1 (Nat.le_of_ble_eq_true rfl) (fun Γ h ad C => ?_)
  refine ph_bipush C dX0_moveOldFields_0 (by decide) ?_
  refine ph_aload C dX0_moveOldFields_2 rfl ?_
  refine gX0 C dX0_moveOldFields_3 ?_
  refine ph_imul C dX0_moveOldFields_6 ?_
  refine ph_istore_n (L' := [_, _, _]) C dX0_moveOldFields_7 (by decide) (Nat.le_of_ble_eq_true rfl) rfl ?_
  exact mo_loop C s h0 h1 (S 4 (S 0 0)).toNat _ S hW (by omega) (by omega) ⟨rfl, rfl⟩
/-- the list's entry k is kept; its new place; its new content -/
def mlK (S : St) (k : Int) : Prop := 96 ≤ S 5 k ∨ 0 ≤ S 11 (S 5 k / 3)
def mlP (S : St) (k : Int) : Int := if 96 ≤ S 5 k then S 5 k else 3 * S 11 (S 5 k / 3) + S 5 k % 3
def mlO (S : St) (k : Int) : Int := if (96 ≤ S 5 k ∨ ¬ S 5 k % 3 = 2) ∧ 0 ≤ S 6 k then S 11 (S 6 k) else S 6 k
theorem mlP_r {S : St} {k : Int} (h : 96 ≤ S 5 k) : mlP S k = S 5 k := by unfold mlP; rw [if_pos h]
theorem mlP_o {S : St} {k : Int} (h : S 5 k < 96) : mlP S k = 3 * S 11 (S 5 k / 3) + S 5 k % 3 := by unfold mlP; rw [if_neg (by omega)]
theorem mlO_y {S : St} {k : Int} (h : 96 ≤ S 5 k ∨ ¬ S 5 k % 3 = 2) (h0 : 0 ≤ S 6 k) : mlO S k = S 11 (S 6 k) := by unfold mlO; rw [if_pos ⟨h, h0⟩]
theorem mlO_n {S : St} {k : Int} (h : (S 5 k < 96 ∧ S 5 k % 3 = 2) ∨ S 6 k < 0) : mlO S k = S 6 k := by unfold mlO; rw [if_neg (by omega)]
def mlB (o c k : Int) (S : St) : St := wr (wr S 5 (99 * o + c) (mlP S k)) 6 (99 * o + c) (mlO S k)
noncomputable def mlF (o : Int) : Nat → Int → Int → St → Int × St
  | 0, _, c, S => (c, S)
  | n + 1, k, c, S => @ite _ (mlK S k) (Classical.propDecidable _) (mlF o n (k + 1) (c + 1) (mlB o c k S)) (mlF o n (k + 1) c S)
theorem mlF_y {o k c : Int} {n : Nat} {S : St} (h : mlK S k) : mlF o (n + 1) k c S = mlF o n (k + 1) (c + 1) (mlB o c k S) := by
  show @ite _ (mlK S k) (Classical.propDecidable _) _ _ = _
  rw [if_pos h]
theorem mlF_n {o k c : Int} {n : Nat} {S : St} (h : ¬ mlK S k) : mlF o (n + 1) k c S = mlF o n (k + 1) c S := by
  show @ite _ (mlK S k) (Classical.propDecidable _) _ _ = _
  rw [if_neg h]
theorem mlB_k {S : St} {o c j i : Int} {k : Nat} (h : k ≠ 5 ∧ k ≠ 6) : mlB o c j S k i = S k i := by
  unfold mlB
  rw [wr_k h.2, wr_k h.1]
theorem mlP_le {S : St} (hR : Rg S) {k : Int} (h0 : 0 ≤ k) (h1 : k < 198) (hk : mlK S k) : 0 ≤ mlP S k ∧ mlP S k ≤ 98 ∧ (96 ≤ mlP S k ↔ 96 ≤ S 5 k) ∧ (S 5 k < 96 → mlP S k % 3 = S 5 k % 3) := by
  have b5 := hR.r5 h0 h1
  by_cases h : 96 ≤ S 5 k
  · rw [mlP_r h]; omega
  · have b11 := hR.r11 (i := S 5 k / 3) (by omega) (by omega)
    have hk : 96 ≤ S 5 k ∨ 0 ≤ S 11 (S 5 k / 3) := hk
    rw [mlP_o (by omega)]; omega
theorem mlO_le {S : St} (hR : Rg S) (hF : Rf S) {k : Int} (h0 : 0 ≤ k) (h1 : k < 198) : inI (mlO S k) ∧ ((96 ≤ S 5 k ∨ ¬ S 5 k % 3 = 2) → -1 ≤ mlO S k ∧ mlO S k ≤ 31) := by
  have b6 := hR.r6 h0 h1
  have b7 := hF k h0 h1
  by_cases h : (96 ≤ S 5 k ∨ ¬ S 5 k % 3 = 2) ∧ 0 ≤ S 6 k
  · have b8 := b7 h.1
    have b11 := hR.r11 (i := S 6 k) (by omega) (by omega)
    rw [mlO_y h.1 h.2]
    exact ⟨⟨by omega, by omega⟩, fun _ => b11⟩
  · rw [mlO_n (by omega)]
    exact ⟨b6, b7⟩
theorem mlB_ok {S : St} (h : WI S) {o c k : Int} (h0 : 0 ≤ k) (h1 : k < 198) (hk : mlK S k) : WI (mlB o c k S) := by
  obtain ⟨hR, hF, hA⟩ := h
  have b1 := mlP_le hR h0 h1 hk
  have b2 := mlO_le hR hF h0 h1
  have b5 := hR.r5 h0 h1
  refine ⟨(hR.put (k := 5) b1.1 b1.2.1).put (k := 6) b2.1.1 b2.1.2, ?_, by rw [mlB_k (by decide), mlB_k (by decide)]; exact hA⟩
  intro j g0 g1 g2
  unfold mlB at g2 ⊢
  rw [wr_k (by decide)] at g2
  by_cases hj : j = 99 * o + c
  · subst hj
    rw [wr_s] at g2 ⊢
    exact b2.2 (by omega)
  · rw [wr_i hj] at g2 ⊢
    rw [wr_k (by decide)]
    exact hF j g0 g1 g2
theorem ml_loop {Γ : Cx} {h : Nat} {ad : Nat → Nat} {post : Option Value → St → Prop} (C : ph_C shX Γ h ad cX0_moveList 8 none 0) (o : Int) (ho : 0 ≤ o ∧ o ≤ 1) : ∀ (n : Nat) (k c : Int) (S : St), WI S → 99 * S 0 0 ≤ k → k + n = 99 * S 0 0 + S 4 (S 0 0) → 0 ≤ c → c ≤ k - 99 * S 0 0 → post none (wr (mlF o n k c S).2 4 o (mlF o n k c S).1) → ph_V shX Γ h ad post S 10 [.ref h, .int (iI o), .int (iI c), .int (iI k)] [] := by
  intro n
  induction n with
  | zero =>
    intro k c S hW hk hn hc0 hc1 hp
    have b0 := hW.1.r0
    have b4 := hW.1.r4 (i := S 0 0) (by omega) (by omega)
    refine ph_iload_n C dX0_moveList_10 rfl ?_
    refine ph_bipush C dX0_moveList_11 (by decide) ?_
    refine ph_aload C dX0_moveList_13 rfl ?_
    refine gX0 C dX0_moveList_14 ?_
    refine ph_imul C dX0_moveList_17 ?_
    refine ph_aload C dX0_moveList_18 rfl ?_
    refine gX4 C dX0_moveList_19 ?_
    refine ph_aload C dX0_moveList_22 rfl ?_
    refine gX0 C dX0_moveList_23 ?_
    refine lX4 C (by omega) (by omega) dX0_moveList_26 ?_
    refine ph_iadd C dX0_moveList_27 ?_
    refine ph_icmp_ge C 185 dX0_moveList_28 (by decide) ⟨by omega, by omega⟩ ⟨by omega, by omega⟩ (fun c_28 => ?_) (fun c_28 => ?_)
    · refine ph_aload C dX0_moveList_185 rfl ?_
      refine gX4 C dX0_moveList_186 ?_
      refine ph_iload_n C dX0_moveList_189 rfl ?_
      refine ph_iload_n C dX0_moveList_190 rfl ?_
      refine ph_i2b C dX0_moveList_191 (by omega) (by omega) ?_
      refine sX4 C (by omega) (by omega) (by omega) dX0_moveList_192 ?_
      exact ph_vret C dX0_moveList_193 hp
    · exact absurd c_28 (by omega)
  | succ n ih =>
    intro k c S hW hk hn hc0 hc1 hp
    have b0 := hW.1.r0
    have b4 := hW.1.r4 (i := S 0 0) (by omega) (by omega)
    have b5 := hW.1.r5 (i := k) (by omega) (by omega)
    have b6 := hW.2.1 k (by omega) (by omega)
    have b9 := hW.1.r6 (i := k) (by omega) (by omega)
    have skip : ∀ b : Int, ¬ mlK S k → ph_V shX Γ h ad post S 179 [.ref h, .int (iI o), .int (iI c), .int (iI k), .int (iI (S 5 k)), .int (iI b)] [] := by
      intro b hk0
      refine ph_iinc (L' := [_, _, _, _, _, _]) C dX0_moveList_179 rfl (by decide) rfl ?_
      refine ph_goto C 10 dX0_moveList_182 (by decide) ?_
      refine ph_drop (L' := [_, _, _, _]) (L'' := [_, _]) rfl ?_
      exact ih (k + 1) c S hW (by omega) (by omega) hc0 (by omega) (by rw [← mlF_n hk0]; exact hp)
    have e0 : mlB o c k S 0 0 = S 0 0 := mlB_k (by decide)
    have e4 : ∀ i, mlB o c k S 4 i = S 4 i := fun i => mlB_k (by decide)
    have kept : ∀ (b b2 : Int), mlK S k → ph_V shX Γ h ad post (mlB o c k S) 176 [.ref h, .int (iI o), .int (iI c), .int (iI k), .int (iI (S 5 k)), .int (iI b), .int (iI b2), .int (iI (99 * o + c))] [] := by
      intro b b2 hk0
      refine ph_iinc (L' := [_, _, _, _, _, _, _, _]) C dX0_moveList_176 rfl (by decide) rfl ?_
      refine ph_iinc (L' := [_, _, _, _, _, _, _, _]) C dX0_moveList_179 rfl (by decide) rfl ?_
      refine ph_goto C 10 dX0_moveList_182 (by decide) ?_
      refine ph_drop (L' := [_, _, _, _]) (L'' := [_, _, _, _]) rfl ?_
      exact ih (k + 1) (c + 1) _ (mlB_ok hW (by omega) (by omega) hk0) (by rw [e0]; omega) (by rw [e0, e4]; omega) (by omega) (by rw [e0]; omega) (by rw [← mlF_y hk0]; exact hp)
    have second : ∀ (b b2 : Int), mlK S k → ((b2 = 1 ∧ (96 ≤ S 5 k ∨ ¬ S 5 k % 3 = 2)) ∨ (b2 = 0 ∧ S 5 k < 96 ∧ S 5 k % 3 = 2)) → ph_V shX Γ h ad post (wr S 5 (99 * o + c) (mlP S k)) 135 [.ref h, .int (iI o), .int (iI c), .int (iI k), .int (iI (S 5 k)), .int (iI b), .int (iI b2), .int (iI (99 * o + c))] [] := by
      intro b b2 hk0 hb2
      refine ph_aload C dX0_moveList_135 rfl ?_
      refine gX6 C dX0_moveList_136 ?_
      refine ph_iload C dX0_moveList_139 rfl ?_
      refine ph_iload C dX0_moveList_141 rfl ?_
      refine ph_if_eq C 169 dX0_moveList_143 (by decide) ⟨by omega, by omega⟩ (fun c_143 => ?_) (fun c_143 => ?_)
      · refine ph_aload C dX0_moveList_169 rfl ?_
        refine gX6 C dX0_moveList_170 ?_
        refine ph_iload_n C dX0_moveList_173 rfl ?_
        refine lX6 C (by omega) (by omega) dX0_moveList_174 ?_
        refine sX6 C (by omega) (by omega) dX0_moveList_175 ?_
        have kp := kept b b2 hk0
        unfold mlB at kp
        first | (rw [mlO_y (by omega) (by omega)] at kp; exact kp) | (rw [mlO_n (by omega)] at kp; exact kp) | (rw [mlO_n (by omega)] at kp; simp only [wr_k, ne_eq, reduceCtorEq, not_false_eq_true, Nat.reduceEqDiff]; exact kp)
      · refine ph_aload C dX0_moveList_146 rfl ?_
        refine gX6 C dX0_moveList_147 ?_
        refine ph_iload_n C dX0_moveList_150 rfl ?_
        refine lX6 C (by omega) (by omega) dX0_moveList_151 ?_
        simp only [wr_k, ne_eq, reduceCtorEq, not_false_eq_true, Nat.reduceEqDiff]
        refine ph_if_lt C 169 dX0_moveList_152 (by decide) ⟨by omega, by omega⟩ (fun c_152 => ?_) (fun c_152 => ?_)
        · refine ph_aload C dX0_moveList_169 rfl ?_
          refine gX6 C dX0_moveList_170 ?_
          refine ph_iload_n C dX0_moveList_173 rfl ?_
          refine lX6 C (by omega) (by omega) dX0_moveList_174 ?_
          refine sX6 C (by omega) (by omega) dX0_moveList_175 ?_
          have kp := kept b b2 hk0
          unfold mlB at kp
          first | (rw [mlO_y (by omega) (by omega)] at kp; exact kp) | (rw [mlO_n (by omega)] at kp; exact kp) | (rw [mlO_n (by omega)] at kp; simp only [wr_k, ne_eq, reduceCtorEq, not_false_eq_true, Nat.reduceEqDiff]; exact kp)
        · have b10 := b6 (by omega)
          refine ph_aload C dX0_moveList_155 rfl ?_
          refine gX11 C dX0_moveList_156 ?_
          refine ph_aload C dX0_moveList_159 rfl ?_
          refine gX6 C dX0_moveList_160 ?_
          refine ph_iload_n C dX0_moveList_163 rfl ?_
          refine lX6 C (by omega) (by omega) dX0_moveList_164 ?_
          simp only [wr_k, ne_eq, reduceCtorEq, not_false_eq_true, Nat.reduceEqDiff]
          refine lX11 C (by omega) (by omega) dX0_moveList_165 ?_
          refine ph_goto C 175 dX0_moveList_166 (by decide) ?_
          refine sX6 C (by omega) (by omega) dX0_moveList_175 ?_
          have kp := kept b b2 hk0
          unfold mlB at kp
          first | (rw [mlO_y (by omega) (by omega)] at kp; exact kp) | (rw [mlO_n (by omega)] at kp; exact kp) | (rw [mlO_n (by omega)] at kp; simp only [wr_k, ne_eq, reduceCtorEq, not_false_eq_true, Nat.reduceEqDiff]; exact kp)
    have first_ : ∀ (b b2 : Int), mlK S k → ((b = 1 ∧ 96 ≤ S 5 k) ∨ (b = 0 ∧ S 5 k < 96)) → ((b2 = 1 ∧ (96 ≤ S 5 k ∨ ¬ S 5 k % 3 = 2)) ∨ (b2 = 0 ∧ S 5 k < 96 ∧ S 5 k % 3 = 2)) → ph_V shX Γ h ad post S 91 [.ref h, .int (iI o), .int (iI c), .int (iI k), .int (iI (S 5 k)), .int (iI b)] [.int (iI b2)] := by
      intro b b2 hk0 hb hb2
      refine ph_istore (L' := [_, _, _, _, _, _, _]) C dX0_moveList_91 (by decide) (Nat.le_of_ble_eq_true rfl) rfl ?_
      refine ph_bipush C dX0_moveList_93 (by decide) ?_
      refine ph_iload_n C dX0_moveList_95 rfl ?_
      refine ph_imul C dX0_moveList_96 ?_
      refine ph_iload_n C dX0_moveList_97 rfl ?_
      refine ph_iadd C dX0_moveList_98 ?_
      refine ph_istore (L' := [_, _, _, _, _, _, _, _]) C dX0_moveList_99 (by decide) (Nat.le_of_ble_eq_true rfl) rfl ?_
      have b12 := mlP_le hW.1 (by omega) (by omega) hk0
      refine ph_aload C dX0_moveList_101 rfl ?_
      refine gX5 C dX0_moveList_102 ?_
      refine ph_iload C dX0_moveList_105 rfl ?_
      refine ph_iload C dX0_moveList_107 rfl ?_
      refine ph_if_eq C 117 dX0_moveList_109 (by decide) ⟨by omega, by omega⟩ (fun c_109 => ?_) (fun c_109 => ?_)
      · have b11 := hW.1.r11 (i := S 5 k / 3) (by omega) (by omega)
        refine ph_iconst C dX0_moveList_117 ?_
        refine ph_aload C dX0_moveList_118 rfl ?_
        refine gX11 C dX0_moveList_119 ?_
        refine ph_iload C dX0_moveList_122 rfl ?_
        refine ph_iconst C dX0_moveList_124 ?_
        refine ph_idiv C dX0_moveList_125 (by omega) (by omega) (by decide) (by decide) ?_
        refine lX11 C (by omega) (by omega) dX0_moveList_126 ?_
        refine ph_imul C dX0_moveList_127 ?_
        refine ph_iload C dX0_moveList_128 rfl ?_
        refine ph_iconst C dX0_moveList_130 ?_
        refine ph_irem C dX0_moveList_131 (by omega) (by omega) (by decide) (by decide) ?_
        refine ph_iadd C dX0_moveList_132 ?_
        refine ph_top (y := iI (mlP S k)) (by first | rw [mlP_r (by omega)] | rw [mlP_o (by omega)]) ?_
        refine ph_i2b C dX0_moveList_133 (by omega) (by omega) ?_
        refine sX5 C (by omega) (by omega) (by omega) dX0_moveList_134 ?_
        exact second b b2 hk0 hb2
      · refine ph_iload C dX0_moveList_112 rfl ?_
        refine ph_goto C 133 dX0_moveList_114 (by decide) ?_
        refine ph_top (y := iI (mlP S k)) (by first | rw [mlP_r (by omega)] | rw [mlP_o (by omega)]) ?_
        refine ph_i2b C dX0_moveList_133 (by omega) (by omega) ?_
        refine sX5 C (by omega) (by omega) (by omega) dX0_moveList_134 ?_
        exact second b b2 hk0 hb2
    have third : ∀ (b : Int), mlK S k → ((b = 1 ∧ 96 ≤ S 5 k) ∨ (b = 0 ∧ S 5 k < 96)) → ph_V shX Γ h ad post S 73 [.ref h, .int (iI o), .int (iI c), .int (iI k), .int (iI (S 5 k)), .int (iI b)] [] := by
      intro b hk0 hb
      refine ph_iload C dX0_moveList_73 rfl ?_
      refine ph_if_ne C 86 dX0_moveList_75 (by decide) ⟨by omega, by omega⟩ (fun c_75 => ?_) (fun c_75 => ?_)
      · refine ph_iconst C dX0_moveList_86 ?_
        refine ph_goto C 91 dX0_moveList_87 (by decide) ?_
        exact first_ b _ hk0 hb (by omega)
      · refine ph_iload C dX0_moveList_78 rfl ?_
        refine ph_iconst C dX0_moveList_80 ?_
        refine ph_irem C dX0_moveList_81 (by omega) (by omega) (by decide) (by decide) ?_
        refine ph_iconst C dX0_moveList_82 ?_
        refine ph_icmp_eq C 90 dX0_moveList_83 (by decide) ⟨by omega, by omega⟩ ⟨by omega, by omega⟩ (fun c_83 => ?_) (fun c_83 => ?_)
        · refine ph_iconst C dX0_moveList_90 ?_
          exact first_ b _ hk0 hb (by omega)
        · refine ph_iconst C dX0_moveList_86 ?_
          refine ph_goto C 91 dX0_moveList_87 (by decide) ?_
          exact first_ b _ hk0 hb (by omega)
    refine ph_iload_n C dX0_moveList_10 rfl ?_
    refine ph_bipush C dX0_moveList_11 (by decide) ?_
    refine ph_aload C dX0_moveList_13 rfl ?_
    refine gX0 C dX0_moveList_14 ?_
    refine ph_imul C dX0_moveList_17 ?_
    refine ph_aload C dX0_moveList_18 rfl ?_
    refine gX4 C dX0_moveList_19 ?_
    refine ph_aload C dX0_moveList_22 rfl ?_
    refine gX0 C dX0_moveList_23 ?_
    refine lX4 C (by omega) (by omega) dX0_moveList_26 ?_
    refine ph_iadd C dX0_moveList_27 ?_
    refine ph_icmp_ge C 185 dX0_moveList_28 (by decide) ⟨by omega, by omega⟩ ⟨by omega, by omega⟩ (fun c_28 => ?_) (fun c_28 => ?_)
    · exact absurd c_28 (by omega)
    · refine ph_aload C dX0_moveList_31 rfl ?_
      refine gX5 C dX0_moveList_32 ?_
      refine ph_iload_n C dX0_moveList_35 rfl ?_
      refine lX5 C (by omega) (by omega) dX0_moveList_36 ?_
      refine ph_istore (L' := [_, _, _, _, _]) C dX0_moveList_37 (by decide) (Nat.le_of_ble_eq_true rfl) rfl ?_
      refine ph_iload C dX0_moveList_39 rfl ?_
      refine ph_bipush C dX0_moveList_41 (by decide) ?_
      refine ph_icmp_lt C 50 dX0_moveList_43 (by decide) ⟨by omega, by omega⟩ ⟨by omega, by omega⟩ (fun c_43 => ?_) (fun c_43 => ?_)
      · refine ph_iconst C dX0_moveList_50 ?_
        refine ph_istore (L' := [_, _, _, _, _, _]) C dX0_moveList_51 (by decide) (Nat.le_of_ble_eq_true rfl) rfl ?_
        refine ph_iload C dX0_moveList_53 rfl ?_
        refine ph_if_ne C 73 dX0_moveList_55 (by decide) ⟨by omega, by omega⟩ (fun c_55 => ?_) (fun c_55 => ?_)
        · exact third _ (by first | exact Or.inl (by omega) | exact Or.inr (by omega)) (by omega)
        · have b11 := hW.1.r11 (i := S 5 k / 3) (by omega) (by omega)
          refine ph_aload C dX0_moveList_58 rfl ?_
          refine gX11 C dX0_moveList_59 ?_
          refine ph_iload C dX0_moveList_62 rfl ?_
          refine ph_iconst C dX0_moveList_64 ?_
          refine ph_idiv C dX0_moveList_65 (by omega) (by omega) (by decide) (by decide) ?_
          refine lX11 C (by omega) (by omega) dX0_moveList_66 ?_
          refine ph_if_ge C 73 dX0_moveList_67 (by decide) ⟨by omega, by omega⟩ (fun c_67 => ?_) (fun c_67 => ?_)
          · exact third _ (by first | exact Or.inl (by omega) | exact Or.inr (by omega)) (by omega)
          · refine ph_goto C 179 dX0_moveList_70 (by decide) ?_
            exact skip _ (fun w => by rcases w with w | w <;> omega)
      · refine ph_iconst C dX0_moveList_46 ?_
        refine ph_goto C 51 dX0_moveList_47 (by decide) ?_
        refine ph_istore (L' := [_, _, _, _, _, _]) C dX0_moveList_51 (by decide) (Nat.le_of_ble_eq_true rfl) rfl ?_
        refine ph_iload C dX0_moveList_53 rfl ?_
        refine ph_if_ne C 73 dX0_moveList_55 (by decide) ⟨by omega, by omega⟩ (fun c_55 => ?_) (fun c_55 => ?_)
        · exact third _ (by first | exact Or.inl (by omega) | exact Or.inr (by omega)) (by omega)
        · have b11 := hW.1.r11 (i := S 5 k / 3) (by omega) (by omega)
          refine ph_aload C dX0_moveList_58 rfl ?_
          refine gX11 C dX0_moveList_59 ?_
          refine ph_iload C dX0_moveList_62 rfl ?_
          refine ph_iconst C dX0_moveList_64 ?_
          refine ph_idiv C dX0_moveList_65 (by omega) (by omega) (by decide) (by decide) ?_
          refine lX11 C (by omega) (by omega) dX0_moveList_66 ?_
          refine ph_if_ge C 73 dX0_moveList_67 (by decide) ⟨by omega, by omega⟩ (fun c_67 => ?_) (fun c_67 => ?_)
          · exact third _ (by first | exact Or.inl (by omega) | exact Or.inr (by omega)) (by omega)
          · refine ph_goto C 179 dX0_moveList_70 (by decide) ?_
            exact skip _ (fun w => by rcases w with w | w <;> omega)
noncomputable def mlAll (S : St) : St := wr (mlF (1 - S 0 0) (S 4 (S 0 0)).toNat (99 * S 0 0) 0 S).2 4 (1 - S 0 0) (mlF (1 - S 0 0) (S 4 (S 0 0)).toNat (99 * S 0 0) 0 S).1
theorem cX_moveList {S : St} (hW : WI S) : ph_M shX yX0_moveList cX0_moveList 8 none 0 [.int (iI (1 - S 0 0))] S (fun r u => r = none ∧ mlAll S = u) := by
  have b0 := hW.1.r0
  have b4 := hW.1.r4 (i := S 0 0) (by omega) (by omega)
  refine ph_of shX_ok plX rfl cat1 (Nat.le_of_ble_eq_true rfl) (fun Γ h ad C => ?_)
  refine ph_iconst C dX0_moveList_0 ?_
  refine ph_istore_n (L' := [_, _, _]) C dX0_moveList_1 (by decide) (Nat.le_of_ble_eq_true rfl) rfl ?_
  refine ph_bipush C dX0_moveList_2 (by decide) ?_
  refine ph_aload C dX0_moveList_4 rfl ?_
  refine gX0 C dX0_moveList_5 ?_
  refine ph_imul C dX0_moveList_8 ?_
  refine ph_istore_n (L' := [_, _, _, _]) C dX0_moveList_9 (by decide) (Nat.le_of_ble_eq_true rfl) rfl ?_
  exact ml_loop C _ (by omega) (S 4 (S 0 0)).toNat _ _ S hW (by omega) (by omega) (by omega) (by omega) ⟨rfl, rfl⟩
end
section
set_option maxRecDepth 100000
/-! the phases of a move; o: the other half -/
def f1 (o r : Int) (S : St) : St := wr (mvF S (S 3 (3 * S 0 0 + r))) 3 (3 * o + r) (mvV S (S 3 (3 * S 0 0 + r)))
def f2 (g : Int) (S : St) : St := mvF S (S 7 g)
def f3 (k : Int) (S : St) : St := if 96 ≤ S 5 k then mvF S (S 6 k) else S
theorem f3_y {k : Int} {S : St} (h : 96 ≤ S 5 k) : f3 k S = mvF S (S 6 k) := by unfold f3; rw [if_pos h]
theorem f3_n {k : Int} {S : St} (h : S 5 k < 96) : f3 k S = S := by unfold f3; rw [if_neg (by omega)]
/-- a field of an object that has come, translated -/
def ff (a : Int) (S : St) : St := wr (mvF S (S 1 a)) 1 a (mvV S (S 1 a))
def f4 (o i : Int) (S : St) : St := moF (ff (2 * (32 * o + i) + 1) (ff (2 * (32 * o + i)) S)) (ff (2 * (32 * o + i) + 1) (ff (2 * (32 * o + i)) S) 12 i)
def mvL (o : Int) : Nat → Int → St → St
  | 0, _, S => S
  | n + 1, i, S => if i < S 13 0 then mvL o n (i + 1) (f4 o i S) else S
theorem mvL_y {o i : Int} {n : Nat} {S : St} (h : i < S 13 0) : mvL o (n + 1) i S = mvL o n (i + 1) (f4 o i S) := by
  show (if i < S 13 0 then _ else _) = _
  rw [if_pos h]
theorem mvL_n {o i : Int} {n : Nat} {S : St} (h : S 13 0 ≤ i) : mvL o (n + 1) i S = S := by
  show (if i < S 13 0 then _ else _) = _
  rw [if_neg (by omega)]
theorem WI.put {S : St} (h : WI S) {k : Nat} {i z : Int} (h0 : loX k ≤ z) (h1 : z ≤ hiX k) (h5 : 5 ≠ k) (h6 : 6 ≠ k) (h13 : 13 ≠ k) (h14 : 14 ≠ k) : WI (wr S k i z) := ⟨h.1.put h0 h1, h.2.1.put h5 h6, by rw [wr_k h13, wr_k h14]; exact h.2.2⟩
theorem f1_ok {S : St} (h : WI S) {o r : Int} (h0 : 0 ≤ r) (h1 : r < 3) : WI (f1 o r S) := by
  have b0 := h.1.r0
  have b3 := h.1.r3 (i := 3 * S 0 0 + r) (by omega) (by omega)
  have b := mvV_ok h b3.2
  exact (mvF_ok h b3.2).put b.1 b.2 (by decide) (by decide) (by decide) (by decide)
theorem f2_ok {S : St} (h : WI S) {g : Int} (h0 : 0 ≤ g) (h1 : g < 4) : WI (f2 g S) := mvF_ok h (h.1.r7 h0 h1).2
theorem f3_ok {S : St} (h : WI S) {k : Int} (h0 : 0 ≤ k) (h1 : k < 198) : WI (f3 k S) := by
  by_cases hc : 96 ≤ S 5 k
  · rw [f3_y hc]; exact mvF_ok h (h.2.1 k h0 h1 (Or.inl hc)).2
  · rw [f3_n (by omega)]; exact h
theorem ff_ok {S : St} (h : WI S) {a : Int} (h0 : 0 ≤ a) (h1 : a < 128) : WI (ff a S) := by
  have b1 := h.1.r1 h0 h1
  have b := mvV_ok h b1.2
  exact (mvF_ok h b1.2).put b.1 b.2 (by decide) (by decide) (by decide) (by decide)
theorem f4_ok {S : St} (h : WI S) {o i : Int} (ho : 0 ≤ o ∧ o ≤ 1) (h0 : 0 ≤ i) (h1 : i < 32) : WI (f4 o i S) := moF_ok (ff_ok (ff_ok h (by omega) (by omega)) (by omega) (by omega))
theorem f1_k {S : St} {o r i : Int} {k : Nat} (h : k ≠ 1 ∧ k ≠ 2 ∧ k ≠ 11 ∧ k ≠ 12 ∧ k ≠ 13) (h3 : k ≠ 3) : f1 o r S k i = S k i := by
  unfold f1
  rw [wr_k h3, mvF_k h]
theorem f2_k {S : St} {g i : Int} {k : Nat} (h : k ≠ 1 ∧ k ≠ 2 ∧ k ≠ 11 ∧ k ≠ 12 ∧ k ≠ 13) : f2 g S k i = S k i := mvF_k h
theorem f3_k {S : St} {g i : Int} {k : Nat} (h : k ≠ 1 ∧ k ≠ 2 ∧ k ≠ 11 ∧ k ≠ 12 ∧ k ≠ 13) : f3 g S k i = S k i := by
  unfold f3
  split
  · exact mvF_k h
  · rfl
theorem ff_k {S : St} {a i : Int} {k : Nat} (h : k ≠ 1 ∧ k ≠ 2 ∧ k ≠ 11 ∧ k ≠ 12 ∧ k ≠ 13) : ff a S k i = S k i := by
  unfold ff
  rw [wr_k h.1, mvF_k h]
theorem f4_k {S : St} {o a i : Int} {k : Nat} (h : k ≠ 1 ∧ k ≠ 2 ∧ k ≠ 11 ∧ k ≠ 12 ∧ k ≠ 13) : f4 o a S k i = S k i := by
  unfold f4
  rw [moF_k h, ff_k h, ff_k h]
theorem mvL_k {o : Int} {k : Nat} (h : k ≠ 1 ∧ k ≠ 2 ∧ k ≠ 11 ∧ k ≠ 12 ∧ k ≠ 13) {j : Int} : ∀ (n : Nat) (i : Int) (S : St), mvL o n i S k j = S k j
  | 0, _, _ => rfl
  | n + 1, i, S => by
    by_cases hc : i < S 13 0
    · rw [mvL_y hc, mvL_k h n, f4_k h]
    · rw [mvL_n (by omega)]
theorem mvL_ok {o : Int} (ho : 0 ≤ o ∧ o ≤ 1) : ∀ (n : Nat) (i : Int) (S : St), 0 ≤ i → WI S → WI (mvL o n i S)
  | 0, _, _, _, h => h
  | n + 1, i, S, h0, h => by
    by_cases hc : i < S 13 0
    · have b := h.1.r13
      rw [mvL_y hc]
      exact mvL_ok ho n _ _ (by omega) (f4_ok h ho h0 (by omega))
    · rw [mvL_n (by omega)]
      exact h
def mv0 (S : St) (lim : Int) : St := mp (wr (wr S 13 0 0) 14 0 lim) 11 32 (fun _ => -1)
def mv1 (S : St) (lim : Int) : St := itF (f1 (1 - S 0 0)) 3 0 (mv0 S lim)
def mv2 (S : St) (lim : Int) : St := itF f2 4 0 (mv1 S lim)
def mv3 (S : St) (lim : Int) : St := itF f3 (S 4 (S 0 0)).toNat (99 * S 0 0) (mv2 S lim)
def mv4 (S : St) (lim : Int) : St := mvL (1 - S 0 0) 33 0 (mv3 S lim)
noncomputable def moveF (S : St) (lim : Int) : St := mlAll (mv4 S lim)
theorem mv0_k {S : St} {lim i : Int} {k : Nat} (h : k ≠ 11 ∧ k ≠ 13 ∧ k ≠ 14) : mv0 S lim k i = S k i := by
  unfold mv0
  rw [mp_k h.1, wr_k h.2.2, wr_k h.2.1]
theorem mv1_k {S : St} {lim i : Int} {k : Nat} (h : k ≠ 1 ∧ k ≠ 2 ∧ k ≠ 11 ∧ k ≠ 12 ∧ k ≠ 13) (h3 : k ≠ 3 ∧ k ≠ 14) : mv1 S lim k i = S k i := (itF_k (fun _ _ => f1_k h h3.1) _ _ _).trans (mv0_k ⟨h.2.2.1, h.2.2.2.2, h3.2⟩)
theorem mv2_k {S : St} {lim i : Int} {k : Nat} (h : k ≠ 1 ∧ k ≠ 2 ∧ k ≠ 11 ∧ k ≠ 12 ∧ k ≠ 13) (h3 : k ≠ 3 ∧ k ≠ 14) : mv2 S lim k i = S k i := (itF_k (fun _ _ => f2_k h) _ _ _).trans (mv1_k h h3)
theorem mv3_k {S : St} {lim i : Int} {k : Nat} (h : k ≠ 1 ∧ k ≠ 2 ∧ k ≠ 11 ∧ k ≠ 12 ∧ k ≠ 13) (h3 : k ≠ 3 ∧ k ≠ 14) : mv3 S lim k i = S k i := (itF_k (fun _ _ => f3_k h) _ _ _).trans (mv2_k h h3)
theorem mv4_k {S : St} {lim i : Int} {k : Nat} (h : k ≠ 1 ∧ k ≠ 2 ∧ k ≠ 11 ∧ k ≠ 12 ∧ k ≠ 13) (h3 : k ≠ 3 ∧ k ≠ 14) : mv4 S lim k i = S k i := (mvL_k h _ _ _).trans (mv3_k h h3)
theorem mv0_ok {S : St} (hR : Rg S) (hF : Rf S) {lim : Int} (h0 : 0 ≤ lim) (h1 : lim ≤ 32) : WI (mv0 S lim) := by
  refine ⟨((hR.put (by decide) (by decide)).put (k := 14) h0 h1).fill (fun _ _ _ => ⟨by decide, by decide⟩), ((hF.put (by decide) (by decide)).put (by decide) (by decide)).fill (by decide) (by decide), ?_⟩
  unfold mv0
  rw [mp_k (by decide), mp_k (by decide), wr_s, wr_k (by decide), wr_s]
  exact h0
theorem mv1_ok {S : St} (hR : Rg S) (hF : Rf S) {lim : Int} (h0 : 0 ≤ lim) (h1 : lim ≤ 32) : WI (mv1 S lim) := itF_inv (I := WI) (a := 0) (b := 3) (fun j T h1 h2 hT => f1_ok hT h1 h2) _ _ _ (by omega) (by omega) (mv0_ok hR hF h0 h1)
theorem mv2_ok {S : St} (hR : Rg S) (hF : Rf S) {lim : Int} (h0 : 0 ≤ lim) (h1 : lim ≤ 32) : WI (mv2 S lim) := itF_inv (I := WI) (a := 0) (b := 4) (fun j T h1 h2 hT => f2_ok hT h1 h2) _ _ _ (by omega) (by omega) (mv1_ok hR hF h0 h1)
theorem mv3_ok {S : St} (hR : Rg S) (hF : Rf S) {lim : Int} (h0 : 0 ≤ lim) (h1 : lim ≤ 32) : WI (mv3 S lim) := by
  have b0 := hR.r0
  have b4 := hR.r4 (i := S 0 0) (by omega) (by omega)
  exact itF_inv (I := WI) (a := 0) (b := 198) (fun j T h1 h2 hT => f3_ok hT h1 h2) _ _ _ (by omega) (by omega) (mv2_ok hR hF h0 h1)
theorem mv4_ok {S : St} (hR : Rg S) (hF : Rf S) {lim : Int} (h0 : 0 ≤ lim) (h1 : lim ≤ 32) : WI (mv4 S lim) := by
  have b0 := hR.r0
  exact mvL_ok (by omega) _ _ _ (by omega) (mv3_ok hR hF h0 h1)
theorem mlF_ok (o : Int) : ∀ (n : Nat) (k c : Int) (S : St), 0 ≤ k → k + n ≤ 198 → 0 ≤ c → WI S → WI (mlF o n k c S).2 ∧ c ≤ (mlF o n k c S).1 ∧ (mlF o n k c S).1 ≤ c + n ∧ ∀ (r : Nat) (i : Int), r ≠ 5 → r ≠ 6 → (mlF o n k c S).2 r i = S r i
  | 0, _, c, _, _, _, _, h => ⟨h, Int.le_refl c, (by show c ≤ c + ((0 : Nat) : Int); omega), fun _ _ _ _ => rfl⟩
  | n + 1, k, c, S, h0, h1, h2, h => by
    rcases Classical.em (mlK S k) with hk | hk
    · rw [mlF_y hk]
      obtain ⟨a1, a2, a3, a4⟩ := mlF_ok o n (k + 1) (c + 1) (mlB o c k S) (by omega) (by omega) (by omega) (mlB_ok h h0 (by omega) hk)
      exact ⟨a1, by omega, by omega, fun r i h5 h6 => (a4 r i h5 h6).trans (mlB_k ⟨h5, h6⟩)⟩
    · rw [mlF_n hk]
      obtain ⟨a1, a2, a3, a4⟩ := mlF_ok o n (k + 1) c S (by omega) (by omega) (by omega) h
      exact ⟨a1, by omega, by omega, a4⟩
theorem mlAll_ok {S : St} (h : WI S) : WI (mlAll S) := by
  have b0 := h.1.r0
  have b4 := h.1.r4 (i := S 0 0) (by omega) (by omega)
  obtain ⟨a1, a2, a3, a4⟩ := mlF_ok (1 - S 0 0) (S 4 (S 0 0)).toNat (99 * S 0 0) 0 S (by omega) (by omega) (by omega) h
  unfold mlAll
  exact a1.put (k := 4) (show 0 ≤ _ by omega) (show _ ≤ 99 by omega) (by decide) (by decide) (by decide) (by decide)
theorem moveF_ok {S : St} (hR : Rg S) (hF : Rf S) {lim : Int} (h0 : 0 ≤ lim) (h1 : lim ≤ 32) : WI (moveF S lim) := mlAll_ok (mv4_ok hR hF h0 h1)
theorem mv_l0 {Γ : Cx} {h : Nat} {ad : Nat → Nat} {post : Option Value → St → Prop} {S : St} (C : ph_C shX Γ h ad cX0_move 5 none 2) (lim : Int) (kk : ph_V shX Γ h ad post (mp S 11 32 (fun _ => -1)) 31 [.ref h, .int (iI lim), .int (iI 32)] []) : ∀ (n : Nat) (i : Int), i + n = 32 → 0 ≤ i → ph_V shX Γ h ad post (mp S 11 i (fun _ => -1)) 12 [.ref h, .int (iI lim), .int (iI i)] [] := by
  intro n
  induction n with
  | zero =>
    intro i hi h0
    obtain rfl : i = 32 := by omega
    refine ph_iload_n C dX0_move_12 rfl ?_
    refine ph_bipush C dX0_move_13 (by decide) ?_
    refine ph_icmp_ge C 31 dX0_move_15 (by decide) ⟨by omega, by omega⟩ ⟨by omega, by omega⟩ (fun c_15 => ?_) (fun c_15 => ?_)
    · exact kk
    · exact absurd c_15 (by omega)
  | succ n ih =>
    intro i hi h0
    refine ph_iload_n C dX0_move_12 rfl ?_
    refine ph_bipush C dX0_move_13 (by decide) ?_
    refine ph_icmp_ge C 31 dX0_move_15 (by decide) ⟨by omega, by omega⟩ ⟨by omega, by omega⟩ (fun c_15 => ?_) (fun c_15 => ?_)
    · exact absurd c_15 (by omega)
    · refine ph_aload C dX0_move_18 rfl ?_
      refine gX11 C dX0_move_19 ?_
      refine ph_iload_n C dX0_move_22 rfl ?_
      refine ph_iconst C dX0_move_23 ?_
      refine sX11 C (by omega) (by omega) (by omega) dX0_move_24 ?_
      refine ph_iinc (L' := [_, _, _]) C dX0_move_25 rfl (by decide) rfl ?_
      refine ph_goto C 12 dX0_move_28 (by decide) ?_
      rw [mp_s h0 rfl]
      exact ih (i + 1) (by omega) (by omega)
theorem mv_l1 {Γ : Cx} {h : Nat} {ad : Nat → Nat} {post : Option Value → St → Prop} (C : ph_C shX Γ h ad cX0_move 5 none 2) (lim o : Int) (ho : 0 ≤ o ∧ o ≤ 1) : ∀ (n : Nat) (i : Int) (S : St), WI S → i + n = 3 → 0 ≤ i → (ph_V shX Γ h ad post (itF (f1 o) n i S) 79 [.ref h, .int (iI lim), .int (iI o), .int (iI 3)] []) → ph_V shX Γ h ad post S 40 [.ref h, .int (iI lim), .int (iI o), .int (iI i)] [] := by
  intro n
  induction n with
  | zero =>
    intro i S hW hi h0 kk
    obtain rfl : i = 3 := by omega
    refine ph_iload_n C dX0_move_40 rfl ?_
    refine ph_iconst C dX0_move_41 ?_
    refine ph_icmp_ge C 79 dX0_move_42 (by decide) ⟨by omega, by omega⟩ ⟨by omega, by omega⟩ (fun c_42 => ?_) (fun c_42 => ?_)
    · exact kk
    · exact absurd c_42 (by omega)
  | succ n ih =>
    intro i S hW hi h0 kk
    have b0 := hW.1.r0
    have b3 := hW.1.r3 (i := 3 * S 0 0 + i) (by omega) (by omega)
    have bv := mvV_ok hW b3.2
    refine ph_iload_n C dX0_move_40 rfl ?_
    refine ph_iconst C dX0_move_41 ?_
    refine ph_icmp_ge C 79 dX0_move_42 (by decide) ⟨by omega, by omega⟩ ⟨by omega, by omega⟩ (fun c_42 => ?_) (fun c_42 => ?_)
    · exact absurd c_42 (by omega)
    · refine ph_aload C dX0_move_45 rfl ?_
      refine gX3 C dX0_move_46 ?_
      refine ph_iconst C dX0_move_49 ?_
      refine ph_iload_n C dX0_move_50 rfl ?_
      refine ph_imul C dX0_move_51 ?_
      refine ph_iload_n C dX0_move_52 rfl ?_
      refine ph_iadd C dX0_move_53 ?_
      refine ph_aload C dX0_move_54 rfl ?_
      refine ph_aload C dX0_move_55 rfl ?_
      refine gX3 C dX0_move_56 ?_
      refine ph_iconst C dX0_move_59 ?_
      refine ph_aload C dX0_move_60 rfl ?_
      refine gX0 C dX0_move_61 ?_
      refine ph_imul C dX0_move_64 ?_
      refine ph_iload_n C dX0_move_65 rfl ?_
      refine ph_iadd C dX0_move_66 ?_
      refine lX3 C (by omega) (by omega) dX0_move_67 ?_
      refine ph_call C (cX_moved hW b3.1 b3.2) kX_moved rfl rfl rfl (Nat.le_of_ble_eq_true rfl) dX0_move_68 (by decide) (by decide) (fun r_68 u_68 hp_68 => ?_)
      obtain ⟨rfl, rfl⟩ := hp_68
      dsimp only [Option.toList_some, Option.toList_none, List.cons_append, List.nil_append]
      refine ph_i2b C dX0_move_71 (by omega) (by omega) ?_
      refine sX3 C (by omega) (by omega) (by omega) dX0_move_72 ?_
      refine ph_iinc (L' := [_, _, _, _]) C dX0_move_73 rfl (by decide) rfl ?_
      refine ph_goto C 40 dX0_move_76 (by decide) ?_
      exact ih (i + 1) (f1 o i S) (f1_ok hW h0 (by omega)) (by omega) (by omega) kk
theorem mv_l2 {Γ : Cx} {h : Nat} {ad : Nat → Nat} {post : Option Value → St → Prop} (C : ph_C shX Γ h ad cX0_move 5 none 2) (lim o : Int) : ∀ (n : Nat) (i : Int) (S : St), WI S → i + n = 4 → 0 ≤ i → (ph_V shX Γ h ad post (itF f2 n i S) 103 [.ref h, .int (iI lim), .int (iI o), .int (iI 4)] []) → ph_V shX Γ h ad post S 81 [.ref h, .int (iI lim), .int (iI o), .int (iI i)] [] := by
  intro n
  induction n with
  | zero =>
    intro i S hW hi h0 kk
    obtain rfl : i = 4 := by omega
    refine ph_iload_n C dX0_move_81 rfl ?_
    refine ph_iconst C dX0_move_82 ?_
    refine ph_icmp_ge C 103 dX0_move_83 (by decide) ⟨by omega, by omega⟩ ⟨by omega, by omega⟩ (fun c_83 => ?_) (fun c_83 => ?_)
    · exact kk
    · exact absurd c_83 (by omega)
  | succ n ih =>
    intro i S hW hi h0 kk
    have b7 := hW.1.r7 (i := i) (by omega) (by omega)
    refine ph_iload_n C dX0_move_81 rfl ?_
    refine ph_iconst C dX0_move_82 ?_
    refine ph_icmp_ge C 103 dX0_move_83 (by decide) ⟨by omega, by omega⟩ ⟨by omega, by omega⟩ (fun c_83 => ?_) (fun c_83 => ?_)
    · exact absurd c_83 (by omega)
    · refine ph_aload C dX0_move_86 rfl ?_
      refine ph_aload C dX0_move_87 rfl ?_
      refine gX7 C dX0_move_88 ?_
      refine ph_iload_n C dX0_move_91 rfl ?_
      refine lX7 C (by omega) (by omega) dX0_move_92 ?_
      refine ph_call C (cX_moved hW b7.1 b7.2) kX_moved rfl rfl rfl (Nat.le_of_ble_eq_true rfl) dX0_move_93 (by decide) (by decide) (fun r_93 u_93 hp_93 => ?_)
      obtain ⟨rfl, rfl⟩ := hp_93
      dsimp only [Option.toList_some, Option.toList_none, List.cons_append, List.nil_append]
      refine ph_pop C dX0_move_96 ?_
      refine ph_iinc (L' := [_, _, _, _]) C dX0_move_97 rfl (by decide) rfl ?_
      refine ph_goto C 81 dX0_move_100 (by decide) ?_
      exact ih (i + 1) (f2 i S) (f2_ok hW h0 (by omega)) (by omega) (by omega) kk
theorem mv_l3 {Γ : Cx} {h : Nat} {ad : Nat → Nat} {post : Option Value → St → Prop} (C : ph_C shX Γ h ad cX0_move 5 none 2) (lim o : Int) : ∀ (n : Nat) (k : Int) (S : St), WI S → 99 * S 0 0 ≤ k → k + n = 99 * S 0 0 + S 4 (S 0 0) → (∀ j : Int, ph_V shX Γ h ad post (itF f3 n k S) 160 [.ref h, .int (iI lim), .int (iI o), .int (iI j)] []) → ph_V shX Γ h ad post S 111 [.ref h, .int (iI lim), .int (iI o), .int (iI k)] [] := by
  intro n
  induction n with
  | zero =>
    intro k S hW hk hn kk
    have b0 := hW.1.r0
    have b4 := hW.1.r4 (i := S 0 0) (by omega) (by omega)
    refine ph_iload_n C dX0_move_111 rfl ?_
    refine ph_bipush C dX0_move_112 (by decide) ?_
    refine ph_aload C dX0_move_114 rfl ?_
    refine gX0 C dX0_move_115 ?_
    refine ph_imul C dX0_move_118 ?_
    refine ph_aload C dX0_move_119 rfl ?_
    refine gX4 C dX0_move_120 ?_
    refine ph_aload C dX0_move_123 rfl ?_
    refine gX0 C dX0_move_124 ?_
    refine lX4 C (by omega) (by omega) dX0_move_127 ?_
    refine ph_iadd C dX0_move_128 ?_
    refine ph_icmp_ge C 160 dX0_move_129 (by decide) ⟨by omega, by omega⟩ ⟨by omega, by omega⟩ (fun c_129 => ?_) (fun c_129 => ?_)
    · exact kk k
    · exact absurd c_129 (by omega)
  | succ n ih =>
    intro k S hW hk hn kk
    have b0 := hW.1.r0
    have b4 := hW.1.r4 (i := S 0 0) (by omega) (by omega)
    have b5 := hW.1.r5 (i := k) (by omega) (by omega)
    have b6 := hW.2.1 k (by omega) (by omega)
    have e0 : f3 k S 0 0 = S 0 0 := f3_k (by decide)
    have e4 : ∀ i, f3 k S 4 i = S 4 i := fun i => f3_k (by decide)
    refine ph_iload_n C dX0_move_111 rfl ?_
    refine ph_bipush C dX0_move_112 (by decide) ?_
    refine ph_aload C dX0_move_114 rfl ?_
    refine gX0 C dX0_move_115 ?_
    refine ph_imul C dX0_move_118 ?_
    refine ph_aload C dX0_move_119 rfl ?_
    refine gX4 C dX0_move_120 ?_
    refine ph_aload C dX0_move_123 rfl ?_
    refine gX0 C dX0_move_124 ?_
    refine lX4 C (by omega) (by omega) dX0_move_127 ?_
    refine ph_iadd C dX0_move_128 ?_
    refine ph_icmp_ge C 160 dX0_move_129 (by decide) ⟨by omega, by omega⟩ ⟨by omega, by omega⟩ (fun c_129 => ?_) (fun c_129 => ?_)
    · exact absurd c_129 (by omega)
    · have nxt : ph_V shX Γ h ad post (f3 k S) 154 [.ref h, .int (iI lim), .int (iI o), .int (iI k)] [] := by
        refine ph_iinc (L' := [_, _, _, _]) C dX0_move_154 rfl (by decide) rfl ?_
        refine ph_goto C 111 dX0_move_157 (by decide) ?_
        exact ih (k + 1) (f3 k S) (f3_ok hW (by omega) (by omega)) (by rw [e0]; omega) (by rw [e0, e4]; omega) kk
      refine ph_aload C dX0_move_132 rfl ?_
      refine gX5 C dX0_move_133 ?_
      refine ph_iload_n C dX0_move_136 rfl ?_
      refine lX5 C (by omega) (by omega) dX0_move_137 ?_
      refine ph_bipush C dX0_move_138 (by decide) ?_
      refine ph_icmp_lt C 154 dX0_move_140 (by decide) ⟨by omega, by omega⟩ ⟨by omega, by omega⟩ (fun c_140 => ?_) (fun c_140 => ?_)
      · first | (rw [f3_n c_140] at nxt; exact nxt) | (rw [f3_y c_140] at nxt; exact nxt)
      · have b7 := b6 (Or.inl c_140)
        refine ph_aload C dX0_move_143 rfl ?_
        refine ph_aload C dX0_move_144 rfl ?_
        refine gX6 C dX0_move_145 ?_
        refine ph_iload_n C dX0_move_148 rfl ?_
        refine lX6 C (by omega) (by omega) dX0_move_149 ?_
        refine ph_call C (cX_moved hW b7.1 b7.2) kX_moved rfl rfl rfl (Nat.le_of_ble_eq_true rfl) dX0_move_150 (by decide) (by decide) (fun r_150 u_150 hp_150 => ?_)
        obtain ⟨rfl, rfl⟩ := hp_150
        dsimp only [Option.toList_some, Option.toList_none, List.cons_append, List.nil_append]
        refine ph_pop C dX0_move_153 ?_
        first | (rw [f3_n c_140] at nxt; exact nxt) | (rw [f3_y c_140] at nxt; exact nxt)
theorem mv_l4 {Γ : Cx} {h : Nat} {ad : Nat → Nat} {post : Option Value → St → Prop} (C : ph_C shX Γ h ad cX0_move 5 none 2) (lim o : Int) (ho : 0 ≤ o ∧ o ≤ 1) : ∀ (n : Nat) (i : Int) (S : St), WI S → 0 ≤ i → i + n = 33 → (∀ j : Int, ph_V shX Γ h ad post (mvL o n i S) 238 [.ref h, .int (iI lim), .int (iI o), .int (iI j)] []) → ph_V shX Γ h ad post S 162 [.ref h, .int (iI lim), .int (iI o), .int (iI i)] [] := by
  intro n
  induction n with
  | zero =>
    intro i S hW h0 hn kk
    have b13 := hW.1.r13
    refine ph_iload_n C dX0_move_162 rfl ?_
    refine ph_aload C dX0_move_163 rfl ?_
    refine gX13 C dX0_move_164 ?_
    refine ph_icmp_ge C 238 dX0_move_167 (by decide) ⟨by omega, by omega⟩ ⟨by omega, by omega⟩ (fun c_167 => ?_) (fun c_167 => ?_)
    · exact kk _
    · exact absurd c_167 (by omega)
  | succ n ih =>
    intro i S hW h0 hn kk
    have b13 := hW.1.r13
    refine ph_iload_n C dX0_move_162 rfl ?_
    refine ph_aload C dX0_move_163 rfl ?_
    refine gX13 C dX0_move_164 ?_
    refine ph_icmp_ge C 238 dX0_move_167 (by decide) ⟨by omega, by omega⟩ ⟨by omega, by omega⟩ (fun c_167 => ?_) (fun c_167 => ?_)
    · rw [mvL_n c_167] at kk
      exact kk _
    · have b1 := hW.1.r1 (i := 2 * (32 * o + i)) (by omega) (by omega)
      have bv := mvV_ok hW b1.2
      have hW1 := ff_ok hW (a := 2 * (32 * o + i)) (by omega) (by omega)
      have b2 := hW1.1.r1 (i := 2 * (32 * o + i) + 1) (by omega) (by omega)
      have bv2 := mvV_ok hW1 b2.2
      have hW2 := ff_ok hW1 (a := 2 * (32 * o + i) + 1) (by omega) (by omega)
      have b12 := hW2.1.r12 (i := i) h0 (by omega)
      refine ph_iconst C dX0_move_170 ?_
      refine ph_bipush C dX0_move_171 (by decide) ?_
      refine ph_iload_n C dX0_move_173 rfl ?_
      refine ph_imul C dX0_move_174 ?_
      refine ph_iload_n C dX0_move_175 rfl ?_
      refine ph_iadd C dX0_move_176 ?_
      refine ph_imul C dX0_move_177 ?_
      refine ph_istore (L' := [_, _, _, _, _]) C dX0_move_178 (by decide) (Nat.le_of_ble_eq_true rfl) rfl ?_
      refine ph_aload C dX0_move_180 rfl ?_
      refine gX1 C dX0_move_181 ?_
      refine ph_iload C dX0_move_184 rfl ?_
      refine ph_aload C dX0_move_186 rfl ?_
      refine ph_aload C dX0_move_187 rfl ?_
      refine gX1 C dX0_move_188 ?_
      refine ph_iload C dX0_move_191 rfl ?_
      refine lX1 C (by omega) (by omega) dX0_move_193 ?_
      refine ph_call C (cX_moved hW b1.1 b1.2) kX_moved rfl rfl rfl (Nat.le_of_ble_eq_true rfl) dX0_move_194 (by decide) (by decide) (fun r_194 u_194 hp_194 => ?_)
      obtain ⟨rfl, rfl⟩ := hp_194
      dsimp only [Option.toList_some, Option.toList_none, List.cons_append, List.nil_append]
      refine ph_i2b C dX0_move_197 (by omega) (by omega) ?_
      refine sX1 C (by omega) (by omega) (by omega) dX0_move_198 ?_
      refine ph_tab (show _ = ff (2 * (32 * o + i)) S from rfl) ?_
      refine ph_aload C dX0_move_199 rfl ?_
      refine gX1 C dX0_move_200 ?_
      refine ph_iload C dX0_move_203 rfl ?_
      refine ph_iconst C dX0_move_205 ?_
      refine ph_iadd C dX0_move_206 ?_
      refine ph_aload C dX0_move_207 rfl ?_
      refine ph_aload C dX0_move_208 rfl ?_
      refine gX1 C dX0_move_209 ?_
      refine ph_iload C dX0_move_212 rfl ?_
      refine ph_iconst C dX0_move_214 ?_
      refine ph_iadd C dX0_move_215 ?_
      refine lX1 C (by omega) (by omega) dX0_move_216 ?_
      refine ph_call C (cX_moved hW1 b2.1 b2.2) kX_moved rfl rfl rfl (Nat.le_of_ble_eq_true rfl) dX0_move_217 (by decide) (by decide) (fun r_217 u_217 hp_217 => ?_)
      obtain ⟨rfl, rfl⟩ := hp_217
      dsimp only [Option.toList_some, Option.toList_none, List.cons_append, List.nil_append]
      refine ph_i2b C dX0_move_220 (by omega) (by omega) ?_
      refine sX1 C (by omega) (by omega) (by omega) dX0_move_221 ?_
      refine ph_tab (show _ = ff (2 * (32 * o + i) + 1) (ff (2 * (32 * o + i)) S) from rfl) ?_
      refine ph_aload C dX0_move_222 rfl ?_
      refine ph_aload C dX0_move_223 rfl ?_
      refine gX12 C dX0_move_224 ?_
      refine ph_iload_n C dX0_move_227 rfl ?_
      refine lX12 C (by omega) (by omega) dX0_move_228 ?_
      refine ph_call C (cX_moveOldFields hW2 b12.1 b12.2) kX_moveOldFields rfl rfl rfl (Nat.le_of_ble_eq_true rfl) dX0_move_229 (by decide) (by decide) (fun r_229 u_229 hp_229 => ?_)
      obtain ⟨rfl, rfl⟩ := hp_229
      dsimp only [Option.toList_some, Option.toList_none, List.cons_append, List.nil_append]
      refine ph_iinc (L' := [_, _, _, _, _]) C dX0_move_232 rfl (by decide) rfl ?_
      refine ph_goto C 162 dX0_move_235 (by decide) ?_
      refine ph_drop (L' := [_, _, _, _]) (L'' := [_]) rfl ?_
      rw [mvL_y c_167] at kk
      exact ih (i + 1) (f4 o i S) (f4_ok hW ho h0 (by omega)) (by omega) (by omega) kk
theorem cX_move {S : St} (hR : Rg S) (hF : Rf S) {lim : Int} (h0 : 0 ≤ lim) (h1 : lim ≤ 32) : ph_M shX yX0_move cX0_move 5 none 2 [.int (iI lim)] S (fun r u => r = none ∧ moveF S lim = u) := by
  have b0 := hR.r0
  have b4 := hR.r4 (i := S 0 0) (by omega) (by omega)
  have a0 := mv0_ok hR hF h0 h1
  have a1 := mv1_ok hR hF h0 h1
  have a2 := mv2_ok hR hF h0 h1
  have a3 := mv3_ok hR hF h0 h1
  have a4 := mv4_ok hR hF h0 h1
  have e0 : mv0 S lim 0 0 = S 0 0 := mv0_k (by decide)
  have e2 : mv2 S lim 0 0 = S 0 0 := mv2_k (by decide) (by decide)
  have e24 : ∀ i, mv2 S lim 4 i = S 4 i := fun i => mv2_k (by decide) (by decide)
  have e4 : mv4 S lim 0 0 = S 0 0 := mv4_k (by decide) (by decide)
  refine ph_of shX_ok plX rfl cat1 (Nat.le_of_ble_eq_true rfl) (fun Γ h ad C => ?_)
  refine ph_aload C dX0_move_0 rfl ?_
  refine ph_iconst C dX0_move_1 ?_
  refine pX13 C dX0_move_2 ?_
  refine ph_aload C dX0_move_5 rfl ?_
  refine ph_iload_n C dX0_move_6 rfl ?_
  refine pX14 C dX0_move_7 ?_
  refine ph_iconst C dX0_move_10 ?_
  refine ph_istore_n (L' := [_, _, _]) C dX0_move_11 (by decide) (Nat.le_of_ble_eq_true rfl) rfl ?_
  refine ph_tab (mp_0 (k := 11) (f := fun _ => -1)).symm ?_
  refine mv_l0 C lim ?_ 32 0 (by omega) (by omega)
  refine ph_tab (show _ = mv0 S lim from rfl) ?_
  refine ph_iconst C dX0_move_31 ?_
  refine ph_aload C dX0_move_32 rfl ?_
  refine gX0 C dX0_move_33 ?_
  rw [e0]
  refine ph_isub C dX0_move_36 ?_
  refine ph_istore_n (L' := [_, _, _]) C dX0_move_37 (by decide) (Nat.le_of_ble_eq_true rfl) rfl ?_
  refine ph_iconst C dX0_move_38 ?_
  refine ph_istore_n (L' := [_, _, _, _]) C dX0_move_39 (by decide) (Nat.le_of_ble_eq_true rfl) rfl ?_
  refine mv_l1 C lim (1 - S 0 0) (by omega) 3 0 _ a0 (by omega) (by omega) ?_
  refine ph_tab (show _ = mv1 S lim from rfl) ?_
  refine ph_iconst C dX0_move_79 ?_
  refine ph_istore_n (L' := [_, _, _, _]) C dX0_move_80 (by decide) (Nat.le_of_ble_eq_true rfl) rfl ?_
  refine mv_l2 C lim (1 - S 0 0) 4 0 _ a1 (by omega) (by omega) ?_
  refine ph_tab (show _ = mv2 S lim from rfl) ?_
  refine ph_bipush C dX0_move_103 (by decide) ?_
  refine ph_aload C dX0_move_105 rfl ?_
  refine gX0 C dX0_move_106 ?_
  rw [e2]
  refine ph_imul C dX0_move_109 ?_
  refine ph_istore_n (L' := [_, _, _, _]) C dX0_move_110 (by decide) (Nat.le_of_ble_eq_true rfl) rfl ?_
  refine mv_l3 C lim (1 - S 0 0) (S 4 (S 0 0)).toNat _ _ a2 (by rw [e2]; omega) (by rw [e2, e24]; omega) (fun j3 => ?_)
  refine ph_tab (show _ = mv3 S lim from rfl) ?_
  refine ph_iconst C dX0_move_160 ?_
  refine ph_istore_n (L' := [_, _, _, _]) C dX0_move_161 (by decide) (Nat.le_of_ble_eq_true rfl) rfl ?_
  refine mv_l4 C lim (1 - S 0 0) (by omega) 33 0 _ a3 (by omega) (by omega) (fun j4 => ?_)
  refine ph_tab (show _ = mv4 S lim from rfl) ?_
  refine ph_aload C dX0_move_238 rfl ?_
  refine ph_iload_n C dX0_move_239 rfl ?_
  refine ph_call C (show ph_M shX yX0_moveList cX0_moveList 8 none 0 [.int (iI (1 - S 0 0))] (mv4 S lim) _ from e4 ▸ cX_moveList a4) kX_moveList rfl rfl rfl (Nat.le_of_ble_eq_true rfl) dX0_move_240 (by decide) (by decide) (fun r_240 u_240 hp_240 => ?_)
  obtain ⟨rfl, rfl⟩ := hp_240
  dsimp only [Option.toList_some, Option.toList_none, List.cons_append, List.nil_append]
  exact ph_vret C dX0_move_243 ⟨rfl, rfl⟩
end
section
set_option maxRecDepth 100000
theorem mp_skip {S : St} {k : Nat} {n : Int} {f : Int → Int} (h : 0 ≤ n) (hv : S k n = f n) : mp S k n f = mp S k (n + 1) f := by
  rw [← mp_s h rfl, wr_self]
  rw [mp_out (by omega), hv]
def rgF (S : St) (g : Int) : Int := if 0 ≤ S 7 g then S 11 (S 7 g) else S 7 g
theorem rgF_y {S : St} {g : Int} (h : 0 ≤ S 7 g) : rgF S g = S 11 (S 7 g) := by unfold rgF; rw [if_pos h]
theorem rgF_n {S : St} {g : Int} (h : S 7 g < 0) : rgF S g = S 7 g := by unfold rgF; rw [if_neg (by omega)]
def nwF (S : St) (i : Int) : Int := if i < S 13 0 ∧ ¬ S 15 (S 12 i) = 0 then 1 else 0
theorem nwF_y {S : St} {i : Int} (h : i < S 13 0) (h2 : ¬ S 15 (S 12 i) = 0) : nwF S i = 1 := by unfold nwF; rw [if_pos ⟨h, h2⟩]
theorem nwF_n {S : St} {i : Int} (h : S 13 0 ≤ i ∨ S 15 (S 12 i) = 0) : nwF S i = 0 := by unfold nwF; rw [if_neg (by omega)]
def lsB (k : Int) (S : St) : St := wr S 10 (S 5 k) 1
def st1 (S : St) : St := wr S 0 0 (1 - S 0 0)
def st2 (S : St) : St := mp (st1 S) 7 4 (rgF (st1 S))
def st3 (S : St) : St := mp (st2 S) 15 32 (st2 S 9)
def st4 (S : St) : St := mp (st3 S) 9 32 (nwF (st3 S))
def st5 (S : St) : St := mp (wr (st4 S) 8 0 (st4 S 13 0)) 10 99 (fun _ => 0)
def setF (S : St) : St := itF lsB (st5 S 4 (st5 S 0 0)).toNat (99 * st5 S 0 0) (st5 S)
theorem st1_ok {S : St} (hR : Rg S) : Rg (st1 S) := by
  have b0 := hR.r0
  exact hR.put (k := 0) (show 0 ≤ 1 - S 0 0 by omega) (show 1 - S 0 0 ≤ 1 by omega)
theorem rgF_ok {S : St} (hR : Rg S) {g : Int} (h0 : 0 ≤ g) (h1 : g < 4) : -1 ≤ rgF S g ∧ rgF S g ≤ 31 := by
  have b7 := hR.r7 h0 h1
  by_cases h : 0 ≤ S 7 g
  · rw [rgF_y h]; exact hR.r11 h (by omega)
  · rw [rgF_n (by omega)]; exact b7
theorem st2_ok {S : St} (hR : Rg S) : Rg (st2 S) := (st1_ok hR).fill (fun i h0 h1 => rgF_ok (st1_ok hR) h0 h1)
theorem st3_ok {S : St} (hR : Rg S) : Rg (st3 S) := (st2_ok hR).fill (fun i h0 h1 => (st2_ok hR).r9 h0 h1)
theorem nwF_ok (S : St) (i : Int) : 0 ≤ nwF S i ∧ nwF S i ≤ 1 := by
  unfold nwF
  split
  · exact ⟨by decide, by decide⟩
  · exact ⟨by decide, by decide⟩
theorem st4_ok {S : St} (hR : Rg S) : Rg (st4 S) := (st3_ok hR).fill (fun i _ _ => nwF_ok _ i)
theorem st5_ok {S : St} (hR : Rg S) : Rg (st5 S) := ((st4_ok hR).put (k := 8) (st4_ok hR).r13.1 (st4_ok hR).r13.2).fill (fun _ _ _ => ⟨by decide, by decide⟩)
theorem lsB_k {S : St} {j i : Int} {k : Nat} (h : k ≠ 10) : lsB j S k i = S k i := by unfold lsB; rw [wr_k h]
theorem setF_ok {S : St} (hR : Rg S) : Rg (setF S) := by
  have h5 := st5_ok hR
  have b0 := h5.r0
  have b4 := h5.r4 (i := st5 S 0 0) (by omega) (by omega)
  exact itF_inv (I := Rg) (a := 0) (b := 198) (fun j T h1 h2 hT => hT.put (by decide) (by decide)) _ _ _ (by omega) (by omega) h5
theorem se_l1 {Γ : Cx} {h : Nat} {ad : Nat → Nat} {post : Option Value → St → Prop} {S : St} (C : ph_C shX Γ h ad cX0_settle 2 none 1) (hR : Rg S) (kk : ph_V shX Γ h ad post (mp S 7 4 (rgF S)) 49 [.ref h, .int (iI 4)] []) : ∀ (n : Nat) (i : Int), i + n = 4 → 0 ≤ i → ph_V shX Γ h ad post (mp S 7 i (rgF S)) 12 [.ref h, .int (iI i)] [] := by
  intro n
  induction n with
  | zero =>
    intro i hi h0
    obtain rfl : i = 4 := by omega
    refine ph_iload_n C dX0_settle_12 rfl ?_
    refine ph_iconst C dX0_settle_13 ?_
    refine ph_icmp_ge C 49 dX0_settle_14 (by decide) ⟨by omega, by omega⟩ ⟨by omega, by omega⟩ (fun c_14 => ?_) (fun c_14 => ?_)
    · exact kk
    · exact absurd c_14 (by omega)
  | succ n ih =>
    intro i hi h0
    have b7 := hR.r7 (i := i) h0 (by omega)
    refine ph_iload_n C dX0_settle_12 rfl ?_
    refine ph_iconst C dX0_settle_13 ?_
    refine ph_icmp_ge C 49 dX0_settle_14 (by decide) ⟨by omega, by omega⟩ ⟨by omega, by omega⟩ (fun c_14 => ?_) (fun c_14 => ?_)
    · exact absurd c_14 (by omega)
    · have nxt : ph_V shX Γ h ad post (mp S 7 (i + 1) (rgF S)) 43 [.ref h, .int (iI i)] [] := by
        refine ph_iinc (L' := [_, _]) C dX0_settle_43 rfl (by decide) rfl ?_
        refine ph_goto C 12 dX0_settle_46 (by decide) ?_
        exact ih (i + 1) (by omega) (by omega)
      refine ph_aload C dX0_settle_17 rfl ?_
      refine gX7 C dX0_settle_18 ?_
      refine ph_iload_n C dX0_settle_21 rfl ?_
      refine lX7 C (by omega) (by omega) dX0_settle_22 ?_
      rw [mp_out (by omega)]
      refine ph_if_lt C 43 dX0_settle_23 (by decide) ⟨by omega, by omega⟩ (fun c_23 => ?_) (fun c_23 => ?_)
      · first | (rw [← mp_skip h0 (rgF_n c_23).symm] at nxt; exact nxt) | (rw [mp_s h0 (rgF_y c_23).symm]; exact nxt)
      · have b11 := hR.r11 (i := S 7 i) c_23 (by omega)
        refine ph_aload C dX0_settle_26 rfl ?_
        refine gX7 C dX0_settle_27 ?_
        refine ph_iload_n C dX0_settle_30 rfl ?_
        refine ph_aload C dX0_settle_31 rfl ?_
        refine gX11 C dX0_settle_32 ?_
        refine ph_aload C dX0_settle_35 rfl ?_
        refine gX7 C dX0_settle_36 ?_
        refine ph_iload_n C dX0_settle_39 rfl ?_
        refine lX7 C (by omega) (by omega) dX0_settle_40 ?_
        rw [mp_out (by omega)]
        refine lX11 C (by omega) (by omega) dX0_settle_41 ?_
        simp only [mp_k, ne_eq, reduceCtorEq, not_false_eq_true, Nat.reduceEqDiff]
        refine sX7 C (by omega) (by omega) (by omega) dX0_settle_42 ?_
        first | (rw [← mp_skip h0 (rgF_n c_23).symm] at nxt; exact nxt) | (rw [mp_s h0 (rgF_y c_23).symm]; exact nxt)
theorem se_l2 {Γ : Cx} {h : Nat} {ad : Nat → Nat} {post : Option Value → St → Prop} {S : St} (C : ph_C shX Γ h ad cX0_settle 2 none 1) (hR : Rg S) (kk : ph_V shX Γ h ad post (mp S 15 32 (S 9)) 75 [.ref h, .int (iI 32)] []) : ∀ (n : Nat) (i : Int), i + n = 32 → 0 ≤ i → ph_V shX Γ h ad post (mp S 15 i (S 9)) 51 [.ref h, .int (iI i)] [] := by
  intro n
  induction n with
  | zero =>
    intro i hi h0
    obtain rfl : i = 32 := by omega
    refine ph_iload_n C dX0_settle_51 rfl ?_
    refine ph_bipush C dX0_settle_52 (by decide) ?_
    refine ph_icmp_ge C 75 dX0_settle_54 (by decide) ⟨by omega, by omega⟩ ⟨by omega, by omega⟩ (fun c_54 => ?_) (fun c_54 => ?_)
    · exact kk
    · exact absurd c_54 (by omega)
  | succ n ih =>
    intro i hi h0
    have b9 := hR.r9 (i := i) h0 (by omega)
    refine ph_iload_n C dX0_settle_51 rfl ?_
    refine ph_bipush C dX0_settle_52 (by decide) ?_
    refine ph_icmp_ge C 75 dX0_settle_54 (by decide) ⟨by omega, by omega⟩ ⟨by omega, by omega⟩ (fun c_54 => ?_) (fun c_54 => ?_)
    · exact absurd c_54 (by omega)
    · refine ph_aload C dX0_settle_57 rfl ?_
      refine gX15 C dX0_settle_58 ?_
      refine ph_iload_n C dX0_settle_61 rfl ?_
      refine ph_aload C dX0_settle_62 rfl ?_
      refine gX9 C dX0_settle_63 ?_
      refine ph_iload_n C dX0_settle_66 rfl ?_
      refine lX9 C (by omega) (by omega) dX0_settle_67 ?_
      simp only [mp_k, ne_eq, reduceCtorEq, not_false_eq_true, Nat.reduceEqDiff]
      refine sX15 C (by omega) (by omega) (by omega) dX0_settle_68 ?_
      refine ph_iinc (L' := [_, _]) C dX0_settle_69 rfl (by decide) rfl ?_
      refine ph_goto C 51 dX0_settle_72 (by decide) ?_
      rw [mp_s h0 rfl]
      exact ih (i + 1) (by omega) (by omega)
theorem se_l3 {Γ : Cx} {h : Nat} {ad : Nat → Nat} {post : Option Value → St → Prop} {S : St} (C : ph_C shX Γ h ad cX0_settle 2 none 1) (hR : Rg S) (kk : ph_V shX Γ h ad post (mp S 9 32 (nwF S)) 122 [.ref h, .int (iI 32)] []) : ∀ (n : Nat) (i : Int), i + n = 32 → 0 ≤ i → ph_V shX Γ h ad post (mp S 9 i (nwF S)) 77 [.ref h, .int (iI i)] [] := by
  intro n
  induction n with
  | zero =>
    intro i hi h0
    obtain rfl : i = 32 := by omega
    refine ph_iload_n C dX0_settle_77 rfl ?_
    refine ph_bipush C dX0_settle_78 (by decide) ?_
    refine ph_icmp_ge C 122 dX0_settle_80 (by decide) ⟨by omega, by omega⟩ ⟨by omega, by omega⟩ (fun c_80 => ?_) (fun c_80 => ?_)
    · exact kk
    · exact absurd c_80 (by omega)
  | succ n ih =>
    intro i hi h0
    have b12 := hR.r12 (i := i) h0 (by omega)
    have b13 := hR.r13
    have b15 := hR.r15 (i := S 12 i) (by omega) (by omega)
    have bn := nwF_ok S i
    refine ph_iload_n C dX0_settle_77 rfl ?_
    refine ph_bipush C dX0_settle_78 (by decide) ?_
    refine ph_icmp_ge C 122 dX0_settle_80 (by decide) ⟨by omega, by omega⟩ ⟨by omega, by omega⟩ (fun c_80 => ?_) (fun c_80 => ?_)
    · exact absurd c_80 (by omega)
    · have nxt : ph_V shX Γ h ad post (mp S 9 i (nwF S)) 115 [.ref h, .int (iI i)] [.int (iI (nwF S i)), .int (iI i), .ref (ad 9)] := by
        refine sX9 C (by omega) (by omega) (by omega) dX0_settle_115 ?_
        refine ph_iinc (L' := [_, _]) C dX0_settle_116 rfl (by decide) rfl ?_
        refine ph_goto C 77 dX0_settle_119 (by decide) ?_
        rw [mp_s h0 rfl]
        exact ih (i + 1) (by omega) (by omega)
      refine ph_aload C dX0_settle_83 rfl ?_
      refine gX9 C dX0_settle_84 ?_
      refine ph_iload_n C dX0_settle_87 rfl ?_
      refine ph_iload_n C dX0_settle_88 rfl ?_
      refine ph_aload C dX0_settle_89 rfl ?_
      refine gX13 C dX0_settle_90 ?_
      simp only [mp_k, ne_eq, reduceCtorEq, not_false_eq_true, Nat.reduceEqDiff]
      refine ph_icmp_ge C 114 dX0_settle_93 (by decide) ⟨by omega, by omega⟩ ⟨by omega, by omega⟩ (fun c_93 => ?_) (fun c_93 => ?_)
      · refine ph_iconst C dX0_settle_114 ?_
        first | (rw [nwF_y (by omega) c_107] at nxt; exact nxt) | (rw [nwF_n (by omega)] at nxt; exact nxt)
      · refine ph_aload C dX0_settle_96 rfl ?_
        refine gX15 C dX0_settle_97 ?_
        refine ph_aload C dX0_settle_100 rfl ?_
        refine gX12 C dX0_settle_101 ?_
        refine ph_iload_n C dX0_settle_104 rfl ?_
        refine lX12 C (by omega) (by omega) dX0_settle_105 ?_
        simp only [mp_k, ne_eq, reduceCtorEq, not_false_eq_true, Nat.reduceEqDiff]
        refine lX15 C (by omega) (by omega) dX0_settle_106 ?_
        simp only [mp_k, ne_eq, reduceCtorEq, not_false_eq_true, Nat.reduceEqDiff]
        refine ph_if_eq C 114 dX0_settle_107 (by decide) ⟨by omega, by omega⟩ (fun c_107 => ?_) (fun c_107 => ?_)
        · refine ph_iconst C dX0_settle_114 ?_
          first | (rw [nwF_y (by omega) c_107] at nxt; exact nxt) | (rw [nwF_n (by omega)] at nxt; exact nxt)
        · refine ph_iconst C dX0_settle_110 ?_
          refine ph_goto C 115 dX0_settle_111 (by decide) ?_
          first | (rw [nwF_y (by omega) c_107] at nxt; exact nxt) | (rw [nwF_n (by omega)] at nxt; exact nxt)
theorem se_l4 {Γ : Cx} {h : Nat} {ad : Nat → Nat} {post : Option Value → St → Prop} (C : ph_C shX Γ h ad cX0_settle 2 none 1) : ∀ (n : Nat) (k : Int) (S : St), Rg S → 99 * S 0 0 ≤ k → k + n = 99 * S 0 0 + S 4 (S 0 0) → post none (itF lsB n k S) → ph_V shX Γ h ad post S 142 [.ref h, .int (iI k)] [] := by
  intro n
  induction n with
  | zero =>
    intro k S hR hk hn hp
    have b0 := hR.r0
    have b4 := hR.r4 (i := S 0 0) (by omega) (by omega)
    refine ph_iload_n C dX0_settle_142 rfl ?_
    refine ph_bipush C dX0_settle_143 (by decide) ?_
    refine ph_aload C dX0_settle_145 rfl ?_
    refine gX0 C dX0_settle_146 ?_
    refine ph_imul C dX0_settle_149 ?_
    refine ph_aload C dX0_settle_150 rfl ?_
    refine gX4 C dX0_settle_151 ?_
    refine ph_aload C dX0_settle_154 rfl ?_
    refine gX0 C dX0_settle_155 ?_
    refine lX4 C (by omega) (by omega) dX0_settle_158 ?_
    refine ph_iadd C dX0_settle_159 ?_
    refine ph_icmp_ge C 181 dX0_settle_160 (by decide) ⟨by omega, by omega⟩ ⟨by omega, by omega⟩ (fun c_160 => ?_) (fun c_160 => ?_)
    · exact ph_vret C dX0_settle_181 hp
    · exact absurd c_160 (by omega)
  | succ n ih =>
    intro k S hR hk hn hp
    have b0 := hR.r0
    have b4 := hR.r4 (i := S 0 0) (by omega) (by omega)
    have b5 := hR.r5 (i := k) (by omega) (by omega)
    have e0 : lsB k S 0 0 = S 0 0 := lsB_k (by decide)
    have e4 : ∀ i, lsB k S 4 i = S 4 i := fun i => lsB_k (by decide)
    refine ph_iload_n C dX0_settle_142 rfl ?_
    refine ph_bipush C dX0_settle_143 (by decide) ?_
    refine ph_aload C dX0_settle_145 rfl ?_
    refine gX0 C dX0_settle_146 ?_
    refine ph_imul C dX0_settle_149 ?_
    refine ph_aload C dX0_settle_150 rfl ?_
    refine gX4 C dX0_settle_151 ?_
    refine ph_aload C dX0_settle_154 rfl ?_
    refine gX0 C dX0_settle_155 ?_
    refine lX4 C (by omega) (by omega) dX0_settle_158 ?_
    refine ph_iadd C dX0_settle_159 ?_
    refine ph_icmp_ge C 181 dX0_settle_160 (by decide) ⟨by omega, by omega⟩ ⟨by omega, by omega⟩ (fun c_160 => ?_) (fun c_160 => ?_)
    · exact absurd c_160 (by omega)
    · refine ph_aload C dX0_settle_163 rfl ?_
      refine gX10 C dX0_settle_164 ?_
      refine ph_aload C dX0_settle_167 rfl ?_
      refine gX5 C dX0_settle_168 ?_
      refine ph_iload_n C dX0_settle_171 rfl ?_
      refine lX5 C (by omega) (by omega) dX0_settle_172 ?_
      refine ph_iconst C dX0_settle_173 ?_
      refine sX10 C (by omega) (by omega) (by omega) dX0_settle_174 ?_
      refine ph_iinc (L' := [_, _]) C dX0_settle_175 rfl (by decide) rfl ?_
      refine ph_goto C 142 dX0_settle_178 (by decide) ?_
      exact ih (k + 1) (lsB k S) (hR.put (by decide) (by decide)) (by rw [e0]; omega) (by rw [e0, e4]; omega) hp
theorem cX_settle {S : St} (hR : Rg S) : ph_M shX yX0_settle cX0_settle 2 none 1 [] S (fun r u => r = none ∧ setF S = u) := by
  have b0 := hR.r0
  have h5 := st5_ok hR
  have b50 := h5.r0
  have b54 := h5.r4 (i := st5 S 0 0) (by omega) (by omega)
  refine ph_of shX_ok plX rfl cat0 (Nat.le_of_ble_eq_true rfl) (fun Γ h ad C => ?_)
  refine ph_aload C dX0_settle_0 rfl ?_
  refine ph_iconst C dX0_settle_1 ?_
  refine ph_aload C dX0_settle_2 rfl ?_
  refine gX0 C dX0_settle_3 ?_
  refine ph_isub C dX0_settle_6 ?_
  refine pX0 C dX0_settle_7 ?_
  refine ph_iconst C dX0_settle_10 ?_
  refine ph_istore_n (L' := [_, _]) C dX0_settle_11 (by decide) (Nat.le_of_ble_eq_true rfl) rfl ?_
  refine ph_tab (show _ = st1 S from rfl) ?_
  refine ph_tab (mp_0 (k := 7) (f := rgF (st1 S))).symm ?_
  refine se_l1 C (st1_ok hR) ?_ 4 0 (by omega) (by omega)
  refine ph_tab (show _ = st2 S from rfl) ?_
  refine ph_iconst C dX0_settle_49 ?_
  refine ph_istore_n (L' := [_, _]) C dX0_settle_50 (by decide) (Nat.le_of_ble_eq_true rfl) rfl ?_
  refine ph_tab (mp_0 (k := 15) (f := st2 S 9)).symm ?_
  refine se_l2 C (st2_ok hR) ?_ 32 0 (by omega) (by omega)
  refine ph_tab (show _ = st3 S from rfl) ?_
  refine ph_iconst C dX0_settle_75 ?_
  refine ph_istore_n (L' := [_, _]) C dX0_settle_76 (by decide) (Nat.le_of_ble_eq_true rfl) rfl ?_
  refine ph_tab (mp_0 (k := 9) (f := nwF (st3 S))).symm ?_
  refine se_l3 C (st3_ok hR) ?_ 32 0 (by omega) (by omega)
  refine ph_tab (show _ = st4 S from rfl) ?_
  refine ph_aload C dX0_settle_122 rfl ?_
  refine ph_aload C dX0_settle_123 rfl ?_
  refine gX13 C dX0_settle_124 ?_
  refine pX8 C dX0_settle_127 ?_
  refine ph_aload C dX0_settle_130 rfl ?_
  refine ph_call C (cX_forgetListed _) kX_forgetListed rfl rfl rfl (Nat.le_of_ble_eq_true rfl) dX0_settle_131 (by decide) (by decide) (fun r_131 u_131 hp_131 => ?_)
  obtain ⟨rfl, rfl⟩ := hp_131
  dsimp only [Option.toList_some, Option.toList_none, List.cons_append, List.nil_append]
  refine ph_tab (show _ = st5 S from rfl) ?_
  refine ph_bipush C dX0_settle_134 (by decide) ?_
  refine ph_aload C dX0_settle_136 rfl ?_
  refine gX0 C dX0_settle_137 ?_
  refine ph_imul C dX0_settle_140 ?_
  refine ph_istore_n (L' := [_, _]) C dX0_settle_141 (by decide) (Nat.le_of_ble_eq_true rfl) rfl ?_
  exact se_l4 C (st5 S 4 (st5 S 0 0)).toNat _ _ h5 (by omega) (by omega) ⟨rfl, rfl⟩
noncomputable def collF (S : St) : St := setF (moveF S 32)
theorem collF_ok {S : St} (hR : Rg S) (hF : Rf S) : Rg (collF S) := setF_ok (moveF_ok hR hF (by decide) (by decide)).1
theorem cX_collect {S : St} (hR : Rg S) (hF : Rf S) : ph_M shX yX0_collect cX0_collect 1 (some .int) 3 [] S (fun r u => ∃ z : Int, r = some (.int (iI z)) ∧ collF S = u ∧ z = u 13 0) := by
  have h1 := moveF_ok hR hF (lim := 32) (by decide) (by decide)
  refine ph_of shX_ok plX rfl cat0 (Nat.le_of_ble_eq_true rfl) (fun Γ h ad C => ?_)
  refine ph_aload C dX0_collect_0 rfl ?_
  refine ph_bipush C dX0_collect_1 (by decide) ?_
  refine ph_call C (cX_move hR hF (by decide) (by decide)) kX_move rfl rfl rfl (Nat.le_of_ble_eq_true rfl) dX0_collect_3 (by decide) (by decide) (fun r_3 u_3 hp_3 => ?_)
  obtain ⟨rfl, rfl⟩ := hp_3
  dsimp only [Option.toList_some, Option.toList_none, List.cons_append, List.nil_append]
  refine ph_aload C dX0_collect_6 rfl ?_
  refine ph_call C (cX_settle h1.1) kX_settle rfl rfl rfl (Nat.le_of_ble_eq_true rfl) dX0_collect_7 (by decide) (by decide) (fun r_7 u_7 hp_7 => ?_)
  obtain ⟨rfl, rfl⟩ := hp_7
  dsimp only [Option.toList_some, Option.toList_none, List.cons_append, List.nil_append]
  refine ph_aload C dX0_collect_10 rfl ?_
  refine gX13 C dX0_collect_11 ?_
  exact ph_iret C dX0_collect_14 ⟨_, rfl, rfl, rfl⟩
theorem cc_t {Γ : Cx} {h : Nat} {ad : Nat → Nat} {post : Option Value → St → Prop} {S : St} (C : ph_C shX Γ h ad cX0_collectAndCrash 2 (some .int) 5) (hR : Rg S) (hF : Rf S) {w lim : Int} (h0 : 0 ≤ lim) (h1 : lim ≤ 32) (hp : ∀ (u : St) (z : Int), SA (moveF S lim) u → z = cP (Rd u) 32 → post (some (.int (iI z))) u) : ph_V shX Γ h ad post S 21 [.ref h, .int (iI w)] [.int (iI lim), .ref h] := by
  have a1 := moveF_ok hR hF h0 h1
  refine ph_call C (cX_move hR hF h0 h1) kX_move rfl rfl rfl (Nat.le_of_ble_eq_true rfl) dX0_collectAndCrash_21 (by decide) (by decide) (fun r_21 u_21 hp_21 => ?_)
  obtain ⟨rfl, rfl⟩ := hp_21
  dsimp only [Option.toList_some, Option.toList_none, List.cons_append, List.nil_append]
  refine ph_aload C dX0_collectAndCrash_24 rfl ?_
  refine ph_call C (cX_startAgain a1.1 a1.2.1) kX_startAgain rfl rfl rfl (Nat.le_of_ble_eq_true rfl) dX0_collectAndCrash_25 (by decide) (by decide) (fun r_25 u_25 hp_25 => ?_)
  obtain ⟨rfl, hsa⟩ := hp_25
  dsimp only [Option.toList_some, Option.toList_none, List.cons_append, List.nil_append]
  have hok := SA_ok a1.1 a1.2.1 hsa
  refine ph_aload C dX0_collectAndCrash_28 rfl ?_
  refine ph_call C (cX_fromRoots hok.1 hok.2) kX_fromRoots rfl rfl rfl (Nat.le_of_ble_eq_true rfl) dX0_collectAndCrash_29 (by decide) (by decide) (fun r_29 u_29 hp_29 => ?_)
  obtain ⟨z, rfl, rfl, hz⟩ := hp_29
  dsimp only [Option.toList_some, Option.toList_none, List.cons_append, List.nil_append]
  exact ph_iret C dX0_collectAndCrash_32 (hp _ _ hsa hz)
theorem cX_collectAndCrash {S : St} (hR : Rg S) (hF : Rf S) {w : Int} (hw : inI w) : ph_M shX yX0_collectAndCrash cX0_collectAndCrash 2 (some .int) 5 [.int (iI w)] S (fun r u => ∃ z lim : Int, r = some (.int (iI z)) ∧ 0 ≤ lim ∧ lim ≤ 24 ∧ SA (moveF S lim) u ∧ z = cP (Rd u) 32) := by
  have hw1 := hw.1
  have hw2 := hw.2
  refine ph_of shX_ok plX rfl cat1 (Nat.le_of_ble_eq_true rfl) (fun Γ h ad C => ?_)
  refine ph_aload C dX0_collectAndCrash_0 rfl ?_
  refine ph_iload_n C dX0_collectAndCrash_1 rfl ?_
  refine ph_if_ge C 9 dX0_collectAndCrash_2 (by decide) ⟨by omega, by omega⟩ (fun c_2 => ?_) (fun c_2 => ?_)
  · refine ph_iload_n C dX0_collectAndCrash_9 rfl ?_
    refine ph_bipush C dX0_collectAndCrash_10 (by decide) ?_
    refine ph_icmp_le C 20 dX0_collectAndCrash_12 (by decide) ⟨by omega, by omega⟩ ⟨by omega, by omega⟩ (fun c_12 => ?_) (fun c_12 => ?_)
    · refine ph_iload_n C dX0_collectAndCrash_20 rfl ?_
      exact cc_t C hR hF (by omega) (by omega) (fun u z hsa hz => ⟨z, _, rfl, by omega, by omega, hsa, hz⟩)
    · refine ph_bipush C dX0_collectAndCrash_15 (by decide) ?_
      refine ph_goto C 21 dX0_collectAndCrash_17 (by decide) ?_
      exact cc_t C hR hF (by omega) (by omega) (fun u z hsa hz => ⟨z, _, rfl, by omega, by omega, hsa, hz⟩)
  · refine ph_iconst C dX0_collectAndCrash_5 ?_
    refine ph_goto C 21 dX0_collectAndCrash_6 (by decide) ?_
    exact cc_t C hR hF (by omega) (by omega) (fun u z hsa hz => ⟨z, _, rfl, by omega, by omega, hsa, hz⟩)
def mkF (T : St) (g v : Int) : St := wr (wr (wr (wr (wr (wr T 8 0 (T 8 0 + 1)) 2 (32 * T 0 0 + T 8 0) v) 1 (2 * (32 * T 0 0 + T 8 0)) (-1)) 1 (2 * (32 * T 0 0 + T 8 0) + 1) (-1)) 9 (T 8 0) 1) 7 g (T 8 0)
theorem mk_t {Γ : Cx} {h : Nat} {ad : Nat → Nat} {post : Option Value → St → Prop} {S T : St} (C : ph_C shX Γ h ad cX0_make 5 (some .int) 4) (hR : Rg T) (hu : T 8 0 < 32) {g v w : Int} (h0 : 0 ≤ g) (h1 : g ≤ 3) (hp : post (some (.int (iI 0))) (mkF T g v)) (f : Int32) : ph_V shX Γ h ad post T 42 [.ref h, .int (iI g), .int (iI v), .int f] [] := by
  have b0 := hR.r0
  have b8 := hR.r8
  refine ph_aload C dX0_make_42 rfl ?_
  refine gX8 C dX0_make_43 ?_
  refine ph_istore (L' := [_, _, _, _, _]) C dX0_make_46 (by decide) (Nat.le_of_ble_eq_true rfl) rfl ?_
  refine ph_aload C dX0_make_48 rfl ?_
  refine ph_dupr C dX0_make_49 ?_
  refine gX8 C dX0_make_50 ?_
  refine ph_iconst C dX0_make_53 ?_
  refine ph_iadd C dX0_make_54 ?_
  refine pX8 C dX0_make_55 ?_
  refine ph_aload C dX0_make_58 rfl ?_
  refine gX2 C dX0_make_59 ?_
  refine ph_bipush C dX0_make_62 (by decide) ?_
  refine ph_aload C dX0_make_64 rfl ?_
  refine gX0 C dX0_make_65 ?_
  simp only [wr_k, ne_eq, reduceCtorEq, not_false_eq_true, Nat.reduceEqDiff]
  refine ph_imul C dX0_make_68 ?_
  refine ph_iload C dX0_make_69 rfl ?_
  refine ph_iadd C dX0_make_71 ?_
  refine ph_iload_n C dX0_make_72 rfl ?_
  refine sX2 C (by omega) (by omega) dX0_make_73 ?_
  refine ph_aload C dX0_make_74 rfl ?_
  refine gX1 C dX0_make_75 ?_
  refine ph_iconst C dX0_make_78 ?_
  refine ph_bipush C dX0_make_79 (by decide) ?_
  refine ph_aload C dX0_make_81 rfl ?_
  refine gX0 C dX0_make_82 ?_
  simp only [wr_k, ne_eq, reduceCtorEq, not_false_eq_true, Nat.reduceEqDiff]
  refine ph_imul C dX0_make_85 ?_
  refine ph_iload C dX0_make_86 rfl ?_
  refine ph_iadd C dX0_make_88 ?_
  refine ph_imul C dX0_make_89 ?_
  refine ph_iconst C dX0_make_90 ?_
  refine sX1 C (by omega) (by omega) (by omega) dX0_make_91 ?_
  refine ph_aload C dX0_make_92 rfl ?_
  refine gX1 C dX0_make_93 ?_
  refine ph_iconst C dX0_make_96 ?_
  refine ph_bipush C dX0_make_97 (by decide) ?_
  refine ph_aload C dX0_make_99 rfl ?_
  refine gX0 C dX0_make_100 ?_
  simp only [wr_k, ne_eq, reduceCtorEq, not_false_eq_true, Nat.reduceEqDiff]
  refine ph_imul C dX0_make_103 ?_
  refine ph_iload C dX0_make_104 rfl ?_
  refine ph_iadd C dX0_make_106 ?_
  refine ph_imul C dX0_make_107 ?_
  refine ph_iconst C dX0_make_108 ?_
  refine ph_iadd C dX0_make_109 ?_
  refine ph_iconst C dX0_make_110 ?_
  refine sX1 C (by omega) (by omega) (by omega) dX0_make_111 ?_
  refine ph_aload C dX0_make_112 rfl ?_
  refine gX9 C dX0_make_113 ?_
  refine ph_iload C dX0_make_116 rfl ?_
  refine ph_iconst C dX0_make_118 ?_
  refine sX9 C (by omega) (by omega) (by omega) dX0_make_119 ?_
  refine ph_aload C dX0_make_120 rfl ?_
  refine gX7 C dX0_make_121 ?_
  refine ph_iload_n C dX0_make_124 rfl ?_
  refine ph_iload C dX0_make_125 rfl ?_
  refine ph_i2b C dX0_make_127 (by omega) (by omega) ?_
  refine sX7 C (by omega) (by omega) (by omega) dX0_make_128 ?_
  refine ph_iconst C dX0_make_129 ?_
  exact ph_iret C dX0_make_130 hp
theorem cX_make {S : St} (hR : Rg S) (hF : Rf S) {g v : Int} (hg : inI g) (hC : cP (Nd S) 32 < 24 → S 8 0 = 32 → collF S 8 0 < 32) : ph_M shX yX0_make cX0_make 5 (some .int) 4 [.int (iI g), .int (iI v)] S (fun r u => ∃ z : Int, r = some (.int (iI z)) ∧ (((g < 0 ∨ 3 < g) ∧ z = -1 ∧ S = u) ∨ ((0 ≤ g ∧ g ≤ 3) ∧ 24 ≤ cP (Nd S) 32 ∧ z = -2 ∧ S = u) ∨ ((0 ≤ g ∧ g ≤ 3) ∧ cP (Nd S) 32 < 24 ∧ z = 0 ∧ ((S 8 0 = 32 ∧ mkF (collF S) g v = u) ∨ (S 8 0 < 32 ∧ mkF S g v = u))))) := by
  have hg1 := hg.1
  have hg2 := hg.2
  have b8 := hR.r8
  have hcl := cP_le (Nd S) 32
  refine ph_of shX_ok plX rfl cat2 (Nat.le_of_ble_eq_true rfl) (fun Γ h ad C => ?_)
  refine ph_aload C dX0_make_0 rfl ?_
  refine ph_iload_n C dX0_make_1 rfl ?_
  refine ph_call C (cX_isReg hg S) kX_isRegister rfl rfl rfl (Nat.le_of_ble_eq_true rfl) dX0_make_2 (by decide) (by decide) (fun r_2 u_2 hp_2 => ?_)
  obtain ⟨z1, rfl, rfl, hz1⟩ := hp_2
  dsimp only [Option.toList_some, Option.toList_none, List.cons_append, List.nil_append]
  refine ph_if_ne C 10 dX0_make_5 (by decide) ⟨by omega, by omega⟩ (fun c_5 => ?_) (fun c_5 => ?_)
  · refine ph_aload C dX0_make_10 rfl ?_
    refine ph_call C (cX_neededSet hR hF) kX_neededSet rfl rfl rfl (Nat.le_of_ble_eq_true rfl) dX0_make_11 (by decide) (by decide) (fun r_11 u_11 hp_11 => ?_)
    obtain ⟨f, rfl, rfl, hf⟩ := hp_11
    dsimp only [Option.toList_some, Option.toList_none, List.cons_append, List.nil_append]
    refine ph_istore_n (L' := [_, _, _, _]) C dX0_make_14 (by decide) (Nat.le_of_ble_eq_true rfl) rfl ?_
    refine ph_aload C dX0_make_15 rfl ?_
    refine ph_iload_n C dX0_make_16 rfl ?_
    refine ph_call C (cX_countOf f S) kX_countOf rfl rfl rfl (Nat.le_of_ble_eq_true rfl) dX0_make_17 (by decide) (by decide) (fun r_17 u_17 hp_17 => ?_)
    obtain ⟨z2, rfl, rfl, hz2⟩ := hp_17
    dsimp only [Option.toList_some, Option.toList_none, List.cons_append, List.nil_append]
    have hz2 : z2 = cP (Nd S) 32 := hz2.trans (cP_congr (fun j _ _ => hf j))
    refine ph_bipush C dX0_make_20 (by decide) ?_
    refine ph_icmp_lt C 28 dX0_make_22 (by decide) ⟨by omega, by omega⟩ ⟨by omega, by omega⟩ (fun c_22 => ?_) (fun c_22 => ?_)
    · refine ph_aload C dX0_make_28 rfl ?_
      refine gX8 C dX0_make_29 ?_
      refine ph_bipush C dX0_make_32 (by decide) ?_
      refine ph_icmp_ne C 42 dX0_make_34 (by decide) ⟨by omega, by omega⟩ ⟨by omega, by omega⟩ (fun c_34 => ?_) (fun c_34 => ?_)
      · first | exact mk_t (S := S) (w := 0) C hR (by omega) (by omega) (by omega) ⟨_, rfl, Or.inr (Or.inr ⟨by omega, by omega, rfl, Or.inr ⟨by omega, rfl⟩⟩)⟩ f | exact mk_t (S := S) (w := 0) C (collF_ok hR hF) (hC (by omega) (by omega)) (by omega) (by omega) ⟨_, rfl, Or.inr (Or.inr ⟨by omega, by omega, rfl, Or.inl ⟨by omega, rfl⟩⟩)⟩ f
      · refine ph_aload C dX0_make_37 rfl ?_
        refine ph_call C (cX_collect hR hF) kX_collect rfl rfl rfl (Nat.le_of_ble_eq_true rfl) dX0_make_38 (by decide) (by decide) (fun r_38 u_38 hp_38 => ?_)
        obtain ⟨z3, rfl, rfl, hz3⟩ := hp_38
        dsimp only [Option.toList_some, Option.toList_none, List.cons_append, List.nil_append]
        refine ph_pop C dX0_make_41 ?_
        first | exact mk_t (S := S) (w := 0) C hR (by omega) (by omega) (by omega) ⟨_, rfl, Or.inr (Or.inr ⟨by omega, by omega, rfl, Or.inr ⟨by omega, rfl⟩⟩)⟩ f | exact mk_t (S := S) (w := 0) C (collF_ok hR hF) (hC (by omega) (by omega)) (by omega) (by omega) ⟨_, rfl, Or.inr (Or.inr ⟨by omega, by omega, rfl, Or.inl ⟨by omega, rfl⟩⟩)⟩ f
    · refine ph_bipush C dX0_make_25 (by decide) ?_
      exact ph_iret C dX0_make_27 ⟨_, rfl, Or.inr (Or.inl ⟨by omega, by omega, rfl, rfl⟩)⟩
  · refine ph_iconst C dX0_make_8 ?_
    exact ph_iret C dX0_make_9 ⟨_, rfl, Or.inl ⟨by omega, rfl, rfl⟩⟩
end
section
/-! PLAIN WORDS of the reference: its ranges, edges, roots; the rounds of 'follow' -/
def loM (k : Nat) : Int := match k with
  | 0 => -2147483648
  | 1 => -2147483648
  | _ => 0
def hiM (k : Nat) : Int := match k with
  | 0 => 2147483647
  | 1 => 2147483647
  | 4 => 1
  | 8 => 1
  | _ => 24
def RgM (S : St) : Prop := ∀ (k : Nat) (i : Int), 0 ≤ i → i < (lenM k : Int) → loM k ≤ S k i ∧ S k i ≤ hiM k
theorem RgM.put {S : St} (hR : RgM S) {k : Nat} {i z : Int} (h0 : loM k ≤ z) (h1 : z ≤ hiM k) : RgM (wr S k i z) := by
  intro k' i' h2 h3
  by_cases hk : k' = k
  · subst hk
    by_cases hi : i' = i
    · subst hi; rw [wr_s]; exact ⟨h0, h1⟩
    · rw [wr_i hi]; exact hR k' i' h2 h3
  · rw [wr_k hk]; exact hR k' i' h2 h3
theorem RgM.fill {S : St} (hR : RgM S) {k : Nat} {n : Int} {f : Int → Int} (hf : ∀ i, 0 ≤ i → i < n → loM k ≤ f i ∧ f i ≤ hiM k) : RgM (mp S k n f) := by
  intro k' i' h2 h3
  by_cases hk : k' = k
  · subst hk
    by_cases hi : i' < n
    · rw [mp_in h2 hi]; exact hf i' h2 hi
    · rw [mp_out (by omega)]; exact hR k' i' h2 h3
  · rw [mp_k hk]; exact hR k' i' h2 h3
theorem RgM.r0 {S : St} (hR : RgM S) {i : Int} (h0 : 0 ≤ i) (h1 : i < 24) : inI (S 0 i) := hR 0 i h0 h1
theorem RgM.r1 {S : St} (hR : RgM S) {i : Int} (h0 : 0 ≤ i) (h1 : i < 24) : inI (S 1 i) := hR 1 i h0 h1
theorem RgM.r2 {S : St} (hR : RgM S) {i : Int} (h0 : 0 ≤ i) (h1 : i < 48) : 0 ≤ S 2 i ∧ S 2 i ≤ 24 := hR 2 i h0 h1
theorem RgM.r3 {S : St} (hR : RgM S) {i : Int} (h0 : 0 ≤ i) (h1 : i < 48) : 0 ≤ S 3 i ∧ S 3 i ≤ 24 := hR 3 i h0 h1
theorem RgM.r4 {S : St} (hR : RgM S) {i : Int} (h0 : 0 ≤ i) (h1 : i < 24) : 0 ≤ S 4 i ∧ S 4 i ≤ 1 := hR 4 i h0 h1
theorem RgM.r5 {S : St} (hR : RgM S) {i : Int} (h0 : 0 ≤ i) (h1 : i < 3) : 0 ≤ S 5 i ∧ S 5 i ≤ 24 := hR 5 i h0 h1
theorem RgM.r6 {S : St} (hR : RgM S) {i : Int} (h0 : 0 ≤ i) (h1 : i < 3) : 0 ≤ S 6 i ∧ S 6 i ≤ 24 := hR 6 i h0 h1
theorem RgM.r7 {S : St} (hR : RgM S) {i : Int} (h0 : 0 ≤ i) (h1 : i < 4) : 0 ≤ S 7 i ∧ S 7 i ≤ 24 := hR 7 i h0 h1
theorem RgM.r8 {S : St} (hR : RgM S) {i : Int} (h0 : 0 ≤ i) (h1 : i < 25) : 0 ≤ S 8 i ∧ S 8 i ≤ 1 := hR 8 i h0 h1
/-- the same but for what is seen -/
def EqM (S u : St) : Prop := ∀ (k : Nat) (i : Int), k ≠ 8 → u k i = S k i
theorem EqM.rfl' (S : St) : EqM S S := fun _ _ _ => rfl
theorem EqM.trans {S T u : St} (h : EqM S T) (h2 : EqM T u) : EqM S u := fun k i hk => (h2 k i hk).trans (h k i hk)
theorem EqM.mark {S u : St} (h : EqM S u) {t z : Int} : EqM S (wr u 8 t z) := fun k i hk => by rw [wr_k hk]; exact h k i hk
/-- what is seen -/
def sn (S : St) (j : Int) : Prop := 0 ≤ j ∧ j < 24 ∧ S 8 j = 1
def EgM (S : St) (b s t : Int) : Prop := 0 ≤ t ∧ t < 24 ∧ ∃ k, 0 ≤ k ∧ k < 48 ∧ k / 2 = s ∧ (S 2 k = t ∨ (b = 1 ∧ S 4 s = 1 ∧ S 3 k = t))
theorem EgM_eq {S u : St} (h : EqM S u) (b s t : Int) : EgM u b s t ↔ EgM S b s t := by
  unfold EgM
  have h2 : u 2 = S 2 := funext fun i => h 2 i (by decide)
  have h3 : u 3 = S 3 := funext fun i => h 3 i (by decide)
  have h4 : u 4 = S 4 := funext fun i => h 4 i (by decide)
  rw [h2, h3, h4]
def RtM0 (S : St) (j : Int) : Prop := 0 ≤ j ∧ j < 24 ∧ ∃ r, 0 ≤ r ∧ r < 3 ∧ S 5 r = j
def RtM (S : St) (j : Int) : Prop := 0 ≤ j ∧ j < 24 ∧ ((∃ r, 0 ≤ r ∧ r < 3 ∧ S 5 r = j) ∨ (∃ r, 0 ≤ r ∧ r < 3 ∧ S 6 r = j) ∨ (∃ g, 0 ≤ g ∧ g < 4 ∧ S 7 g = j))
def NdM (S : St) : Int → Prop := Cl (EgM S 1) (RtM S)
def RdM (S : St) : Int → Prop := Cl (EgM S 0) (RtM0 S)
theorem RdM_eq {S u : St} (h : EqM S u) (j : Int) : RdM u j ↔ RdM S j := by
  refine Cl.congr (fun y => ?_) (EgM_eq h 0) j
  unfold RtM0
  rw [show u 5 = S 5 from funext fun i => h 5 i (by decide)]
theorem NdM_eq {S u : St} (h : EqM S u) (j : Int) : NdM u j ↔ NdM S j := by
  refine Cl.congr (fun y => ?_) (EgM_eq h 1) j
  unfold RtM
  rw [show u 5 = S 5 from funext fun i => h 5 i (by decide), show u 6 = S 6 from funext fun i => h 6 i (by decide), show u 7 = S 7 from funext fun i => h 7 i (by decide)]
/-! follow -/
def FI (S0 : St) (b : Int) (S : St) : Prop := EqM S0 S ∧ RgM S ∧ (∀ j, sn S0 j → sn S j) ∧ (∀ j, sn S j → Cl (EgM S0 b) (sn S0) j)
theorem sn_mark {S : St} {t : Int} (j : Int) (h0 : 0 ≤ t) : sn (wr S 8 t 1) j ↔ sn S j ∨ (j = t ∧ t < 24) := by
  unfold sn
  by_cases hj : j = t
  · subst hj
    rw [wr_s]
    constructor
    · rintro ⟨a, b, -⟩; exact Or.inr ⟨rfl, b⟩
    · rintro (⟨a, b, -⟩ | ⟨-, b⟩)
      · exact ⟨a, b, rfl⟩
      · exact ⟨h0, b, rfl⟩
  · rw [wr_i hj]
    constructor
    · exact Or.inl
    · rintro (w | ⟨w, -⟩)
      · exact w
      · exact absurd w hj
theorem FI_mark {S0 S : St} {b t : Int} (h : FI S0 b S) (h0 : 0 ≤ t) (hc : t < 24 → Cl (EgM S0 b) (sn S0) t) : FI S0 b (wr S 8 t 1) := by
  obtain ⟨h1, h2, h3, h4⟩ := h
  refine ⟨h1.mark, h2.put (by decide) (by decide), fun j hj => (sn_mark j h0).mpr (Or.inl (h3 j hj)), fun j hj => ?_⟩
  rcases (sn_mark j h0).mp hj with w | ⟨rfl, w⟩
  · exact h4 j w
  · exact hc w
def FJ (S0 : St) (b : Int) (Sb S : St) (k : Int) : Prop := FI S0 b S ∧ (∀ j, sn Sb j → sn S j) ∧ ∀ k' t, 0 ≤ k' → k' < k → k' < 48 → sn Sb (k' / 2) → 0 ≤ t → t < 24 → (S0 2 k' = t ∨ (b = 1 ∧ S0 4 (k' / 2) = 1 ∧ S0 3 k' = t)) → sn S t
def fo1 (k : Int) (S : St) : St := if S 8 (k / 2) = 0 then S else wr S 8 (S 2 k) 1
def fo2 (b k : Int) (S : St) : St := if S 8 (k / 2) = 0 ∨ b = 0 ∨ S 4 (k / 2) = 0 then S else wr S 8 (S 3 k) 1
theorem fo1_n {k : Int} {S : St} (h : S 8 (k / 2) = 0) : fo1 k S = S := by unfold fo1; rw [if_pos h]
theorem fo1_y {k : Int} {S : St} (h : ¬ S 8 (k / 2) = 0) : fo1 k S = wr S 8 (S 2 k) 1 := by unfold fo1; rw [if_neg h]
theorem fo2_n {b k : Int} {S : St} (h : S 8 (k / 2) = 0 ∨ b = 0 ∨ S 4 (k / 2) = 0) : fo2 b k S = S := by unfold fo2; rw [if_pos h]
theorem fo2_y {b k : Int} {S : St} (h : ¬ S 8 (k / 2) = 0) (h2 : ¬ b = 0) (h3 : ¬ S 4 (k / 2) = 0) : fo2 b k S = wr S 8 (S 3 k) 1 := by unfold fo2; rw [if_neg (by omega)]
theorem fo1_ok {k : Int} {S : St} (hR : RgM S) : RgM (fo1 k S) := by
  unfold fo1
  split
  · exact hR
  · exact hR.put (by decide) (by decide)
theorem fo2_ok {b k : Int} {S : St} (hR : RgM S) : RgM (fo2 b k S) := by
  unfold fo2
  split
  · exact hR
  · exact hR.put (by decide) (by decide)
theorem FJ_step {S0 Sb S : St} {b k : Int} (h : FJ S0 b Sb S k) (hb : b = 0 ∨ b = 1) (h0 : 0 ≤ k) (h1 : k < 48) : FJ S0 b Sb (fo2 b k (fo1 k S)) (k + 1) := by
  obtain ⟨hI, hS, hT⟩ := h
  have hR := hI.2.1
  have e2 : S 2 k = S0 2 k := hI.1 2 k (by decide)
  have e3 : S 3 k = S0 3 k := hI.1 3 k (by decide)
  have e4 : S 4 (k / 2) = S0 4 (k / 2) := hI.1 4 (k / 2) (by decide)
  have r2 := hR.r2 h0 h1
  have r3 := hR.r3 h0 h1
  have r4 := hR.r4 (i := k / 2) (by omega) (by omega)
  have r8 := hR.r8 (i := k / 2) (by omega) (by omega)
  by_cases hs : S 8 (k / 2) = 0
  · rw [fo1_n hs, fo2_n (Or.inl hs)]
    refine ⟨hI, hS, fun k' t a1 a2 a3 a4 a5 a6 a7 => ?_⟩
    by_cases e : k' = k
    · subst e
      have := (hS _ a4).2.2
      omega
    · exact hT k' t a1 (by omega) a3 a4 a5 a6 a7
  · have hsk : sn S (k / 2) := ⟨by omega, by omega, by omega⟩
    have hck := hI.2.2.2 _ hsk
    have hI1 : FI S0 b (wr S 8 (S 2 k) 1) := FI_mark hI r2.1 (fun w => hck.step ⟨r2.1, w, k, h0, h1, rfl, Or.inl e2.symm⟩)
    rw [fo1_y hs]
    have m1 := fun j => sn_mark (S := S) (t := S 2 k) j r2.1
    have hs1 : sn (wr S 8 (S 2 k) 1) (k / 2) := (m1 _).mpr (Or.inl hsk)
    by_cases hc : b = 0 ∨ S 4 (k / 2) = 0
    · rw [fo2_n (hc.elim (fun w => Or.inr (Or.inl w)) (fun w => Or.inr (Or.inr (by rw [wr_k (by decide)]; exact w))))]
      refine ⟨hI1, fun j hj => (m1 j).mpr (Or.inl (hS j hj)), fun k' t a1 a2 a3 a4 a5 a6 a7 => (m1 t).mpr ?_⟩
      by_cases e : k' = k
      · subst e
        rcases a7 with a7 | ⟨a7, a8, a9⟩
        · exact Or.inr ⟨by omega, by omega⟩
        · omega
      · exact Or.inl (hT k' t a1 (by omega) a3 a4 a5 a6 a7)
    · rw [fo2_y (by rw [hs1.2.2]; decide) (by omega) (by rw [wr_k (by decide)]; omega), wr_k (by decide)]
      have m2 := fun j => sn_mark (S := wr S 8 (S 2 k) 1) (t := S 3 k) j r3.1
      refine ⟨FI_mark hI1 r3.1 (fun w => hck.step ⟨r3.1, w, k, h0, h1, rfl, Or.inr ⟨by omega, by omega, e3.symm⟩⟩), fun j hj => (m2 j).mpr (Or.inl ((m1 j).mpr (Or.inl (hS j hj)))), fun k' t a1 a2 a3 a4 a5 a6 a7 => (m2 t).mpr ?_⟩
      by_cases e : k' = k
      · subst e
        rcases a7 with a7 | ⟨a7, a8, a9⟩
        · exact Or.inl ((m1 t).mpr (Or.inr ⟨by omega, by omega⟩))
        · exact Or.inr ⟨by omega, by omega⟩
      · exact Or.inl ((m1 t).mpr (Or.inl (hT k' t a1 (by omega) a3 a4 a5 a6 a7)))
def FC (S0 : St) (b : Int) (S : St) : Prop := ∀ s t, sn S s → EgM S0 b s t → sn S t
theorem FJ_0 {S0 S : St} {b : Int} (h : FI S0 b S) : FJ S0 b S S 0 := ⟨h, fun _ w => w, fun k' t a1 a2 => by omega⟩
theorem cP_all : cP (fun _ => True) 24 = 24 := by
  have h : ∀ n : Nat, cP (fun _ => True) n = (n : Int) := by
    intro n
    induction n with
    | zero => rfl
    | succ n ih => rw [cP_y trivial, ih]; omega
  exact h 24
theorem sn_cP {S : St} (h : 24 ≤ cP (sn S) 24) {j : Int} (h0 : 0 ≤ j) (h1 : j < 24) : sn S j := by
  rcases Classical.em (sn S j) with w | w
  · exact w
  · have h2 := cP_lt (P := sn S) (Q := fun _ => True) (n := 24) (fun _ _ _ _ => trivial) h0 h1 trivial w
    have h3 := (cP_le (fun _ => True) 24).2
    omega
theorem FJ_round {S0 Sb S : St} {b : Int} (hb : FI S0 b Sb) (h : FJ S0 b Sb S 48) {n : Nat} (hn : FC S0 b Sb ∨ (n : Int) ≤ cP (sn Sb) 24) : FI S0 b S ∧ (FC S0 b S ∨ ((n + 1 : Nat) : Int) ≤ cP (sn S) 24) := by
  obtain ⟨hI, hS, hT⟩ := h
  have done : ∀ s t, sn Sb s → EgM S0 b s t → sn S t := by
    rintro s t hs ⟨t0, t1, k, k0, k1, rfl, hk⟩
    exact hT k t k0 k1 k1 hs t0 t1 hk
  refine ⟨hI, ?_⟩
  rcases Classical.em (∃ j, sn S j ∧ ¬ sn Sb j) with ⟨j, j1, j2⟩ | hne
  · right
    have hnc : ¬ FC S0 b Sb := fun hc => j2 (hI.2.2.2 j j1 (sn Sb) hb.2.2.1 (fun y z => hc y z))
    have hlt := cP_lt (P := sn Sb) (Q := sn S) (n := 24) (fun j _ _ => hS j) j1.1 j1.2.1 j1 j2
    rcases hn with hn | hn
    · exact absurd hn hnc
    · omega
  · left
    intro s t hs e
    exact done s t (Classical.byContradiction fun w => hne ⟨s, hs, w⟩) e
theorem FI_end {S0 S : St} {b : Int} (h : FI S0 b S) (hn : FC S0 b S ∨ (24 : Int) ≤ cP (sn S) 24) (j : Int) : sn S j ↔ Cl (EgM S0 b) (sn S0) j := by
  have hc : FC S0 b S := by
    rcases hn with hn | hn
    · exact hn
    · exact fun s t hs e => sn_cP hn e.1 e.2.1
  exact ⟨h.2.2.2 j, fun w => w (sn S) h.2.2.1 (fun y z => hc y z)⟩
/-- marks of a row's values -/
def mkB (row : Nat) (i : Int) (S : St) : St := wr S 8 (S row i) 1
theorem mkB_run {row : Nat} (hr : row ≠ 8) {a m : Int} : ∀ (n : Nat) (i : Int) (S : St), a ≤ i → i + n = m → RgM S → (∀ r, a ≤ r → r < m → 0 ≤ S row r) → EqM S (itF (mkB row) n i S) ∧ RgM (itF (mkB row) n i S) ∧ ∀ j, sn (itF (mkB row) n i S) j ↔ (sn S j ∨ ((0 ≤ j ∧ j < 24) ∧ ∃ r, i ≤ r ∧ r < m ∧ S row r = j))
  | 0, i, S, h0, h1, hR, _ => ⟨EqM.rfl' S, hR, fun j => ⟨Or.inl, fun w => by
      rcases w with w | ⟨-, r, r1, r2, -⟩
      · exact w
      · omega⟩⟩
  | n + 1, i, S, h0, h1, hR, hv => by
    have hi := hv i h0 (by omega)
    obtain ⟨a1, a2, a3⟩ := mkB_run (a := a) (m := m) hr n (i + 1) (mkB row i S) (by omega) (by omega) (hR.put (by decide) (by decide)) (fun r r0 r1 => by unfold mkB; rw [wr_k hr]; exact hv r r0 r1)
    refine ⟨(EqM.mark (EqM.rfl' S)).trans a1, a2, fun j => ?_⟩
    show sn (itF (mkB row) n (i + 1) (mkB row i S)) j ↔ _
    rw [a3 j]
    unfold mkB
    rw [sn_mark j hi]
    constructor
    · rintro ((w | ⟨w1, w2⟩) | ⟨w, r, r1, r2, r3⟩)
      · exact Or.inl w
      · exact Or.inr ⟨⟨by omega, by omega⟩, i, by omega, by omega, w1.symm⟩
      · rw [wr_k hr] at r3
        exact Or.inr ⟨w, r, by omega, r2, r3⟩
    · rintro (w | ⟨w, r, r1, r2, r3⟩)
      · exact Or.inl (Or.inl w)
      · by_cases e : r = i
        · subst e
          exact Or.inl (Or.inr ⟨r3.symm, by omega⟩)
        · exact Or.inr ⟨w, r, by omega, r2, by rw [wr_k hr]; exact r3⟩
theorem sn_0 {S : St} (j : Int) : ¬ sn (mp S 8 25 (fun _ => 0)) j := by
  rintro ⟨h0, h1, h2⟩
  rw [mp_in h0 (by omega)] at h2
  exact absurd h2 (by decide)
theorem EqM_0 {S : St} : EqM S (mp S 8 25 (fun _ => 0)) := fun k i hk => mp_k hk
end
section
set_option maxRecDepth 100000
theorem fg_loop {Γ : Cx} {h : Nat} {ad : Nat → Nat} {post : Option Value → St → Prop} {S : St} (C : ph_C shM Γ h ad cX1_forget 2 none 0) (hp : post none (mp S 8 25 (fun _ => 0))) : ∀ (n : Nat) (i : Int), i + n = 25 → 0 ≤ i → ph_V shM Γ h ad post (mp S 8 i (fun _ => 0)) 2 [.ref h, .int (iI i)] [] := by
  intro n
  induction n with
  | zero =>
    intro i hi h0
    obtain rfl : i = 25 := by omega
    refine ph_iload_n C dX1_forget_2 rfl ?_
    refine ph_bipush C dX1_forget_3 (by decide) ?_
    refine ph_icmp_gt C 21 dX1_forget_5 (by decide) ⟨by omega, by omega⟩ ⟨by omega, by omega⟩ (fun c_5 => ?_) (fun c_5 => ?_)
    · exact ph_vret C dX1_forget_21 hp
    · exact absurd c_5 (by omega)
  | succ n ih =>
    intro i hi h0
    refine ph_iload_n C dX1_forget_2 rfl ?_
    refine ph_bipush C dX1_forget_3 (by decide) ?_
    refine ph_icmp_gt C 21 dX1_forget_5 (by decide) ⟨by omega, by omega⟩ ⟨by omega, by omega⟩ (fun c_5 => ?_) (fun c_5 => ?_)
    · exact absurd c_5 (by omega)
    · refine ph_aload C dX1_forget_8 rfl ?_
      refine gM8 C dX1_forget_9 ?_
      refine ph_iload_n C dX1_forget_12 rfl ?_
      refine ph_iconst C dX1_forget_13 ?_
      refine sM8 C (by omega) (by omega) (by omega) dX1_forget_14 ?_
      refine ph_iinc (L' := [_, _]) C dX1_forget_15 rfl (by decide) rfl ?_
      refine ph_goto C 2 dX1_forget_18 (by decide) ?_
      rw [mp_s h0 rfl]
      exact ih (i + 1) (by omega) (by omega)
theorem cM_forget (S : St) : ph_M shM yX1_forget cX1_forget 2 none 0 [] S (fun r u => r = none ∧ mp S 8 25 (fun _ => 0) = u) := by
  refine ph_of shM_ok plM rfl cat0 (Nat.le_of_ble_eq_true rfl) (fun Γ h ad C => ?_)
  refine ph_iconst C dX1_forget_0 ?_
  refine ph_istore_n (L' := [_, _]) C dX1_forget_1 (by decide) (Nat.le_of_ble_eq_true rfl) rfl ?_
  refine ph_tab (mp_0 (k := 8) (f := fun _ => 0)).symm ?_
  exact fg_loop C ⟨rfl, rfl⟩ 25 0 (by omega) (by omega)
theorem fo_b2 {Γ : Cx} {h : Nat} {ad : Nat → Nat} {post : Option Value → St → Prop} (C : ph_C shM Γ h ad cX1_follow 4 (some .int) 0) {b rn k : Int} (hb : b = 0 ∨ b = 1) (h0 : 0 ≤ k) (h1 : k < 48) {S : St} (hR : RgM S) (kk : ph_V shM Γ h ad post (fo2 b k S) 77 [.ref h, .int (iI b), .int (iI rn), .int (iI k)] []) : ph_V shM Γ h ad post S 39 [.ref h, .int (iI b), .int (iI rn), .int (iI k)] [] := by
  have r8 := hR.r8 (i := k / 2) (by omega) (by omega)
  have r4 := hR.r4 (i := k / 2) (by omega) (by omega)
  have r3 := hR.r3 h0 h1
  refine ph_aload C dX1_follow_39 rfl ?_
  refine gM8 C dX1_follow_40 ?_
  refine ph_iload_n C dX1_follow_43 rfl ?_
  refine ph_iconst C dX1_follow_44 ?_
  refine ph_idiv C dX1_follow_45 (by omega) (by omega) (by decide) (by decide) ?_
  refine lM8 C (by omega) (by omega) dX1_follow_46 ?_
  refine ph_if_eq C 77 dX1_follow_47 (by decide) ⟨by omega, by omega⟩ (fun c_47 => ?_) (fun c_47 => ?_)
  · first | (rw [fo2_n (by omega)] at kk; exact kk) | (rw [fo2_y c_47 c_51 c_62] at kk; exact kk)
  · refine ph_iload_n C dX1_follow_50 rfl ?_
    refine ph_if_eq C 77 dX1_follow_51 (by decide) ⟨by omega, by omega⟩ (fun c_51 => ?_) (fun c_51 => ?_)
    · first | (rw [fo2_n (by omega)] at kk; exact kk) | (rw [fo2_y c_47 c_51 c_62] at kk; exact kk)
    · refine ph_aload C dX1_follow_54 rfl ?_
      refine gM4 C dX1_follow_55 ?_
      refine ph_iload_n C dX1_follow_58 rfl ?_
      refine ph_iconst C dX1_follow_59 ?_
      refine ph_idiv C dX1_follow_60 (by omega) (by omega) (by decide) (by decide) ?_
      refine lM4 C (by omega) (by omega) dX1_follow_61 ?_
      refine ph_if_eq C 77 dX1_follow_62 (by decide) ⟨by omega, by omega⟩ (fun c_62 => ?_) (fun c_62 => ?_)
      · first | (rw [fo2_n (by omega)] at kk; exact kk) | (rw [fo2_y c_47 c_51 c_62] at kk; exact kk)
      · refine ph_aload C dX1_follow_65 rfl ?_
        refine gM8 C dX1_follow_66 ?_
        refine ph_aload C dX1_follow_69 rfl ?_
        refine gM3 C dX1_follow_70 ?_
        refine ph_iload_n C dX1_follow_73 rfl ?_
        refine lM3 C (by omega) (by omega) dX1_follow_74 ?_
        refine ph_iconst C dX1_follow_75 ?_
        refine sM8 C (by omega) (by omega) (by omega) dX1_follow_76 ?_
        first | (rw [fo2_n (by omega)] at kk; exact kk) | (rw [fo2_y c_47 c_51 c_62] at kk; exact kk)
theorem fo_b1 {Γ : Cx} {h : Nat} {ad : Nat → Nat} {post : Option Value → St → Prop} (C : ph_C shM Γ h ad cX1_follow 4 (some .int) 0) {b rn k : Int} (h0 : 0 ≤ k) (h1 : k < 48) {S : St} (hR : RgM S) (kk : ph_V shM Γ h ad post (fo1 k S) 39 [.ref h, .int (iI b), .int (iI rn), .int (iI k)] []) : ph_V shM Γ h ad post S 16 [.ref h, .int (iI b), .int (iI rn), .int (iI k)] [] := by
  have r8 := hR.r8 (i := k / 2) (by omega) (by omega)
  have r2 := hR.r2 h0 h1
  refine ph_aload C dX1_follow_16 rfl ?_
  refine gM8 C dX1_follow_17 ?_
  refine ph_iload_n C dX1_follow_20 rfl ?_
  refine ph_iconst C dX1_follow_21 ?_
  refine ph_idiv C dX1_follow_22 (by omega) (by omega) (by decide) (by decide) ?_
  refine lM8 C (by omega) (by omega) dX1_follow_23 ?_
  refine ph_if_eq C 39 dX1_follow_24 (by decide) ⟨by omega, by omega⟩ (fun c_24 => ?_) (fun c_24 => ?_)
  · first | (rw [fo1_n c_24] at kk; exact kk) | (rw [fo1_y c_24] at kk; exact kk)
  · refine ph_aload C dX1_follow_27 rfl ?_
    refine gM8 C dX1_follow_28 ?_
    refine ph_aload C dX1_follow_31 rfl ?_
    refine gM2 C dX1_follow_32 ?_
    refine ph_iload_n C dX1_follow_35 rfl ?_
    refine lM2 C (by omega) (by omega) dX1_follow_36 ?_
    refine ph_iconst C dX1_follow_37 ?_
    refine sM8 C (by omega) (by omega) (by omega) dX1_follow_38 ?_
    first | (rw [fo1_n c_24] at kk; exact kk) | (rw [fo1_y c_24] at kk; exact kk)
theorem fo_in {Γ : Cx} {h : Nat} {ad : Nat → Nat} {post : Option Value → St → Prop} (C : ph_C shM Γ h ad cX1_follow 4 (some .int) 0) {S0 Sb : St} {b rn : Int} (hb : b = 0 ∨ b = 1) (kk : ∀ S, FJ S0 b Sb S 48 → ph_V shM Γ h ad post S 83 [.ref h, .int (iI b), .int (iI rn), .int (iI 48)] []) : ∀ (n : Nat) (k : Int) (S : St), 0 ≤ k → k + n = 48 → FJ S0 b Sb S k → ph_V shM Γ h ad post S 10 [.ref h, .int (iI b), .int (iI rn), .int (iI k)] [] := by
  intro n
  induction n with
  | zero =>
    intro k S h0 hn hJ
    obtain rfl : k = 48 := by omega
    refine ph_iload_n C dX1_follow_10 rfl ?_
    refine ph_bipush C dX1_follow_11 (by decide) ?_
    refine ph_icmp_ge C 83 dX1_follow_13 (by decide) ⟨by omega, by omega⟩ ⟨by omega, by omega⟩ (fun c_13 => ?_) (fun c_13 => ?_)
    · exact kk S hJ
    · exact absurd c_13 (by omega)
  | succ n ih =>
    intro k S h0 hn hJ
    have hR := hJ.1.2.1
    refine ph_iload_n C dX1_follow_10 rfl ?_
    refine ph_bipush C dX1_follow_11 (by decide) ?_
    refine ph_icmp_ge C 83 dX1_follow_13 (by decide) ⟨by omega, by omega⟩ ⟨by omega, by omega⟩ (fun c_13 => ?_) (fun c_13 => ?_)
    · exact absurd c_13 (by omega)
    · refine fo_b1 C h0 (by omega) hR ?_
      refine fo_b2 C hb h0 (by omega) (fo1_ok hR) ?_
      refine ph_iinc (L' := [_, _, _, _]) C dX1_follow_77 rfl (by decide) rfl ?_
      refine ph_goto C 10 dX1_follow_80 (by decide) ?_
      exact ih (k + 1) _ (by omega) (by omega) (FJ_step hJ hb h0 (by omega))
theorem fo_out {Γ : Cx} {h : Nat} {ad : Nat → Nat} {post : Option Value → St → Prop} (C : ph_C shM Γ h ad cX1_follow 4 (some .int) 0) {S0 : St} {b : Int} (hb : b = 0 ∨ b = 1) (kk : ∀ S k, FI S0 b S → (FC S0 b S ∨ (24 : Int) ≤ cP (sn S) 24) → ph_V shM Γ h ad post S 89 [.ref h, .int (iI b), .int (iI k)] []) : ∀ (n i : Nat) (S : St) (L : List Value), i + n = 24 → FI S0 b S → (FC S0 b S ∨ (i : Int) ≤ cP (sn S) 24) → (L = [] ∨ ∃ z, L = [.int (iI z)]) → ph_V shM Γ h ad post S 2 ([.ref h, .int (iI b), .int (iI (i : Int))] ++ L) [] := by
  intro n
  induction n with
  | zero =>
    intro i S L hn hI hc hL
    obtain rfl : i = 24 := by omega
    refine ph_drop (L' := [_, _, _]) rfl ?_
    refine ph_iload_n C dX1_follow_2 rfl ?_
    refine ph_bipush C dX1_follow_3 (by decide) ?_
    refine ph_icmp_ge C 89 dX1_follow_5 (by decide) ⟨by omega, by omega⟩ ⟨by omega, by omega⟩ (fun c_5 => ?_) (fun c_5 => ?_)
    · exact kk S _ hI hc
    · exact absurd c_5 (by omega)
  | succ n ih =>
    intro i S L hn hI hc hL
    refine ph_drop (L' := [_, _, _]) rfl ?_
    refine ph_iload_n C dX1_follow_2 rfl ?_
    refine ph_bipush C dX1_follow_3 (by decide) ?_
    refine ph_icmp_ge C 89 dX1_follow_5 (by decide) ⟨by omega, by omega⟩ ⟨by omega, by omega⟩ (fun c_5 => ?_) (fun c_5 => ?_)
    · exact absurd c_5 (by omega)
    · refine ph_iconst C dX1_follow_8 ?_
      refine ph_istore_n (L' := [_, _, _, _]) C dX1_follow_9 (by decide) (Nat.le_of_ble_eq_true rfl) rfl ?_
      refine fo_in C hb (fun T hT => ?_) 48 0 S (by omega) (by omega) (FJ_0 hI)
      obtain ⟨q1, q2⟩ := FJ_round hI hT hc
      refine ph_iinc (L' := [_, _, _, _]) C dX1_follow_83 rfl (by decide) rfl ?_
      refine ph_goto C 2 dX1_follow_86 (by decide) ?_
      exact ih (i + 1) T [.int (iI 48)] (by omega) q1 q2 (Or.inr ⟨_, rfl⟩)
theorem fo_cnt {Γ : Cx} {h : Nat} {ad : Nat → Nat} {post : Option Value → St → Prop} {S : St} (C : ph_C shM Γ h ad cX1_follow 4 (some .int) 0) (hR : RgM S) {b : Int} (hp : ∀ z, z = cP (sn S) 24 → post (some (.int (iI z))) S) : ∀ (n i : Nat), i + n = 24 → ph_V shM Γ h ad post S 93 [.ref h, .int (iI b), .int (iI (cP (sn S) i)), .int (iI (i : Int))] [] := by
  intro n
  induction n with
  | zero =>
    intro i hi
    obtain rfl : i = 24 := by omega
    refine ph_iload_n C dX1_follow_93 rfl ?_
    refine ph_bipush C dX1_follow_94 (by decide) ?_
    refine ph_icmp_ge C 117 dX1_follow_96 (by decide) ⟨by omega, by omega⟩ ⟨by omega, by omega⟩ (fun c_96 => ?_) (fun c_96 => ?_)
    · refine ph_iload_n C dX1_follow_117 rfl ?_
      exact ph_iret C dX1_follow_118 (hp _ rfl)
    · exact absurd c_96 (by omega)
  | succ n ih =>
    intro i hi
    have r8 := hR.r8 (i := (i : Int)) (by omega) (by omega)
    refine ph_iload_n C dX1_follow_93 rfl ?_
    refine ph_bipush C dX1_follow_94 (by decide) ?_
    refine ph_icmp_ge C 117 dX1_follow_96 (by decide) ⟨by omega, by omega⟩ ⟨by omega, by omega⟩ (fun c_96 => ?_) (fun c_96 => ?_)
    · exact absurd c_96 (by omega)
    · refine ph_aload C dX1_follow_99 rfl ?_
      refine gM8 C dX1_follow_100 ?_
      refine ph_iload_n C dX1_follow_103 rfl ?_
      refine lM8 C (by omega) (by omega) dX1_follow_104 ?_
      refine ph_if_eq C 111 dX1_follow_105 (by decide) ⟨by omega, by omega⟩ (fun c_105 => ?_) (fun c_105 => ?_)
      · refine ph_iinc (L' := [_, _, _, _]) C dX1_follow_111 rfl (by decide) rfl ?_
        refine ph_goto C 93 dX1_follow_114 (by decide) ?_
        first | (rw [← cP_n (P := sn S) (n := i) (fun w => by have := w.2.2; omega)]; exact ih (i + 1) (by omega)) | (rw [← cP_y (P := sn S) (n := i) ⟨by omega, by omega, by omega⟩]; exact ih (i + 1) (by omega))
      · refine ph_iinc (L' := [_, _, _, _]) C dX1_follow_108 rfl (by decide) rfl ?_
        refine ph_iinc (L' := [_, _, _, _]) C dX1_follow_111 rfl (by decide) rfl ?_
        refine ph_goto C 93 dX1_follow_114 (by decide) ?_
        first | (rw [← cP_n (P := sn S) (n := i) (fun w => by have := w.2.2; omega)]; exact ih (i + 1) (by omega)) | (rw [← cP_y (P := sn S) (n := i) ⟨by omega, by omega, by omega⟩]; exact ih (i + 1) (by omega))
theorem cM_follow {S : St} (hR : RgM S) {b : Int} (hb : b = 0 ∨ b = 1) : ph_M shM yX1_follow cX1_follow 4 (some .int) 0 [.int (iI b)] S (fun r u => ∃ z : Int, r = some (.int (iI z)) ∧ EqM S u ∧ RgM u ∧ (∀ j, sn u j ↔ Cl (EgM S b) (sn S) j) ∧ z = cP (Cl (EgM S b) (sn S)) 24) := by
  refine ph_of shM_ok plM rfl cat1 (Nat.le_of_ble_eq_true rfl) (fun Γ h ad C => ?_)
  refine ph_iconst C dX1_follow_0 ?_
  refine ph_istore_n (L' := [_, _, _]) C dX1_follow_1 (by decide) (Nat.le_of_ble_eq_true rfl) rfl ?_
  have hI : FI S b S := ⟨EqM.rfl' S, hR, fun _ w => w, fun _ w => Cl.base w⟩
  refine fo_out C hb (fun T k hT hc => ?_) 24 0 S [] (by omega) hI (Or.inr (cP_le _ _).1) (Or.inl rfl)
  have he := FI_end hT hc
  refine ph_iconst C dX1_follow_89 ?_
  refine ph_istore_n (L' := [_, _, _]) C dX1_follow_90 (by decide) (Nat.le_of_ble_eq_true rfl) rfl ?_
  refine ph_iconst C dX1_follow_91 ?_
  refine ph_istore_n (L' := [_, _, _, _]) C dX1_follow_92 (by decide) (Nat.le_of_ble_eq_true rfl) rfl ?_
  exact fo_cnt C hT.2.1 (fun z hz => ⟨z, rfl, hT.1, hT.2.1, he, hz.trans (cP_congr (fun j _ _ => he j))⟩) 24 0 (by omega)
theorem nd_m5 {Γ : Cx} {h : Nat} {ad : Nat → Nat} {post : Option Value → St → Prop} (C : ph_C shM Γ h ad cX1_need 2 (some .int) 1) : ∀ (n : Nat) (i : Int) (S : St), RgM S → i + n = 3 → 0 ≤ i → (ph_V shM Γ h ad post (itF (mkB 5) n i S) 29 [.ref h, .int (iI 3)] []) → ph_V shM Γ h ad post S 6 [.ref h, .int (iI i)] [] := by
  intro n
  induction n with
  | zero =>
    intro i S hR hi h0 kk
    obtain rfl : i = 3 := by omega
    refine ph_iload_n C dX1_need_6 rfl ?_
    refine ph_iconst C dX1_need_7 ?_
    refine ph_icmp_ge C 29 dX1_need_8 (by decide) ⟨by omega, by omega⟩ ⟨by omega, by omega⟩ (fun c_8 => ?_) (fun c_8 => ?_)
    · exact kk
    · exact absurd c_8 (by omega)
  | succ n ih =>
    intro i S hR hi h0 kk
    have r := hR.r5 (i := i) h0 (by omega)
    refine ph_iload_n C dX1_need_6 rfl ?_
    refine ph_iconst C dX1_need_7 ?_
    refine ph_icmp_ge C 29 dX1_need_8 (by decide) ⟨by omega, by omega⟩ ⟨by omega, by omega⟩ (fun c_8 => ?_) (fun c_8 => ?_)
    · exact absurd c_8 (by omega)
    · refine ph_aload C dX1_need_11 rfl ?_
      refine gM8 C dX1_need_12 ?_
      refine ph_aload C dX1_need_15 rfl ?_
      refine gM5 C dX1_need_16 ?_
      refine ph_iload_n C dX1_need_19 rfl ?_
      refine lM5 C (by omega) (by omega) dX1_need_20 ?_
      refine ph_iconst C dX1_need_21 ?_
      refine sM8 C (by omega) (by omega) (by omega) dX1_need_22 ?_
      refine ph_iinc (L' := [_, _]) C dX1_need_23 rfl (by decide) rfl ?_
      refine ph_goto C 6 dX1_need_26 (by decide) ?_
      exact ih (i + 1) (mkB 5 i S) (hR.put (by decide) (by decide)) (by omega) (by omega) kk
theorem nd_m6 {Γ : Cx} {h : Nat} {ad : Nat → Nat} {post : Option Value → St → Prop} (C : ph_C shM Γ h ad cX1_need 2 (some .int) 1) : ∀ (n : Nat) (i : Int) (S : St), RgM S → i + n = 3 → 0 ≤ i → (ph_V shM Γ h ad post (itF (mkB 6) n i S) 54 [.ref h, .int (iI 3)] []) → ph_V shM Γ h ad post S 31 [.ref h, .int (iI i)] [] := by
  intro n
  induction n with
  | zero =>
    intro i S hR hi h0 kk
    obtain rfl : i = 3 := by omega
    refine ph_iload_n C dX1_need_31 rfl ?_
    refine ph_iconst C dX1_need_32 ?_
    refine ph_icmp_ge C 54 dX1_need_33 (by decide) ⟨by omega, by omega⟩ ⟨by omega, by omega⟩ (fun c_33 => ?_) (fun c_33 => ?_)
    · exact kk
    · exact absurd c_33 (by omega)
  | succ n ih =>
    intro i S hR hi h0 kk
    have r := hR.r6 (i := i) h0 (by omega)
    refine ph_iload_n C dX1_need_31 rfl ?_
    refine ph_iconst C dX1_need_32 ?_
    refine ph_icmp_ge C 54 dX1_need_33 (by decide) ⟨by omega, by omega⟩ ⟨by omega, by omega⟩ (fun c_33 => ?_) (fun c_33 => ?_)
    · exact absurd c_33 (by omega)
    · refine ph_aload C dX1_need_36 rfl ?_
      refine gM8 C dX1_need_37 ?_
      refine ph_aload C dX1_need_40 rfl ?_
      refine gM6 C dX1_need_41 ?_
      refine ph_iload_n C dX1_need_44 rfl ?_
      refine lM6 C (by omega) (by omega) dX1_need_45 ?_
      refine ph_iconst C dX1_need_46 ?_
      refine sM8 C (by omega) (by omega) (by omega) dX1_need_47 ?_
      refine ph_iinc (L' := [_, _]) C dX1_need_48 rfl (by decide) rfl ?_
      refine ph_goto C 31 dX1_need_51 (by decide) ?_
      exact ih (i + 1) (mkB 6 i S) (hR.put (by decide) (by decide)) (by omega) (by omega) kk
theorem nd_m7 {Γ : Cx} {h : Nat} {ad : Nat → Nat} {post : Option Value → St → Prop} (C : ph_C shM Γ h ad cX1_need 2 (some .int) 1) : ∀ (n : Nat) (i : Int) (S : St), RgM S → i + n = 4 → 0 ≤ i → (ph_V shM Γ h ad post (itF (mkB 7) n i S) 79 [.ref h, .int (iI 4)] []) → ph_V shM Γ h ad post S 56 [.ref h, .int (iI i)] [] := by
  intro n
  induction n with
  | zero =>
    intro i S hR hi h0 kk
    obtain rfl : i = 4 := by omega
    refine ph_iload_n C dX1_need_56 rfl ?_
    refine ph_iconst C dX1_need_57 ?_
    refine ph_icmp_ge C 79 dX1_need_58 (by decide) ⟨by omega, by omega⟩ ⟨by omega, by omega⟩ (fun c_58 => ?_) (fun c_58 => ?_)
    · exact kk
    · exact absurd c_58 (by omega)
  | succ n ih =>
    intro i S hR hi h0 kk
    have r := hR.r7 (i := i) h0 (by omega)
    refine ph_iload_n C dX1_need_56 rfl ?_
    refine ph_iconst C dX1_need_57 ?_
    refine ph_icmp_ge C 79 dX1_need_58 (by decide) ⟨by omega, by omega⟩ ⟨by omega, by omega⟩ (fun c_58 => ?_) (fun c_58 => ?_)
    · exact absurd c_58 (by omega)
    · refine ph_aload C dX1_need_61 rfl ?_
      refine gM8 C dX1_need_62 ?_
      refine ph_aload C dX1_need_65 rfl ?_
      refine gM7 C dX1_need_66 ?_
      refine ph_iload_n C dX1_need_69 rfl ?_
      refine lM7 C (by omega) (by omega) dX1_need_70 ?_
      refine ph_iconst C dX1_need_71 ?_
      refine sM8 C (by omega) (by omega) (by omega) dX1_need_72 ?_
      refine ph_iinc (L' := [_, _]) C dX1_need_73 rfl (by decide) rfl ?_
      refine ph_goto C 56 dX1_need_76 (by decide) ?_
      exact ih (i + 1) (mkB 7 i S) (hR.put (by decide) (by decide)) (by omega) (by omega) kk
theorem fr_m5 {Γ : Cx} {h : Nat} {ad : Nat → Nat} {post : Option Value → St → Prop} (C : ph_C shM Γ h ad cX1_fromRoots 2 (some .int) 1) : ∀ (n : Nat) (i : Int) (S : St), RgM S → i + n = 3 → 0 ≤ i → (ph_V shM Γ h ad post (itF (mkB 5) n i S) 29 [.ref h, .int (iI 3)] []) → ph_V shM Γ h ad post S 6 [.ref h, .int (iI i)] [] := by
  intro n
  induction n with
  | zero =>
    intro i S hR hi h0 kk
    obtain rfl : i = 3 := by omega
    refine ph_iload_n C dX1_fromRoots_6 rfl ?_
    refine ph_iconst C dX1_fromRoots_7 ?_
    refine ph_icmp_ge C 29 dX1_fromRoots_8 (by decide) ⟨by omega, by omega⟩ ⟨by omega, by omega⟩ (fun c_8 => ?_) (fun c_8 => ?_)
    · exact kk
    · exact absurd c_8 (by omega)
  | succ n ih =>
    intro i S hR hi h0 kk
    have r := hR.r5 (i := i) h0 (by omega)
    refine ph_iload_n C dX1_fromRoots_6 rfl ?_
    refine ph_iconst C dX1_fromRoots_7 ?_
    refine ph_icmp_ge C 29 dX1_fromRoots_8 (by decide) ⟨by omega, by omega⟩ ⟨by omega, by omega⟩ (fun c_8 => ?_) (fun c_8 => ?_)
    · exact absurd c_8 (by omega)
    · refine ph_aload C dX1_fromRoots_11 rfl ?_
      refine gM8 C dX1_fromRoots_12 ?_
      refine ph_aload C dX1_fromRoots_15 rfl ?_
      refine gM5 C dX1_fromRoots_16 ?_
      refine ph_iload_n C dX1_fromRoots_19 rfl ?_
      refine lM5 C (by omega) (by omega) dX1_fromRoots_20 ?_
      refine ph_iconst C dX1_fromRoots_21 ?_
      refine sM8 C (by omega) (by omega) (by omega) dX1_fromRoots_22 ?_
      refine ph_iinc (L' := [_, _]) C dX1_fromRoots_23 rfl (by decide) rfl ?_
      refine ph_goto C 6 dX1_fromRoots_26 (by decide) ?_
      exact ih (i + 1) (mkB 5 i S) (hR.put (by decide) (by decide)) (by omega) (by omega) kk
def ndA (S : St) : St := itF (mkB 5) 3 0 (mp S 8 25 (fun _ => 0))
def ndB (S : St) : St := itF (mkB 6) 3 0 (ndA S)
def ndC (S : St) : St := itF (mkB 7) 4 0 (ndB S)
theorem ndA_ok {S : St} (hR : RgM S) : EqM S (ndA S) ∧ RgM (ndA S) ∧ ∀ j, sn (ndA S) j ↔ RtM0 S j := by
  have h0 : RgM (mp S 8 25 (fun _ => 0)) := hR.fill (fun _ _ _ => ⟨by decide, by decide⟩)
  obtain ⟨a1, a2, a3⟩ := mkB_run (row := 5) (by decide) (a := 0) (m := 3) 3 0 _ (by omega) (by omega) h0 (fun r r0 r1 => (h0.r5 r0 r1).1)
  refine ⟨EqM_0.trans a1, a2, fun j => (a3 j).trans ⟨fun w => ?_, fun w => Or.inr ⟨⟨w.1, w.2.1⟩, ?_⟩⟩⟩
  · rcases w with w | ⟨w, r, r0, r1, r2⟩
    · exact absurd w (sn_0 j)
    · exact ⟨w.1, w.2, r, r0, r1, by rw [mp_k (by decide)] at r2; exact r2⟩
  · obtain ⟨r, r0, r1, r2⟩ := w.2.2
    exact ⟨r, r0, r1, by rw [mp_k (by decide)]; exact r2⟩
theorem ndB_ok {S : St} (hR : RgM S) : EqM S (ndB S) ∧ RgM (ndB S) := by
  obtain ⟨a1, a2, -⟩ := ndA_ok hR
  obtain ⟨b1, b2, -⟩ := mkB_run (row := 6) (by decide) (a := 0) (m := 3) 3 0 _ (by omega) (by omega) a2 (fun r r0 r1 => (a2.r6 r0 r1).1)
  exact ⟨a1.trans b1, b2⟩
theorem ndC_ok {S : St} (hR : RgM S) : EqM S (ndC S) ∧ RgM (ndC S) ∧ ∀ j, sn (ndC S) j ↔ RtM S j := by
  obtain ⟨a1, a2, a3⟩ := ndA_ok hR
  obtain ⟨b1, b2, b3⟩ := mkB_run (row := 6) (by decide) (a := 0) (m := 3) 3 0 _ (by omega) (by omega) a2 (fun r r0 r1 => (a2.r6 r0 r1).1)
  have e1 : EqM S (ndB S) := a1.trans b1
  obtain ⟨c1, c2, c3⟩ := mkB_run (row := 7) (by decide) (a := 0) (m := 4) 4 0 (ndB S) (by omega) (by omega) b2 (fun r r0 r1 => ((ndB_ok hR).2.r7 r0 r1).1)
  refine ⟨e1.trans c1, c2, fun j => (c3 j).trans ?_⟩
  have b4 : sn (ndB S) j ↔ _ := b3 j
  rw [b4, a3 j]
  have f6 : ndA S 6 = S 6 := funext fun i => a1 6 i (by decide)
  have f7 : ndB S 7 = S 7 := funext fun i => e1 7 i (by decide)
  rw [f6, f7]
  unfold RtM0 RtM
  constructor
  · rintro ((⟨w1, w2, w⟩ | ⟨⟨w1, w2⟩, w⟩) | ⟨⟨w1, w2⟩, w⟩)
    · exact ⟨w1, w2, Or.inl w⟩
    · exact ⟨w1, w2, Or.inr (Or.inl w)⟩
    · exact ⟨w1, w2, Or.inr (Or.inr w)⟩
  · rintro ⟨w1, w2, w | w | w⟩
    · exact Or.inl (Or.inl ⟨w1, w2, w⟩)
    · exact Or.inl (Or.inr ⟨⟨w1, w2⟩, w⟩)
    · exact Or.inr ⟨⟨w1, w2⟩, w⟩
theorem cM_need {S : St} (hR : RgM S) : ph_M shM yX1_need cX1_need 2 (some .int) 1 [] S (fun r u => ∃ z : Int, r = some (.int (iI z)) ∧ EqM S u ∧ RgM u ∧ (∀ j, sn u j ↔ NdM S j) ∧ z = cP (NdM S) 24) := by
  have h0 : RgM (mp S 8 25 (fun _ => 0)) := hR.fill (fun _ _ _ => ⟨by decide, by decide⟩)
  have hA := ndA_ok hR
  have hB := ndB_ok hR
  have hC := ndC_ok hR
  have hcl : ∀ j, Cl (EgM (ndC S) 1) (sn (ndC S)) j ↔ NdM S j := Cl.congr hC.2.2 (EgM_eq hC.1 1)
  refine ph_of shM_ok plM rfl cat0 (Nat.le_of_ble_eq_true rfl) (fun Γ h ad C => ?_)
  refine ph_aload C dX1_need_0 rfl ?_
  refine ph_call C (cM_forget S) kM_forget rfl rfl rfl (Nat.le_of_ble_eq_true rfl) dX1_need_1 (by decide) (by decide) (fun r_1 u_1 hp_1 => ?_)
  obtain ⟨rfl, rfl⟩ := hp_1
  dsimp only [Option.toList_some, Option.toList_none, List.cons_append, List.nil_append]
  refine ph_iconst C dX1_need_4 ?_
  refine ph_istore_n (L' := [_, _]) C dX1_need_5 (by decide) (Nat.le_of_ble_eq_true rfl) rfl ?_
  refine nd_m5 C 3 0 _ h0 (by omega) (by omega) ?_
  refine ph_tab (show _ = ndA S from rfl) ?_
  refine ph_iconst C dX1_need_29 ?_
  refine ph_istore_n (L' := [_, _]) C dX1_need_30 (by decide) (Nat.le_of_ble_eq_true rfl) rfl ?_
  refine nd_m6 C 3 0 _ hA.2.1 (by omega) (by omega) ?_
  refine ph_tab (show _ = ndB S from rfl) ?_
  refine ph_iconst C dX1_need_54 ?_
  refine ph_istore_n (L' := [_, _]) C dX1_need_55 (by decide) (Nat.le_of_ble_eq_true rfl) rfl ?_
  refine nd_m7 C 4 0 _ hB.2 (by omega) (by omega) ?_
  refine ph_tab (show _ = ndC S from rfl) ?_
  refine ph_aload C dX1_need_79 rfl ?_
  refine ph_iconst C dX1_need_80 ?_
  refine ph_call C (cM_follow hC.2.1 (Or.inr rfl)) kM_follow rfl rfl rfl (Nat.le_of_ble_eq_true rfl) dX1_need_81 (by decide) (by decide) (fun r_81 u_81 hp_81 => ?_)
  obtain ⟨z, rfl, z1, z2, z3, hz⟩ := hp_81
  dsimp only [Option.toList_some, Option.toList_none, List.cons_append, List.nil_append]
  exact ph_iret C dX1_need_84 ⟨z, rfl, hC.1.trans z1, z2, fun j => (z3 j).trans (hcl j), hz.trans (cP_congr (fun j _ _ => hcl j))⟩
theorem cM_fromRoots {S : St} (hR : RgM S) : ph_M shM yX1_fromRoots cX1_fromRoots 2 (some .int) 1 [] S (fun r u => ∃ z : Int, r = some (.int (iI z)) ∧ EqM S u ∧ RgM u ∧ z = cP (RdM S) 24) := by
  have h0 : RgM (mp S 8 25 (fun _ => 0)) := hR.fill (fun _ _ _ => ⟨by decide, by decide⟩)
  have hA := ndA_ok hR
  have hcl : ∀ j, Cl (EgM (ndA S) 0) (sn (ndA S)) j ↔ RdM S j := Cl.congr hA.2.2 (EgM_eq hA.1 0)
  refine ph_of shM_ok plM rfl cat0 (Nat.le_of_ble_eq_true rfl) (fun Γ h ad C => ?_)
  refine ph_aload C dX1_fromRoots_0 rfl ?_
  refine ph_call C (cM_forget S) kM_forget rfl rfl rfl (Nat.le_of_ble_eq_true rfl) dX1_fromRoots_1 (by decide) (by decide) (fun r_1 u_1 hp_1 => ?_)
  obtain ⟨rfl, rfl⟩ := hp_1
  dsimp only [Option.toList_some, Option.toList_none, List.cons_append, List.nil_append]
  refine ph_iconst C dX1_fromRoots_4 ?_
  refine ph_istore_n (L' := [_, _]) C dX1_fromRoots_5 (by decide) (Nat.le_of_ble_eq_true rfl) rfl ?_
  refine fr_m5 C 3 0 _ h0 (by omega) (by omega) ?_
  refine ph_tab (show _ = ndA S from rfl) ?_
  refine ph_aload C dX1_fromRoots_29 rfl ?_
  refine ph_iconst C dX1_fromRoots_30 ?_
  refine ph_call C (cM_follow hA.2.1 (Or.inl rfl)) kM_follow rfl rfl rfl (Nat.le_of_ble_eq_true rfl) dX1_fromRoots_31 (by decide) (by decide) (fun r_31 u_31 hp_31 => ?_)
  obtain ⟨z, rfl, z1, z2, z3, hz⟩ := hp_31
  dsimp only [Option.toList_some, Option.toList_none, List.cons_append, List.nil_append]
  exact ph_iret C dX1_fromRoots_34 ⟨z, rfl, hA.1.trans z1, z2, hz.trans (cP_congr (fun j _ _ => hcl j))⟩
theorem sn_one {S : St} {t : Int} (h0 : 0 ≤ t) (y : Int) : sn (wr (mp S 8 25 (fun _ => 0)) 8 t 1) y ↔ 0 ≤ y ∧ y < 24 ∧ t = y := by
  rw [sn_mark y h0]
  constructor
  · rintro (w | ⟨w, w2⟩)
    · exact absurd w (sn_0 y)
    · exact ⟨by omega, by omega, w.symm⟩
  · rintro ⟨w1, w2, w3⟩
    exact Or.inr ⟨w3.symm, by omega⟩
theorem cM_reach {S : St} (hR : RgM S) {g : Int} (hg : inI g) : ph_M shM yX1_reach cX1_reach 2 (some .int) 1 [.int (iI g)] S (fun r u => ∃ z : Int, r = some (.int (iI z)) ∧ (((g < 0 ∨ 2 < g) ∧ z = -1 ∧ S = u) ∨ ((0 ≤ g ∧ g ≤ 2) ∧ EqM S u ∧ RgM u ∧ z = cP (Cl (EgM S 0) (fun j => 0 ≤ j ∧ j < 24 ∧ S 5 g = j)) 24))) := by
  have hg1 := hg.1
  have hg2 := hg.2
  have h0 : RgM (mp S 8 25 (fun _ => 0)) := hR.fill (fun _ _ _ => ⟨by decide, by decide⟩)
  refine ph_of shM_ok plM rfl cat1 (Nat.le_of_ble_eq_true rfl) (fun Γ h ad C => ?_)
  refine ph_aload C dX1_reach_0 rfl ?_
  refine ph_iload_n C dX1_reach_1 rfl ?_
  refine ph_call C (cM_isRoot hg S) kM_isRoot rfl rfl rfl (Nat.le_of_ble_eq_true rfl) dX1_reach_2 (by decide) (by decide) (fun r_2 u_2 hp_2 => ?_)
  obtain ⟨z1, rfl, rfl, hz1⟩ := hp_2
  dsimp only [Option.toList_some, Option.toList_none, List.cons_append, List.nil_append]
  refine ph_if_ne C 10 dX1_reach_5 (by decide) ⟨by omega, by omega⟩ (fun c_5 => ?_) (fun c_5 => ?_)
  · have r5 := hR.r5 (i := g) (by omega) (by omega)
    refine ph_aload C dX1_reach_10 rfl ?_
    refine ph_call C (cM_forget S) kM_forget rfl rfl rfl (Nat.le_of_ble_eq_true rfl) dX1_reach_11 (by decide) (by decide) (fun r_11 u_11 hp_11 => ?_)
    obtain ⟨rfl, rfl⟩ := hp_11
    dsimp only [Option.toList_some, Option.toList_none, List.cons_append, List.nil_append]
    refine ph_aload C dX1_reach_14 rfl ?_
    refine gM8 C dX1_reach_15 ?_
    refine ph_aload C dX1_reach_18 rfl ?_
    refine gM5 C dX1_reach_19 ?_
    refine ph_iload_n C dX1_reach_22 rfl ?_
    refine lM5 C (by omega) (by omega) dX1_reach_23 ?_
    simp only [mp_k, ne_eq, reduceCtorEq, not_false_eq_true, Nat.reduceEqDiff]
    refine ph_iconst C dX1_reach_24 ?_
    refine sM8 C (by omega) (by omega) (by omega) dX1_reach_25 ?_
    have e1 : EqM S (wr (mp S 8 25 (fun _ => 0)) 8 (S 5 g) 1) := EqM_0.mark
    refine ph_aload C dX1_reach_26 rfl ?_
    refine ph_iconst C dX1_reach_27 ?_
    refine ph_call C (cM_follow (S := wr (mp S 8 25 (fun _ => 0)) 8 (S 5 g) 1) (h0.put (by decide) (by decide)) (Or.inl rfl)) kM_follow rfl rfl rfl (Nat.le_of_ble_eq_true rfl) dX1_reach_28 (by decide) (by decide) (fun r_28 u_28 hp_28 => ?_)
    obtain ⟨z, rfl, y1, y2, y3, hz⟩ := hp_28
    dsimp only [Option.toList_some, Option.toList_none, List.cons_append, List.nil_append]
    exact ph_iret C dX1_reach_31 ⟨z, rfl, Or.inr ⟨by omega, e1.trans y1, y2, hz.trans (cP_congr (fun j _ _ => Cl.congr (sn_one r5.1) (EgM_eq e1 0) j))⟩⟩
  · refine ph_iconst C dX1_reach_8 ?_
    exact ph_iret C dX1_reach_9 ⟨_, rfl, Or.inl ⟨by omega, rfl, rfl⟩⟩
theorem cM_fromRoot {S : St} (hR : RgM S) {g q : Int} (hg : inI g) (hq : inI q) : ph_M shM yX1_fromRoot cX1_fromRoot 3 (some .int) 1 [.int (iI g), .int (iI q)] S (fun r u => ∃ z : Int, r = some (.int (iI z)) ∧ (((g < 0 ∨ 3 < g ∨ q < 0 ∨ 2 < q) ∧ z = -1 ∧ S = u) ∨ ((0 ≤ g ∧ g ≤ 3 ∧ 0 ≤ q ∧ q ≤ 2) ∧ z = 0 ∧ wr S 7 g (S 5 q) = u))) := by
  have hg1 := hg.1
  have hg2 := hg.2
  have hq1 := hq.1
  have hq2 := hq.2
  refine ph_of shM_ok plM rfl cat2 (Nat.le_of_ble_eq_true rfl) (fun Γ h ad C => ?_)
  refine ph_aload C dX1_fromRoot_0 rfl ?_
  refine ph_iload_n C dX1_fromRoot_1 rfl ?_
  refine ph_call C (cM_isReg hg S) kM_isRegister rfl rfl rfl (Nat.le_of_ble_eq_true rfl) dX1_fromRoot_2 (by decide) (by decide) (fun r_2 u_2 hp_2 => ?_)
  obtain ⟨z1, rfl, rfl, hz1⟩ := hp_2
  dsimp only [Option.toList_some, Option.toList_none, List.cons_append, List.nil_append]
  refine ph_if_eq C 16 dX1_fromRoot_5 (by decide) ⟨by omega, by omega⟩ (fun c_5 => ?_) (fun c_5 => ?_)
  · refine ph_iconst C dX1_fromRoot_16 ?_
    exact ph_iret C dX1_fromRoot_17 ⟨_, rfl, Or.inl ⟨by omega, rfl, rfl⟩⟩
  · refine ph_aload C dX1_fromRoot_8 rfl ?_
    refine ph_iload_n C dX1_fromRoot_9 rfl ?_
    refine ph_call C (cM_isRoot hq S) kM_isRoot rfl rfl rfl (Nat.le_of_ble_eq_true rfl) dX1_fromRoot_10 (by decide) (by decide) (fun r_10 u_10 hp_10 => ?_)
    obtain ⟨z2, rfl, rfl, hz2⟩ := hp_10
    dsimp only [Option.toList_some, Option.toList_none, List.cons_append, List.nil_append]
    refine ph_if_ne C 18 dX1_fromRoot_13 (by decide) ⟨by omega, by omega⟩ (fun c_13 => ?_) (fun c_13 => ?_)
    · refine ph_aload C dX1_fromRoot_18 rfl ?_
      refine gM7 C dX1_fromRoot_19 ?_
      refine ph_iload_n C dX1_fromRoot_22 rfl ?_
      refine ph_aload C dX1_fromRoot_23 rfl ?_
      refine gM5 C dX1_fromRoot_24 ?_
      refine ph_iload_n C dX1_fromRoot_27 rfl ?_
      refine lM5 C (by omega) (by omega) dX1_fromRoot_28 ?_
      refine sM7 C (by omega) (by omega) dX1_fromRoot_29 ?_
      refine ph_iconst C dX1_fromRoot_30 ?_
      exact ph_iret C dX1_fromRoot_31 ⟨_, rfl, Or.inr ⟨by omega, rfl, rfl⟩⟩
    · refine ph_iconst C dX1_fromRoot_16 ?_
      exact ph_iret C dX1_fromRoot_17 ⟨_, rfl, Or.inl ⟨by omega, rfl, rfl⟩⟩
theorem cM_toRoot {S : St} (hR : RgM S) {g q : Int} (hg : inI g) (hq : inI q) : ph_M shM yX1_toRoot cX1_toRoot 3 (some .int) 1 [.int (iI q), .int (iI g)] S (fun r u => ∃ z : Int, r = some (.int (iI z)) ∧ (((g < 0 ∨ 3 < g ∨ q < 0 ∨ 2 < q) ∧ z = -1 ∧ S = u) ∨ ((0 ≤ g ∧ g ≤ 3 ∧ 0 ≤ q ∧ q ≤ 2) ∧ z = 0 ∧ wr S 5 q (S 7 g) = u))) := by
  have hg1 := hg.1
  have hg2 := hg.2
  have hq1 := hq.1
  have hq2 := hq.2
  refine ph_of shM_ok plM rfl cat2 (Nat.le_of_ble_eq_true rfl) (fun Γ h ad C => ?_)
  refine ph_aload C dX1_toRoot_0 rfl ?_
  refine ph_iload_n C dX1_toRoot_1 rfl ?_
  refine ph_call C (cM_isReg hg S) kM_isRegister rfl rfl rfl (Nat.le_of_ble_eq_true rfl) dX1_toRoot_2 (by decide) (by decide) (fun r_2 u_2 hp_2 => ?_)
  obtain ⟨z1, rfl, rfl, hz1⟩ := hp_2
  dsimp only [Option.toList_some, Option.toList_none, List.cons_append, List.nil_append]
  refine ph_if_eq C 16 dX1_toRoot_5 (by decide) ⟨by omega, by omega⟩ (fun c_5 => ?_) (fun c_5 => ?_)
  · refine ph_iconst C dX1_toRoot_16 ?_
    exact ph_iret C dX1_toRoot_17 ⟨_, rfl, Or.inl ⟨by omega, rfl, rfl⟩⟩
  · refine ph_aload C dX1_toRoot_8 rfl ?_
    refine ph_iload_n C dX1_toRoot_9 rfl ?_
    refine ph_call C (cM_isRoot hq S) kM_isRoot rfl rfl rfl (Nat.le_of_ble_eq_true rfl) dX1_toRoot_10 (by decide) (by decide) (fun r_10 u_10 hp_10 => ?_)
    obtain ⟨z2, rfl, rfl, hz2⟩ := hp_10
    dsimp only [Option.toList_some, Option.toList_none, List.cons_append, List.nil_append]
    refine ph_if_ne C 18 dX1_toRoot_13 (by decide) ⟨by omega, by omega⟩ (fun c_13 => ?_) (fun c_13 => ?_)
    · refine ph_aload C dX1_toRoot_18 rfl ?_
      refine gM5 C dX1_toRoot_19 ?_
      refine ph_iload_n C dX1_toRoot_22 rfl ?_
      refine ph_aload C dX1_toRoot_23 rfl ?_
      refine gM7 C dX1_toRoot_24 ?_
      refine ph_iload_n C dX1_toRoot_27 rfl ?_
      refine lM7 C (by omega) (by omega) dX1_toRoot_28 ?_
      refine sM5 C (by omega) (by omega) dX1_toRoot_29 ?_
      refine ph_iconst C dX1_toRoot_30 ?_
      exact ph_iret C dX1_toRoot_31 ⟨_, rfl, Or.inr ⟨by omega, rfl, rfl⟩⟩
    · refine ph_iconst C dX1_toRoot_16 ?_
      exact ph_iret C dX1_toRoot_17 ⟨_, rfl, Or.inl ⟨by omega, rfl, rfl⟩⟩
theorem cM_fromField {S : St} (hR : RgM S) {g s f : Int} (hg : inI g) (hs : inI s) (hf : inI f) : ph_M shM yX1_fromField cX1_fromField 4 (some .int) 1 [.int (iI g), .int (iI s), .int (iI f)] S (fun r u => ∃ z : Int, r = some (.int (iI z)) ∧ (((g < 0 ∨ 3 < g ∨ s < 0 ∨ 3 < s ∨ f < 0 ∨ 1 < f) ∧ z = -1 ∧ S = u) ∨ ((0 ≤ g ∧ g ≤ 3 ∧ 0 ≤ s ∧ s ≤ 3 ∧ 0 ≤ f ∧ f ≤ 1) ∧ S 7 s = 24 ∧ z = -3 ∧ S = u) ∨ ((0 ≤ g ∧ g ≤ 3 ∧ 0 ≤ s ∧ s ≤ 3 ∧ 0 ≤ f ∧ f ≤ 1) ∧ ¬ S 7 s = 24 ∧ z = 0 ∧ wr S 7 g (S 2 (2 * S 7 s + f)) = u))) := by
  have hg1 := hg.1
  have hg2 := hg.2
  have hs1 := hs.1
  have hs2 := hs.2
  have hf1 := hf.1
  have hf2 := hf.2
  refine ph_of shM_ok plM rfl cat3 (Nat.le_of_ble_eq_true rfl) (fun Γ h ad C => ?_)
  refine ph_aload C dX1_fromField_0 rfl ?_
  refine ph_iload_n C dX1_fromField_1 rfl ?_
  refine ph_call C (cM_isReg hg S) kM_isRegister rfl rfl rfl (Nat.le_of_ble_eq_true rfl) dX1_fromField_2 (by decide) (by decide) (fun r_2 u_2 hp_2 => ?_)
  obtain ⟨z1, rfl, rfl, hz1⟩ := hp_2
  dsimp only [Option.toList_some, Option.toList_none, List.cons_append, List.nil_append]
  refine ph_if_eq C 25 dX1_fromField_5 (by decide) ⟨by omega, by omega⟩ (fun c_5 => ?_) (fun c_5 => ?_)
  · refine ph_iconst C dX1_fromField_25 ?_
    exact ph_iret C dX1_fromField_26 ⟨_, rfl, Or.inl ⟨by omega, rfl, rfl⟩⟩
  · refine ph_aload C dX1_fromField_8 rfl ?_
    refine ph_iload_n C dX1_fromField_9 rfl ?_
    refine ph_call C (cM_isReg hs S) kM_isRegister rfl rfl rfl (Nat.le_of_ble_eq_true rfl) dX1_fromField_10 (by decide) (by decide) (fun r_10 u_10 hp_10 => ?_)
    obtain ⟨z2, rfl, rfl, hz2⟩ := hp_10
    dsimp only [Option.toList_some, Option.toList_none, List.cons_append, List.nil_append]
    refine ph_if_eq C 25 dX1_fromField_13 (by decide) ⟨by omega, by omega⟩ (fun c_13 => ?_) (fun c_13 => ?_)
    · refine ph_iconst C dX1_fromField_25 ?_
      exact ph_iret C dX1_fromField_26 ⟨_, rfl, Or.inl ⟨by omega, rfl, rfl⟩⟩
    · refine ph_iload_n C dX1_fromField_16 rfl ?_
      refine ph_if_lt C 25 dX1_fromField_17 (by decide) ⟨by omega, by omega⟩ (fun c_17 => ?_) (fun c_17 => ?_)
      · refine ph_iconst C dX1_fromField_25 ?_
        exact ph_iret C dX1_fromField_26 ⟨_, rfl, Or.inl ⟨by omega, rfl, rfl⟩⟩
      · refine ph_iload_n C dX1_fromField_20 rfl ?_
        refine ph_iconst C dX1_fromField_21 ?_
        refine ph_icmp_le C 27 dX1_fromField_22 (by decide) ⟨by omega, by omega⟩ ⟨by omega, by omega⟩ (fun c_22 => ?_) (fun c_22 => ?_)
        · have b7 := hR.r7 (i := s) (by omega) (by omega)
          refine ph_aload C dX1_fromField_27 rfl ?_
          refine gM7 C dX1_fromField_28 ?_
          refine ph_iload_n C dX1_fromField_31 rfl ?_
          refine lM7 C (by omega) (by omega) dX1_fromField_32 ?_
          refine ph_bipush C dX1_fromField_33 (by decide) ?_
          refine ph_icmp_ne C 41 dX1_fromField_35 (by decide) ⟨by omega, by omega⟩ ⟨by omega, by omega⟩ (fun c_35 => ?_) (fun c_35 => ?_)
          · refine ph_aload C dX1_fromField_41 rfl ?_
            refine gM7 C dX1_fromField_42 ?_
            refine ph_iload_n C dX1_fromField_45 rfl ?_
            refine ph_aload C dX1_fromField_46 rfl ?_
            refine gM2 C dX1_fromField_47 ?_
            refine ph_iconst C dX1_fromField_50 ?_
            refine ph_aload C dX1_fromField_51 rfl ?_
            refine gM7 C dX1_fromField_52 ?_
            refine ph_iload_n C dX1_fromField_55 rfl ?_
            refine lM7 C (by omega) (by omega) dX1_fromField_56 ?_
            refine ph_imul C dX1_fromField_57 ?_
            refine ph_iload_n C dX1_fromField_58 rfl ?_
            refine ph_iadd C dX1_fromField_59 ?_
            refine lM2 C (by omega) (by omega) dX1_fromField_60 ?_
            refine sM7 C (by omega) (by omega) dX1_fromField_61 ?_
            refine ph_iconst C dX1_fromField_62 ?_
            exact ph_iret C dX1_fromField_63 ⟨_, rfl, Or.inr (Or.inr ⟨by omega, c_35, rfl, rfl⟩)⟩
          · refine ph_bipush C dX1_fromField_38 (by decide) ?_
            exact ph_iret C dX1_fromField_40 ⟨_, rfl, Or.inr (Or.inl ⟨by omega, c_35, rfl, rfl⟩)⟩
        · refine ph_iconst C dX1_fromField_25 ?_
          exact ph_iret C dX1_fromField_26 ⟨_, rfl, Or.inl ⟨by omega, rfl, rfl⟩⟩
theorem cM_toField {S : St} (hR : RgM S) {g s f : Int} (hg : inI g) (hs : inI s) (hf : inI f) : ph_M shM yX1_toField cX1_toField 4 (some .int) 1 [.int (iI s), .int (iI f), .int (iI g)] S (fun r u => ∃ z : Int, r = some (.int (iI z)) ∧ (((g < 0 ∨ 3 < g ∨ s < 0 ∨ 3 < s ∨ f < 0 ∨ 1 < f) ∧ z = -1 ∧ S = u) ∨ ((0 ≤ g ∧ g ≤ 3 ∧ 0 ≤ s ∧ s ≤ 3 ∧ 0 ≤ f ∧ f ≤ 1) ∧ S 7 s = 24 ∧ z = -3 ∧ S = u) ∨ ((0 ≤ g ∧ g ≤ 3 ∧ 0 ≤ s ∧ s ≤ 3 ∧ 0 ≤ f ∧ f ≤ 1) ∧ ¬ S 7 s = 24 ∧ z = 0 ∧ wr S 2 (2 * S 7 s + f) (S 7 g) = u))) := by
  have hg1 := hg.1
  have hg2 := hg.2
  have hs1 := hs.1
  have hs2 := hs.2
  have hf1 := hf.1
  have hf2 := hf.2
  refine ph_of shM_ok plM rfl cat3 (Nat.le_of_ble_eq_true rfl) (fun Γ h ad C => ?_)
  refine ph_aload C dX1_toField_0 rfl ?_
  refine ph_iload_n C dX1_toField_1 rfl ?_
  refine ph_call C (cM_isReg hg S) kM_isRegister rfl rfl rfl (Nat.le_of_ble_eq_true rfl) dX1_toField_2 (by decide) (by decide) (fun r_2 u_2 hp_2 => ?_)
  obtain ⟨z1, rfl, rfl, hz1⟩ := hp_2
  dsimp only [Option.toList_some, Option.toList_none, List.cons_append, List.nil_append]
  refine ph_if_eq C 25 dX1_toField_5 (by decide) ⟨by omega, by omega⟩ (fun c_5 => ?_) (fun c_5 => ?_)
  · refine ph_iconst C dX1_toField_25 ?_
    exact ph_iret C dX1_toField_26 ⟨_, rfl, Or.inl ⟨by omega, rfl, rfl⟩⟩
  · refine ph_aload C dX1_toField_8 rfl ?_
    refine ph_iload_n C dX1_toField_9 rfl ?_
    refine ph_call C (cM_isReg hs S) kM_isRegister rfl rfl rfl (Nat.le_of_ble_eq_true rfl) dX1_toField_10 (by decide) (by decide) (fun r_10 u_10 hp_10 => ?_)
    obtain ⟨z2, rfl, rfl, hz2⟩ := hp_10
    dsimp only [Option.toList_some, Option.toList_none, List.cons_append, List.nil_append]
    refine ph_if_eq C 25 dX1_toField_13 (by decide) ⟨by omega, by omega⟩ (fun c_13 => ?_) (fun c_13 => ?_)
    · refine ph_iconst C dX1_toField_25 ?_
      exact ph_iret C dX1_toField_26 ⟨_, rfl, Or.inl ⟨by omega, rfl, rfl⟩⟩
    · refine ph_iload_n C dX1_toField_16 rfl ?_
      refine ph_if_lt C 25 dX1_toField_17 (by decide) ⟨by omega, by omega⟩ (fun c_17 => ?_) (fun c_17 => ?_)
      · refine ph_iconst C dX1_toField_25 ?_
        exact ph_iret C dX1_toField_26 ⟨_, rfl, Or.inl ⟨by omega, rfl, rfl⟩⟩
      · refine ph_iload_n C dX1_toField_20 rfl ?_
        refine ph_iconst C dX1_toField_21 ?_
        refine ph_icmp_le C 27 dX1_toField_22 (by decide) ⟨by omega, by omega⟩ ⟨by omega, by omega⟩ (fun c_22 => ?_) (fun c_22 => ?_)
        · have b7 := hR.r7 (i := s) (by omega) (by omega)
          refine ph_aload C dX1_toField_27 rfl ?_
          refine gM7 C dX1_toField_28 ?_
          refine ph_iload_n C dX1_toField_31 rfl ?_
          refine lM7 C (by omega) (by omega) dX1_toField_32 ?_
          refine ph_bipush C dX1_toField_33 (by decide) ?_
          refine ph_icmp_ne C 41 dX1_toField_35 (by decide) ⟨by omega, by omega⟩ ⟨by omega, by omega⟩ (fun c_35 => ?_) (fun c_35 => ?_)
          · refine ph_aload C dX1_toField_41 rfl ?_
            refine gM2 C dX1_toField_42 ?_
            refine ph_iconst C dX1_toField_45 ?_
            refine ph_aload C dX1_toField_46 rfl ?_
            refine gM7 C dX1_toField_47 ?_
            refine ph_iload_n C dX1_toField_50 rfl ?_
            refine lM7 C (by omega) (by omega) dX1_toField_51 ?_
            refine ph_imul C dX1_toField_52 ?_
            refine ph_iload_n C dX1_toField_53 rfl ?_
            refine ph_iadd C dX1_toField_54 ?_
            refine ph_aload C dX1_toField_55 rfl ?_
            refine gM7 C dX1_toField_56 ?_
            refine ph_iload_n C dX1_toField_59 rfl ?_
            refine lM7 C (by omega) (by omega) dX1_toField_60 ?_
            refine sM2 C (by omega) (by omega) dX1_toField_61 ?_
            refine ph_iconst C dX1_toField_62 ?_
            exact ph_iret C dX1_toField_63 ⟨_, rfl, Or.inr (Or.inr ⟨by omega, c_35, rfl, rfl⟩)⟩
          · refine ph_bipush C dX1_toField_38 (by decide) ?_
            exact ph_iret C dX1_toField_40 ⟨_, rfl, Or.inr (Or.inl ⟨by omega, c_35, rfl, rfl⟩)⟩
        · refine ph_iconst C dX1_toField_25 ?_
          exact ph_iret C dX1_toField_26 ⟨_, rfl, Or.inl ⟨by omega, rfl, rfl⟩⟩
theorem cM_release {S : St} {g : Int} (hg : inI g) : ph_M shM yX1_release cX1_release 2 (some .int) 1 [.int (iI g)] S (fun r u => ∃ z : Int, r = some (.int (iI z)) ∧ (((g < 0 ∨ 3 < g) ∧ z = -1 ∧ S = u) ∨ ((0 ≤ g ∧ g ≤ 3) ∧ z = 0 ∧ wr S 7 g 24 = u))) := by
  have hg1 := hg.1
  have hg2 := hg.2
  refine ph_of shM_ok plM rfl cat1 (Nat.le_of_ble_eq_true rfl) (fun Γ h ad C => ?_)
  refine ph_aload C dX1_release_0 rfl ?_
  refine ph_iload_n C dX1_release_1 rfl ?_
  refine ph_call C (cM_isReg hg S) kM_isRegister rfl rfl rfl (Nat.le_of_ble_eq_true rfl) dX1_release_2 (by decide) (by decide) (fun r_2 u_2 hp_2 => ?_)
  obtain ⟨z1, rfl, rfl, hz1⟩ := hp_2
  dsimp only [Option.toList_some, Option.toList_none, List.cons_append, List.nil_append]
  refine ph_if_ne C 10 dX1_release_5 (by decide) ⟨by omega, by omega⟩ (fun c_5 => ?_) (fun c_5 => ?_)
  · refine ph_aload C dX1_release_10 rfl ?_
    refine gM7 C dX1_release_11 ?_
    refine ph_iload_n C dX1_release_14 rfl ?_
    refine ph_bipush C dX1_release_15 (by decide) ?_
    refine sM7 C (by omega) (by omega) dX1_release_17 ?_
    refine ph_iconst C dX1_release_18 ?_
    exact ph_iret C dX1_release_19 ⟨_, rfl, Or.inr ⟨by omega, rfl, rfl⟩⟩
  · refine ph_iconst C dX1_release_8 ?_
    exact ph_iret C dX1_release_9 ⟨_, rfl, Or.inl ⟨by omega, rfl, rfl⟩⟩
theorem cM_number {S : St} (hR : RgM S) {g : Int} (hg : inI g) : ph_M shM yX1_number cX1_number 2 (some .int) 1 [.int (iI g)] S (fun r u => ∃ z : Int, r = some (.int (iI z)) ∧ S = u ∧ (((g < 0 ∨ 3 < g) ∧ z = 0) ∨ ((0 ≤ g ∧ g ≤ 3) ∧ S 7 g = 24 ∧ z = 0) ∨ ((0 ≤ g ∧ g ≤ 3) ∧ S 7 g < 24 ∧ z = S 0 (S 7 g)))) := by
  have hg1 := hg.1
  have hg2 := hg.2
  refine ph_of shM_ok plM rfl cat1 (Nat.le_of_ble_eq_true rfl) (fun Γ h ad C => ?_)
  refine ph_aload C dX1_number_0 rfl ?_
  refine ph_iload_n C dX1_number_1 rfl ?_
  refine ph_call C (cM_isReg hg S) kM_isRegister rfl rfl rfl (Nat.le_of_ble_eq_true rfl) dX1_number_2 (by decide) (by decide) (fun r_2 u_2 hp_2 => ?_)
  obtain ⟨z1, rfl, rfl, hz1⟩ := hp_2
  dsimp only [Option.toList_some, Option.toList_none, List.cons_append, List.nil_append]
  refine ph_if_eq C 33 dX1_number_5 (by decide) ⟨by omega, by omega⟩ (fun c_5 => ?_) (fun c_5 => ?_)
  · refine ph_iconst C dX1_number_33 ?_
    exact ph_iret C dX1_number_34 ⟨_, rfl, rfl, by first | exact Or.inl ⟨by omega, rfl⟩ | exact Or.inr (Or.inl ⟨by omega, by omega, rfl⟩) | exact Or.inr (Or.inr ⟨by omega, by omega, rfl⟩)⟩
  · have b7 := hR.r7 (i := g) (by omega) (by omega)
    refine ph_aload C dX1_number_8 rfl ?_
    refine gM7 C dX1_number_9 ?_
    refine ph_iload_n C dX1_number_12 rfl ?_
    refine lM7 C (by omega) (by omega) dX1_number_13 ?_
    refine ph_bipush C dX1_number_14 (by decide) ?_
    refine ph_icmp_ge C 33 dX1_number_16 (by decide) ⟨by omega, by omega⟩ ⟨by omega, by omega⟩ (fun c_16 => ?_) (fun c_16 => ?_)
    · refine ph_iconst C dX1_number_33 ?_
      exact ph_iret C dX1_number_34 ⟨_, rfl, rfl, by first | exact Or.inl ⟨by omega, rfl⟩ | exact Or.inr (Or.inl ⟨by omega, by omega, rfl⟩) | exact Or.inr (Or.inr ⟨by omega, by omega, rfl⟩)⟩
    · refine ph_aload C dX1_number_19 rfl ?_
      refine gM0 C dX1_number_20 ?_
      refine ph_aload C dX1_number_23 rfl ?_
      refine gM7 C dX1_number_24 ?_
      refine ph_iload_n C dX1_number_27 rfl ?_
      refine lM7 C (by omega) (by omega) dX1_number_28 ?_
      refine lM0 C (by omega) (by omega) dX1_number_29 ?_
      refine ph_goto C 34 dX1_number_30 (by decide) ?_
      exact ph_iret C dX1_number_34 ⟨_, rfl, rfl, by first | exact Or.inl ⟨by omega, rfl⟩ | exact Or.inr (Or.inl ⟨by omega, by omega, rfl⟩) | exact Or.inr (Or.inr ⟨by omega, by omega, rfl⟩)⟩
theorem cM_setNumber {S : St} (hR : RgM S) {g v : Int} (hg : inI g) : ph_M shM yX1_setNumber cX1_setNumber 3 (some .int) 1 [.int (iI g), .int (iI v)] S (fun r u => ∃ z : Int, r = some (.int (iI z)) ∧ (((g < 0 ∨ 3 < g) ∧ z = -1 ∧ S = u) ∨ ((0 ≤ g ∧ g ≤ 3) ∧ S 7 g = 24 ∧ z = -3 ∧ S = u) ∨ ((0 ≤ g ∧ g ≤ 3) ∧ ¬ S 7 g = 24 ∧ z = 0 ∧ wr S 0 (S 7 g) v = u))) := by
  have hg1 := hg.1
  have hg2 := hg.2
  refine ph_of shM_ok plM rfl cat2 (Nat.le_of_ble_eq_true rfl) (fun Γ h ad C => ?_)
  refine ph_aload C dX1_setNumber_0 rfl ?_
  refine ph_iload_n C dX1_setNumber_1 rfl ?_
  refine ph_call C (cM_isReg hg S) kM_isRegister rfl rfl rfl (Nat.le_of_ble_eq_true rfl) dX1_setNumber_2 (by decide) (by decide) (fun r_2 u_2 hp_2 => ?_)
  obtain ⟨z1, rfl, rfl, hz1⟩ := hp_2
  dsimp only [Option.toList_some, Option.toList_none, List.cons_append, List.nil_append]
  refine ph_if_ne C 10 dX1_setNumber_5 (by decide) ⟨by omega, by omega⟩ (fun c_5 => ?_) (fun c_5 => ?_)
  · have b7 := hR.r7 (i := g) (by omega) (by omega)
    refine ph_aload C dX1_setNumber_10 rfl ?_
    refine gM7 C dX1_setNumber_11 ?_
    refine ph_iload_n C dX1_setNumber_14 rfl ?_
    refine lM7 C (by omega) (by omega) dX1_setNumber_15 ?_
    refine ph_bipush C dX1_setNumber_16 (by decide) ?_
    refine ph_icmp_ne C 24 dX1_setNumber_18 (by decide) ⟨by omega, by omega⟩ ⟨by omega, by omega⟩ (fun c_18 => ?_) (fun c_18 => ?_)
    · refine ph_aload C dX1_setNumber_24 rfl ?_
      refine gM0 C dX1_setNumber_25 ?_
      refine ph_aload C dX1_setNumber_28 rfl ?_
      refine gM7 C dX1_setNumber_29 ?_
      refine ph_iload_n C dX1_setNumber_32 rfl ?_
      refine lM7 C (by omega) (by omega) dX1_setNumber_33 ?_
      refine ph_iload_n C dX1_setNumber_34 rfl ?_
      refine sM0 C (by omega) (by omega) dX1_setNumber_35 ?_
      refine ph_iconst C dX1_setNumber_36 ?_
      exact ph_iret C dX1_setNumber_37 ⟨_, rfl, Or.inr (Or.inr ⟨by omega, c_18, rfl, rfl⟩)⟩
    · refine ph_bipush C dX1_setNumber_21 (by decide) ?_
      exact ph_iret C dX1_setNumber_23 ⟨_, rfl, Or.inr (Or.inl ⟨by omega, c_18, rfl, rfl⟩)⟩
  · refine ph_iconst C dX1_setNumber_8 ?_
    exact ph_iret C dX1_setNumber_9 ⟨_, rfl, Or.inl ⟨by omega, rfl, rfl⟩⟩
theorem cM_same {S : St} (hR : RgM S) {g q : Int} (hg : inI g) (hq : inI q) : ph_M shM yX1_same cX1_same 3 (some .boolean) 1 [.int (iI g), .int (iI q)] S (fun r u => ∃ z : Int, r = some (.int (iI z)) ∧ S = u ∧ (((g < 0 ∨ 3 < g ∨ q < 0 ∨ 3 < q) ∧ z = 0) ∨ ((0 ≤ g ∧ g ≤ 3 ∧ 0 ≤ q ∧ q ≤ 3) ∧ ((z = 1 ∧ S 7 g = S 7 q) ∨ (z = 0 ∧ ¬ S 7 g = S 7 q))))) := by
  have hg1 := hg.1
  have hg2 := hg.2
  have hq1 := hq.1
  have hq2 := hq.2
  refine ph_of shM_ok plM rfl cat2 (Nat.le_of_ble_eq_true rfl) (fun Γ h ad C => ?_)
  refine ph_aload C dX1_same_0 rfl ?_
  refine ph_iload_n C dX1_same_1 rfl ?_
  refine ph_call C (cM_isReg hg S) kM_isRegister rfl rfl rfl (Nat.le_of_ble_eq_true rfl) dX1_same_2 (by decide) (by decide) (fun r_2 u_2 hp_2 => ?_)
  obtain ⟨z1, rfl, rfl, hz1⟩ := hp_2
  dsimp only [Option.toList_some, Option.toList_none, List.cons_append, List.nil_append]
  refine ph_if_eq C 35 dX1_same_5 (by decide) ⟨by omega, by omega⟩ (fun c_5 => ?_) (fun c_5 => ?_)
  · refine ph_iconst C dX1_same_35 ?_
    exact ph_zret C (by omega) dX1_same_36 ⟨_, rfl, rfl, by omega⟩
  · refine ph_aload C dX1_same_8 rfl ?_
    refine ph_iload_n C dX1_same_9 rfl ?_
    refine ph_call C (cM_isReg hq S) kM_isRegister rfl rfl rfl (Nat.le_of_ble_eq_true rfl) dX1_same_10 (by decide) (by decide) (fun r_10 u_10 hp_10 => ?_)
    obtain ⟨z2, rfl, rfl, hz2⟩ := hp_10
    dsimp only [Option.toList_some, Option.toList_none, List.cons_append, List.nil_append]
    refine ph_if_eq C 35 dX1_same_13 (by decide) ⟨by omega, by omega⟩ (fun c_13 => ?_) (fun c_13 => ?_)
    · refine ph_iconst C dX1_same_35 ?_
      exact ph_zret C (by omega) dX1_same_36 ⟨_, rfl, rfl, by omega⟩
    · have b7 := hR.r7 (i := g) (by omega) (by omega)
      have b8 := hR.r7 (i := q) (by omega) (by omega)
      refine ph_aload C dX1_same_16 rfl ?_
      refine gM7 C dX1_same_17 ?_
      refine ph_iload_n C dX1_same_20 rfl ?_
      refine lM7 C (by omega) (by omega) dX1_same_21 ?_
      refine ph_aload C dX1_same_22 rfl ?_
      refine gM7 C dX1_same_23 ?_
      refine ph_iload_n C dX1_same_26 rfl ?_
      refine lM7 C (by omega) (by omega) dX1_same_27 ?_
      refine ph_icmp_ne C 35 dX1_same_28 (by decide) ⟨by omega, by omega⟩ ⟨by omega, by omega⟩ (fun c_28 => ?_) (fun c_28 => ?_)
      · refine ph_iconst C dX1_same_35 ?_
        exact ph_zret C (by omega) dX1_same_36 ⟨_, rfl, rfl, by omega⟩
      · refine ph_iconst C dX1_same_31 ?_
        refine ph_goto C 36 dX1_same_32 (by decide) ?_
        exact ph_zret C (by omega) dX1_same_36 ⟨_, rfl, rfl, by omega⟩
theorem cM_collect {S : St} (hR : RgM S) : ph_M shM yX1_collect cX1_collect 1 (some .int) 2 [] S (fun r u => ∃ z : Int, r = some (.int (iI z)) ∧ EqM S u ∧ RgM u ∧ z = cP (NdM S) 24) := by
  refine ph_of shM_ok plM rfl cat0 (Nat.le_of_ble_eq_true rfl) (fun Γ h ad C => ?_)
  refine ph_aload C dX1_collect_0 rfl ?_
  refine ph_call C (cM_need hR) kM_need rfl rfl rfl (Nat.le_of_ble_eq_true rfl) dX1_collect_1 (by decide) (by decide) (fun r_1 u_1 hp_1 => ?_)
  obtain ⟨z, rfl, z1, z2, z3, hz⟩ := hp_1
  dsimp only [Option.toList_some, Option.toList_none, List.cons_append, List.nil_append]
  exact ph_iret C dX1_collect_4 ⟨z, rfl, z1, z2, hz⟩
theorem cM_needed {S : St} (hR : RgM S) : ph_M shM yX1_needed cX1_needed 1 (some .int) 2 [] S (fun r u => ∃ z : Int, r = some (.int (iI z)) ∧ EqM S u ∧ RgM u ∧ z = cP (NdM S) 24) := by
  refine ph_of shM_ok plM rfl cat0 (Nat.le_of_ble_eq_true rfl) (fun Γ h ad C => ?_)
  refine ph_aload C dX1_needed_0 rfl ?_
  refine ph_call C (cM_need hR) kM_need rfl rfl rfl (Nat.le_of_ble_eq_true rfl) dX1_needed_1 (by decide) (by decide) (fun r_1 u_1 hp_1 => ?_)
  obtain ⟨z, rfl, z1, z2, z3, hz⟩ := hp_1
  dsimp only [Option.toList_some, Option.toList_none, List.cons_append, List.nil_append]
  exact ph_iret C dX1_needed_4 ⟨z, rfl, z1, z2, hz⟩
def mkM (T : St) (fr g v : Int) : St := wr (wr (wr (wr (wr T 0 fr v) 2 (2 * fr) 24) 2 (2 * fr + 1) 24) 4 fr 0) 7 g fr
theorem mkm_loop {Γ : Cx} {h : Nat} {ad : Nat → Nat} {post : Option Value → St → Prop} {S : St} (C : ph_C shM Γ h ad cX1_make 5 (some .int) 2) (hR : RgM S) {g v : Int} (hn : ¬ cP (sn S) 24 = 24) (kk : ∀ fr k, 0 ≤ fr → fr < 24 → ¬ sn S fr → ph_V shM Γ h ad post S 52 [.ref h, .int (iI g), .int (iI v), .int (iI fr), .int (iI k)] []) : ∀ (n : Nat) (fr : Int), n ≤ 24 → 0 ≤ fr → fr < 24 → ((∀ j, (n : Int) - 1 < j → j < 24 → sn S j) ∨ ¬ sn S fr) → ph_V shM Γ h ad post S 28 [.ref h, .int (iI g), .int (iI v), .int (iI fr), .int (iI ((n : Int) - 1))] [] := by
  intro n
  induction n with
  | zero =>
    intro fr hn0 h0 h1 hs
    have hs2 : ¬ sn S fr := by
      rcases hs with hs | hs
      · have h2 : cP (sn S) 24 = cP (fun _ => True) 24 := cP_congr (fun j j0 j1 => ⟨fun _ => trivial, fun _ => hs j (by omega) (by omega)⟩)
        exact absurd (h2.trans cP_all) hn
      · exact hs
    refine ph_iload C dX1_make_28 rfl ?_
    refine ph_if_lt C 52 dX1_make_30 (by decide) ⟨by omega, by omega⟩ (fun c_30 => ?_) (fun c_30 => ?_)
    · exact kk fr _ h0 h1 hs2
    · exact absurd c_30 (by omega)
  | succ n ih =>
    intro fr hn0 h0 h1 hs
    rw [show (((n + 1 : Nat) : Int) - 1) = (n : Int) by omega] at hs ⊢
    have r8 := hR.r8 (i := (n : Int)) (by omega) (by omega)
    refine ph_iload C dX1_make_28 rfl ?_
    refine ph_if_lt C 52 dX1_make_30 (by decide) ⟨by omega, by omega⟩ (fun c_30 => ?_) (fun c_30 => ?_)
    · exact absurd c_30 (by omega)
    · refine ph_aload C dX1_make_33 rfl ?_
      refine gM8 C dX1_make_34 ?_
      refine ph_iload C dX1_make_37 rfl ?_
      refine lM8 C (by omega) (by omega) dX1_make_39 ?_
      refine ph_if_ne C 46 dX1_make_40 (by decide) ⟨by omega, by omega⟩ (fun c_40 => ?_) (fun c_40 => ?_)
      · refine ph_iinc (L' := [_, _, _, _, _]) C dX1_make_46 rfl (by decide) rfl ?_
        refine ph_goto C 28 dX1_make_49 (by decide) ?_
        rw [show (n : Int) + -1 = (n : Int) - 1 by omega]
        first | exact ih fr (by omega) h0 h1 (hs.elim (fun w => Or.inl (fun j j0 j1 => by by_cases e : j = (n : Int); exact ⟨by omega, j1, by rw [e]; omega⟩; exact w j (by omega) j1)) Or.inr) | exact ih (n : Int) (by omega) (by omega) (by omega) (Or.inr (fun w => by have := w.2.2; omega))
      · refine ph_iload C dX1_make_43 rfl ?_
        refine ph_istore_n (L' := [_, _, _, _, _]) C dX1_make_45 (by decide) (Nat.le_of_ble_eq_true rfl) rfl ?_
        refine ph_iinc (L' := [_, _, _, _, _]) C dX1_make_46 rfl (by decide) rfl ?_
        refine ph_goto C 28 dX1_make_49 (by decide) ?_
        rw [show (n : Int) + -1 = (n : Int) - 1 by omega]
        first | exact ih fr (by omega) h0 h1 (hs.elim (fun w => Or.inl (fun j j0 j1 => by by_cases e : j = (n : Int); exact ⟨by omega, j1, by rw [e]; omega⟩; exact w j (by omega) j1)) Or.inr) | exact ih (n : Int) (by omega) (by omega) (by omega) (Or.inr (fun w => by have := w.2.2; omega))
theorem cM_make {S : St} (hR : RgM S) {g v : Int} (hg : inI g) : ph_M shM yX1_make cX1_make 5 (some .int) 2 [.int (iI g), .int (iI v)] S (fun r u => ∃ z : Int, r = some (.int (iI z)) ∧ (((g < 0 ∨ 3 < g) ∧ z = -1 ∧ S = u) ∨ ((0 ≤ g ∧ g ≤ 3) ∧ cP (NdM S) 24 = 24 ∧ z = -2 ∧ EqM S u ∧ RgM u) ∨ ((0 ≤ g ∧ g ≤ 3) ∧ ¬ cP (NdM S) 24 = 24 ∧ z = 0 ∧ ∃ (T : St) (fr : Int), EqM S T ∧ RgM T ∧ 0 ≤ fr ∧ fr < 24 ∧ ¬ NdM S fr ∧ mkM T fr g v = u))) := by
  have hg1 := hg.1
  have hg2 := hg.2
  have hcl := cP_le (NdM S) 24
  refine ph_of shM_ok plM rfl cat2 (Nat.le_of_ble_eq_true rfl) (fun Γ h ad C => ?_)
  refine ph_aload C dX1_make_0 rfl ?_
  refine ph_iload_n C dX1_make_1 rfl ?_
  refine ph_call C (cM_isReg hg S) kM_isRegister rfl rfl rfl (Nat.le_of_ble_eq_true rfl) dX1_make_2 (by decide) (by decide) (fun r_2 u_2 hp_2 => ?_)
  obtain ⟨z1, rfl, rfl, hz1⟩ := hp_2
  dsimp only [Option.toList_some, Option.toList_none, List.cons_append, List.nil_append]
  refine ph_if_ne C 10 dX1_make_5 (by decide) ⟨by omega, by omega⟩ (fun c_5 => ?_) (fun c_5 => ?_)
  · refine ph_aload C dX1_make_10 rfl ?_
    refine ph_call C (cM_need hR) kM_need rfl rfl rfl (Nat.le_of_ble_eq_true rfl) dX1_make_11 (by decide) (by decide) (fun r_11 u_11 hp_11 => ?_)
    obtain ⟨z, rfl, y1, y2, y3, hz⟩ := hp_11
    dsimp only [Option.toList_some, Option.toList_none, List.cons_append, List.nil_append]
    refine ph_bipush C dX1_make_14 (by decide) ?_
    refine ph_icmp_ne C 22 dX1_make_16 (by decide) ⟨by omega, by omega⟩ ⟨by omega, by omega⟩ (fun c_16 => ?_) (fun c_16 => ?_)
    · refine ph_iconst C dX1_make_22 ?_
      refine ph_istore_n (L' := [_, _, _, _]) C dX1_make_23 (by decide) (Nat.le_of_ble_eq_true rfl) rfl ?_
      refine ph_bipush C dX1_make_24 (by decide) ?_
      refine ph_istore (L' := [_, _, _, _, _]) C dX1_make_26 (by decide) (Nat.le_of_ble_eq_true rfl) rfl ?_
      have hcu : ¬ cP (sn u_11) 24 = 24 := by rw [cP_congr (fun j _ _ => y3 j), ← hz]; exact c_16
      refine mkm_loop C y2 hcu (fun fr k h0 h1 hs => ?_) 24 0 (by omega) (by omega) (by omega) (Or.inl (fun j j0 j1 => by omega))
      have hs2 : ¬ NdM S fr := fun w => hs ((y3 fr).mpr w)
      refine ph_aload C dX1_make_52 rfl ?_
      refine gM0 C dX1_make_53 ?_
      refine ph_iload_n C dX1_make_56 rfl ?_
      refine ph_iload_n C dX1_make_57 rfl ?_
      refine sM0 C (by omega) (by omega) dX1_make_58 ?_
      refine ph_aload C dX1_make_59 rfl ?_
      refine gM2 C dX1_make_60 ?_
      refine ph_iconst C dX1_make_63 ?_
      refine ph_iload_n C dX1_make_64 rfl ?_
      refine ph_imul C dX1_make_65 ?_
      refine ph_bipush C dX1_make_66 (by decide) ?_
      refine sM2 C (by omega) (by omega) dX1_make_68 ?_
      refine ph_aload C dX1_make_69 rfl ?_
      refine gM2 C dX1_make_70 ?_
      refine ph_iconst C dX1_make_73 ?_
      refine ph_iload_n C dX1_make_74 rfl ?_
      refine ph_imul C dX1_make_75 ?_
      refine ph_iconst C dX1_make_76 ?_
      refine ph_iadd C dX1_make_77 ?_
      refine ph_bipush C dX1_make_78 (by decide) ?_
      refine sM2 C (by omega) (by omega) dX1_make_80 ?_
      refine ph_aload C dX1_make_81 rfl ?_
      refine gM4 C dX1_make_82 ?_
      refine ph_iload_n C dX1_make_85 rfl ?_
      refine ph_iconst C dX1_make_86 ?_
      refine sM4 C (by omega) (by omega) (by omega) dX1_make_87 ?_
      refine ph_aload C dX1_make_88 rfl ?_
      refine gM7 C dX1_make_89 ?_
      refine ph_iload_n C dX1_make_92 rfl ?_
      refine ph_iload_n C dX1_make_93 rfl ?_
      refine sM7 C (by omega) (by omega) dX1_make_94 ?_
      refine ph_iconst C dX1_make_95 ?_
      exact ph_iret C dX1_make_96 ⟨_, rfl, Or.inr (Or.inr ⟨by omega, by omega, rfl, u_11, fr, y1, y2, h0, h1, hs2, rfl⟩)⟩
    · refine ph_bipush C dX1_make_19 (by decide) ?_
      exact ph_iret C dX1_make_21 ⟨_, rfl, Or.inr (Or.inl ⟨by omega, by omega, rfl, y1, y2⟩)⟩
  · refine ph_iconst C dX1_make_8 ?_
    exact ph_iret C dX1_make_9 ⟨_, rfl, Or.inl ⟨by omega, rfl, rfl⟩⟩
end
section
set_option maxRecDepth 100000
theorem mp_wr {X : St} {a b : Nat} {m i v : Int} {g : Int → Int} (hab : a ≠ b) : wr (mp X b m g) a i v = mp (wr X a i v) b m g := by
  funext k j
  by_cases ha : k = a
  · subst ha
    rw [mp_k hab]
    by_cases hi : j = i
    · subst hi; rw [wr_s, wr_s]
    · rw [wr_i hi, wr_i hi, mp_k hab]
  · rw [wr_k ha]
    by_cases hb : k = b
    · subst hb
      by_cases hj : 0 ≤ j ∧ j < m
      · rw [mp_in hj.1 hj.2, mp_in hj.1 hj.2]
      · rw [mp_out (by omega), mp_out (by omega), wr_k ha]
    · rw [mp_k hb, mp_k hb, wr_k ha]
theorem mp2_s {S : St} {a b : Nat} {n v w : Int} {f g : Int → Int} (hab : a ≠ b) (h : 0 ≤ n) (hv : v = f n) (hw : w = g n) : wr (wr (mp (mp S a n f) b n g) a n v) b n w = mp (mp S a (n + 1) f) b (n + 1) g := by
  rw [mp_wr hab, mp_s h hv, mp_s h hw]
def sv1 (S : St) : St := mp (mp S 1 24 (S 0)) 4 24 (fun _ => 1)
def sv2 (S : St) : St := mp (sv1 S) 3 48 (sv1 S 2)
def svM (S : St) : St := mp (sv2 S) 6 3 (sv2 S 5)
def bk0 (S : St) (k : Int) : Int := if S 4 k = 0 then S 0 k else S 1 k
def bkf (S : St) (k : Int) : Int := if S 4 (k / 2) = 0 then S 2 k else S 3 k
theorem bk0_n {S : St} {k : Int} (h : S 4 k = 0) : bk0 S k = S 0 k := by unfold bk0; rw [if_pos h]
theorem bk0_y {S : St} {k : Int} (h : ¬ S 4 k = 0) : bk0 S k = S 1 k := by unfold bk0; rw [if_neg h]
theorem bkf_n {S : St} {k : Int} (h : S 4 (k / 2) = 0) : bkf S k = S 2 k := by unfold bkf; rw [if_pos h]
theorem bkf_y {S : St} {k : Int} (h : ¬ S 4 (k / 2) = 0) : bkf S k = S 3 k := by unfold bkf; rw [if_neg h]
def bk1 (S : St) : St := mp S 0 24 (bk0 S)
def bk2 (S : St) : St := mp (bk1 S) 2 48 (bkf (bk1 S))
def bkM (S : St) : St := mp (bk2 S) 5 3 (bk2 S 6)
theorem sv1_ok {S : St} (hR : RgM S) : RgM (sv1 S) := (hR.fill (fun i h0 h1 => hR.r0 h0 h1)).fill (fun _ _ _ => ⟨by decide, by decide⟩)
theorem sv2_ok {S : St} (hR : RgM S) : RgM (sv2 S) := (sv1_ok hR).fill (fun i h0 h1 => (sv1_ok hR).r2 h0 h1)
theorem svM_ok {S : St} (hR : RgM S) : RgM (svM S) := (sv2_ok hR).fill (fun i h0 h1 => (sv2_ok hR).r5 h0 h1)
theorem bk1_ok {S : St} (hR : RgM S) : RgM (bk1 S) := hR.fill (fun i h0 h1 => by
  by_cases h : S 4 i = 0
  · rw [bk0_n h]; exact hR.r0 h0 h1
  · rw [bk0_y h]; exact hR.r1 h0 h1)
theorem bk2_ok {S : St} (hR : RgM S) : RgM (bk2 S) := (bk1_ok hR).fill (fun i h0 h1 => by
  by_cases h : bk1 S 4 (i / 2) = 0
  · rw [bkf_n h]; exact (bk1_ok hR).r2 h0 h1
  · rw [bkf_y h]; exact (bk1_ok hR).r3 h0 h1)
theorem bkM_ok {S : St} (hR : RgM S) : RgM (bkM S) := (bk2_ok hR).fill (fun i h0 h1 => (bk2_ok hR).r6 h0 h1)
theorem sv_l1 {Γ : Cx} {h : Nat} {ad : Nat → Nat} {post : Option Value → St → Prop} {S : St} (C : ph_C shM Γ h ad cX1_save 2 (some .int) 2) (hR : RgM S) (kk : ph_V shM Γ h ad post (sv1 S) 33 [.ref h, .int (iI 24)] []) : ∀ (n : Nat) (i : Int), i + n = 24 → 0 ≤ i → ph_V shM Γ h ad post (mp (mp S 1 i (S 0)) 4 i (fun _ => 1)) 2 [.ref h, .int (iI i)] [] := by
  intro n
  induction n with
  | zero =>
    intro i hi h0
    obtain rfl : i = 24 := by omega
    refine ph_iload_n C dX1_save_2 rfl ?_
    refine ph_bipush C dX1_save_3 (by decide) ?_
    refine ph_icmp_ge C 33 dX1_save_5 (by decide) ⟨by omega, by omega⟩ ⟨by omega, by omega⟩ (fun c_5 => ?_) (fun c_5 => ?_)
    · exact kk
    · exact absurd c_5 (by omega)
  | succ n ih =>
    intro i hi h0
    refine ph_iload_n C dX1_save_2 rfl ?_
    refine ph_bipush C dX1_save_3 (by decide) ?_
    refine ph_icmp_ge C 33 dX1_save_5 (by decide) ⟨by omega, by omega⟩ ⟨by omega, by omega⟩ (fun c_5 => ?_) (fun c_5 => ?_)
    · exact absurd c_5 (by omega)
    · refine ph_aload C dX1_save_8 rfl ?_
      refine gM1 C dX1_save_9 ?_
      refine ph_iload_n C dX1_save_12 rfl ?_
      refine ph_aload C dX1_save_13 rfl ?_
      refine gM0 C dX1_save_14 ?_
      refine ph_iload_n C dX1_save_17 rfl ?_
      refine lM0 C (by omega) (by omega) dX1_save_18 ?_
      simp only [mp_k, ne_eq, reduceCtorEq, not_false_eq_true, Nat.reduceEqDiff]
      refine sM1 C (by omega) (by omega) dX1_save_19 ?_
      refine ph_aload C dX1_save_20 rfl ?_
      refine gM4 C dX1_save_21 ?_
      refine ph_iload_n C dX1_save_24 rfl ?_
      refine ph_iconst C dX1_save_25 ?_
      refine sM4 C (by omega) (by omega) (by omega) dX1_save_26 ?_
      refine ph_iinc (L' := [_, _]) C dX1_save_27 rfl (by decide) rfl ?_
      refine ph_goto C 2 dX1_save_30 (by decide) ?_
      rw [mp2_s (by decide) h0 rfl rfl]
      exact ih (i + 1) (by omega) (by omega)
theorem sv_l2 {Γ : Cx} {h : Nat} {ad : Nat → Nat} {post : Option Value → St → Prop} {S : St} (C : ph_C shM Γ h ad cX1_save 2 (some .int) 2) (kk : ph_V shM Γ h ad post (mp S 3 48 (S 2)) 59 [.ref h, .int (iI 48)] []) : ∀ (n : Nat) (i : Int), i + n = 48 → 0 ≤ i → ph_V shM Γ h ad post (mp S 3 i (S 2)) 35 [.ref h, .int (iI i)] [] := by
  intro n
  induction n with
  | zero =>
    intro i hi h0
    obtain rfl : i = 48 := by omega
    refine ph_iload_n C dX1_save_35 rfl ?_
    refine ph_bipush C dX1_save_36 (by decide) ?_
    refine ph_icmp_ge C 59 dX1_save_38 (by decide) ⟨by omega, by omega⟩ ⟨by omega, by omega⟩ (fun c_38 => ?_) (fun c_38 => ?_)
    · exact kk
    · exact absurd c_38 (by omega)
  | succ n ih =>
    intro i hi h0
    refine ph_iload_n C dX1_save_35 rfl ?_
    refine ph_bipush C dX1_save_36 (by decide) ?_
    refine ph_icmp_ge C 59 dX1_save_38 (by decide) ⟨by omega, by omega⟩ ⟨by omega, by omega⟩ (fun c_38 => ?_) (fun c_38 => ?_)
    · exact absurd c_38 (by omega)
    · refine ph_aload C dX1_save_41 rfl ?_
      refine gM3 C dX1_save_42 ?_
      refine ph_iload_n C dX1_save_45 rfl ?_
      refine ph_aload C dX1_save_46 rfl ?_
      refine gM2 C dX1_save_47 ?_
      refine ph_iload_n C dX1_save_50 rfl ?_
      refine lM2 C (by omega) (by omega) dX1_save_51 ?_
      simp only [mp_k, ne_eq, reduceCtorEq, not_false_eq_true, Nat.reduceEqDiff]
      refine sM3 C (by omega) (by omega) dX1_save_52 ?_
      refine ph_iinc (L' := [_, _]) C dX1_save_53 rfl (by decide) rfl ?_
      refine ph_goto C 35 dX1_save_56 (by decide) ?_
      rw [mp_s h0 rfl]
      exact ih (i + 1) (by omega) (by omega)
theorem sv_l3 {Γ : Cx} {h : Nat} {ad : Nat → Nat} {post : Option Value → St → Prop} {S : St} (C : ph_C shM Γ h ad cX1_save 2 (some .int) 2) (kk : ph_V shM Γ h ad post (mp S 6 3 (S 5)) 84 [.ref h, .int (iI 3)] []) : ∀ (n : Nat) (i : Int), i + n = 3 → 0 ≤ i → ph_V shM Γ h ad post (mp S 6 i (S 5)) 61 [.ref h, .int (iI i)] [] := by
  intro n
  induction n with
  | zero =>
    intro i hi h0
    obtain rfl : i = 3 := by omega
    refine ph_iload_n C dX1_save_61 rfl ?_
    refine ph_iconst C dX1_save_62 ?_
    refine ph_icmp_ge C 84 dX1_save_63 (by decide) ⟨by omega, by omega⟩ ⟨by omega, by omega⟩ (fun c_63 => ?_) (fun c_63 => ?_)
    · exact kk
    · exact absurd c_63 (by omega)
  | succ n ih =>
    intro i hi h0
    refine ph_iload_n C dX1_save_61 rfl ?_
    refine ph_iconst C dX1_save_62 ?_
    refine ph_icmp_ge C 84 dX1_save_63 (by decide) ⟨by omega, by omega⟩ ⟨by omega, by omega⟩ (fun c_63 => ?_) (fun c_63 => ?_)
    · exact absurd c_63 (by omega)
    · refine ph_aload C dX1_save_66 rfl ?_
      refine gM6 C dX1_save_67 ?_
      refine ph_iload_n C dX1_save_70 rfl ?_
      refine ph_aload C dX1_save_71 rfl ?_
      refine gM5 C dX1_save_72 ?_
      refine ph_iload_n C dX1_save_75 rfl ?_
      refine lM5 C (by omega) (by omega) dX1_save_76 ?_
      simp only [mp_k, ne_eq, reduceCtorEq, not_false_eq_true, Nat.reduceEqDiff]
      refine sM6 C (by omega) (by omega) dX1_save_77 ?_
      refine ph_iinc (L' := [_, _]) C dX1_save_78 rfl (by decide) rfl ?_
      refine ph_goto C 61 dX1_save_81 (by decide) ?_
      rw [mp_s h0 rfl]
      exact ih (i + 1) (by omega) (by omega)
theorem cM_save {S : St} (hR : RgM S) : ph_M shM yX1_save cX1_save 2 (some .int) 2 [] S (fun r u => ∃ z : Int, r = some (.int (iI z)) ∧ EqM (svM S) u ∧ RgM u ∧ z = cP (RdM (svM S)) 24) := by
  have hk := svM_ok hR
  refine ph_of shM_ok plM rfl cat0 (Nat.le_of_ble_eq_true rfl) (fun Γ h ad C => ?_)
  refine ph_iconst C dX1_save_0 ?_
  refine ph_istore_n (L' := [_, _]) C dX1_save_1 (by decide) (Nat.le_of_ble_eq_true rfl) rfl ?_
  refine ph_tab (show S = mp (mp S 1 0 (S 0)) 4 0 (fun _ => 1) by rw [mp_0, mp_0]) ?_
  refine sv_l1 C hR ?_ 24 0 (by omega) (by omega)
  refine ph_iconst C dX1_save_33 ?_
  refine ph_istore_n (L' := [_, _]) C dX1_save_34 (by decide) (Nat.le_of_ble_eq_true rfl) rfl ?_
  refine ph_tab (mp_0 (k := 3) (f := sv1 S 2)).symm ?_
  refine sv_l2 C ?_ 48 0 (by omega) (by omega)
  refine ph_tab (show _ = sv2 S from rfl) ?_
  refine ph_iconst C dX1_save_59 ?_
  refine ph_istore_n (L' := [_, _]) C dX1_save_60 (by decide) (Nat.le_of_ble_eq_true rfl) rfl ?_
  refine ph_tab (mp_0 (k := 6) (f := sv2 S 5)).symm ?_
  refine sv_l3 C ?_ 3 0 (by omega) (by omega)
  refine ph_tab (show _ = svM S from rfl) ?_
  refine ph_aload C dX1_save_84 rfl ?_
  refine ph_call C (cM_fromRoots hk) kM_fromRoots rfl rfl rfl (Nat.le_of_ble_eq_true rfl) dX1_save_85 (by decide) (by decide) (fun r_85 u_85 hp_85 => ?_)
  obtain ⟨z, rfl, z1, z2, hz⟩ := hp_85
  dsimp only [Option.toList_some, Option.toList_none, List.cons_append, List.nil_append]
  exact ph_iret C dX1_save_88 ⟨z, rfl, z1, z2, hz⟩
theorem bk_l1 {Γ : Cx} {h : Nat} {ad : Nat → Nat} {post : Option Value → St → Prop} {S : St} (C : ph_C shM Γ h ad cX1_back 2 (some .int) 2) (hR : RgM S) (kk : ph_V shM Γ h ad post (mp S 0 24 (bk0 S)) 35 [.ref h, .int (iI 24)] []) : ∀ (n : Nat) (i : Int), i + n = 24 → 0 ≤ i → ph_V shM Γ h ad post (mp S 0 i (bk0 S)) 2 [.ref h, .int (iI i)] [] := by
  intro n
  induction n with
  | zero =>
    intro i hi h0
    obtain rfl : i = 24 := by omega
    refine ph_iload_n C dX1_back_2 rfl ?_
    refine ph_bipush C dX1_back_3 (by decide) ?_
    refine ph_icmp_ge C 35 dX1_back_5 (by decide) ⟨by omega, by omega⟩ ⟨by omega, by omega⟩ (fun c_5 => ?_) (fun c_5 => ?_)
    · exact kk
    · exact absurd c_5 (by omega)
  | succ n ih =>
    intro i hi h0
    have r4 := hR.r4 (i := i) h0 (by omega)
    refine ph_iload_n C dX1_back_2 rfl ?_
    refine ph_bipush C dX1_back_3 (by decide) ?_
    refine ph_icmp_ge C 35 dX1_back_5 (by decide) ⟨by omega, by omega⟩ ⟨by omega, by omega⟩ (fun c_5 => ?_) (fun c_5 => ?_)
    · exact absurd c_5 (by omega)
    · have nxt : ph_V shM Γ h ad post (mp S 0 (i + 1) (bk0 S)) 29 [.ref h, .int (iI i)] [] := by
        refine ph_iinc (L' := [_, _]) C dX1_back_29 rfl (by decide) rfl ?_
        refine ph_goto C 2 dX1_back_32 (by decide) ?_
        exact ih (i + 1) (by omega) (by omega)
      refine ph_aload C dX1_back_8 rfl ?_
      refine gM4 C dX1_back_9 ?_
      refine ph_iload_n C dX1_back_12 rfl ?_
      refine lM4 C (by omega) (by omega) dX1_back_13 ?_
      simp only [mp_k, ne_eq, reduceCtorEq, not_false_eq_true, Nat.reduceEqDiff]
      refine ph_if_eq C 29 dX1_back_14 (by decide) ⟨by omega, by omega⟩ (fun c_14 => ?_) (fun c_14 => ?_)
      · first | (rw [← mp_skip h0 (bk0_n c_14).symm] at nxt; exact nxt) | (rw [mp_s h0 (bk0_y c_14).symm]; exact nxt)
      · refine ph_aload C dX1_back_17 rfl ?_
        refine gM0 C dX1_back_18 ?_
        refine ph_iload_n C dX1_back_21 rfl ?_
        refine ph_aload C dX1_back_22 rfl ?_
        refine gM1 C dX1_back_23 ?_
        refine ph_iload_n C dX1_back_26 rfl ?_
        refine lM1 C (by omega) (by omega) dX1_back_27 ?_
        simp only [mp_k, ne_eq, reduceCtorEq, not_false_eq_true, Nat.reduceEqDiff]
        refine sM0 C (by omega) (by omega) dX1_back_28 ?_
        first | (rw [← mp_skip h0 (bk0_n c_14).symm] at nxt; exact nxt) | (rw [mp_s h0 (bk0_y c_14).symm]; exact nxt)
theorem bk_l2 {Γ : Cx} {h : Nat} {ad : Nat → Nat} {post : Option Value → St → Prop} {S : St} (C : ph_C shM Γ h ad cX1_back 2 (some .int) 2) (hR : RgM S) (kk : ph_V shM Γ h ad post (mp S 2 48 (bkf S)) 72 [.ref h, .int (iI 48)] []) : ∀ (n : Nat) (i : Int), i + n = 48 → 0 ≤ i → ph_V shM Γ h ad post (mp S 2 i (bkf S)) 37 [.ref h, .int (iI i)] [] := by
  intro n
  induction n with
  | zero =>
    intro i hi h0
    obtain rfl : i = 48 := by omega
    refine ph_iload_n C dX1_back_37 rfl ?_
    refine ph_bipush C dX1_back_38 (by decide) ?_
    refine ph_icmp_ge C 72 dX1_back_40 (by decide) ⟨by omega, by omega⟩ ⟨by omega, by omega⟩ (fun c_40 => ?_) (fun c_40 => ?_)
    · exact kk
    · exact absurd c_40 (by omega)
  | succ n ih =>
    intro i hi h0
    have r4 := hR.r4 (i := i / 2) (by omega) (by omega)
    refine ph_iload_n C dX1_back_37 rfl ?_
    refine ph_bipush C dX1_back_38 (by decide) ?_
    refine ph_icmp_ge C 72 dX1_back_40 (by decide) ⟨by omega, by omega⟩ ⟨by omega, by omega⟩ (fun c_40 => ?_) (fun c_40 => ?_)
    · exact absurd c_40 (by omega)
    · have nxt : ph_V shM Γ h ad post (mp S 2 (i + 1) (bkf S)) 66 [.ref h, .int (iI i)] [] := by
        refine ph_iinc (L' := [_, _]) C dX1_back_66 rfl (by decide) rfl ?_
        refine ph_goto C 37 dX1_back_69 (by decide) ?_
        exact ih (i + 1) (by omega) (by omega)
      refine ph_aload C dX1_back_43 rfl ?_
      refine gM4 C dX1_back_44 ?_
      refine ph_iload_n C dX1_back_47 rfl ?_
      refine ph_iconst C dX1_back_48 ?_
      refine ph_idiv C dX1_back_49 (by omega) (by omega) (by decide) (by decide) ?_
      refine lM4 C (by omega) (by omega) dX1_back_50 ?_
      simp only [mp_k, ne_eq, reduceCtorEq, not_false_eq_true, Nat.reduceEqDiff]
      refine ph_if_eq C 66 dX1_back_51 (by decide) ⟨by omega, by omega⟩ (fun c_51 => ?_) (fun c_51 => ?_)
      · first | (rw [← mp_skip h0 (bkf_n c_51).symm] at nxt; exact nxt) | (rw [mp_s h0 (bkf_y c_51).symm]; exact nxt)
      · refine ph_aload C dX1_back_54 rfl ?_
        refine gM2 C dX1_back_55 ?_
        refine ph_iload_n C dX1_back_58 rfl ?_
        refine ph_aload C dX1_back_59 rfl ?_
        refine gM3 C dX1_back_60 ?_
        refine ph_iload_n C dX1_back_63 rfl ?_
        refine lM3 C (by omega) (by omega) dX1_back_64 ?_
        simp only [mp_k, ne_eq, reduceCtorEq, not_false_eq_true, Nat.reduceEqDiff]
        refine sM2 C (by omega) (by omega) dX1_back_65 ?_
        first | (rw [← mp_skip h0 (bkf_n c_51).symm] at nxt; exact nxt) | (rw [mp_s h0 (bkf_y c_51).symm]; exact nxt)
theorem bk_l3 {Γ : Cx} {h : Nat} {ad : Nat → Nat} {post : Option Value → St → Prop} {S : St} (C : ph_C shM Γ h ad cX1_back 2 (some .int) 2) (kk : ph_V shM Γ h ad post (mp S 5 3 (S 6)) 97 [.ref h, .int (iI 3)] []) : ∀ (n : Nat) (i : Int), i + n = 3 → 0 ≤ i → ph_V shM Γ h ad post (mp S 5 i (S 6)) 74 [.ref h, .int (iI i)] [] := by
  intro n
  induction n with
  | zero =>
    intro i hi h0
    obtain rfl : i = 3 := by omega
    refine ph_iload_n C dX1_back_74 rfl ?_
    refine ph_iconst C dX1_back_75 ?_
    refine ph_icmp_ge C 97 dX1_back_76 (by decide) ⟨by omega, by omega⟩ ⟨by omega, by omega⟩ (fun c_76 => ?_) (fun c_76 => ?_)
    · exact kk
    · exact absurd c_76 (by omega)
  | succ n ih =>
    intro i hi h0
    refine ph_iload_n C dX1_back_74 rfl ?_
    refine ph_iconst C dX1_back_75 ?_
    refine ph_icmp_ge C 97 dX1_back_76 (by decide) ⟨by omega, by omega⟩ ⟨by omega, by omega⟩ (fun c_76 => ?_) (fun c_76 => ?_)
    · exact absurd c_76 (by omega)
    · refine ph_aload C dX1_back_79 rfl ?_
      refine gM5 C dX1_back_80 ?_
      refine ph_iload_n C dX1_back_83 rfl ?_
      refine ph_aload C dX1_back_84 rfl ?_
      refine gM6 C dX1_back_85 ?_
      refine ph_iload_n C dX1_back_88 rfl ?_
      refine lM6 C (by omega) (by omega) dX1_back_89 ?_
      simp only [mp_k, ne_eq, reduceCtorEq, not_false_eq_true, Nat.reduceEqDiff]
      refine sM5 C (by omega) (by omega) dX1_back_90 ?_
      refine ph_iinc (L' := [_, _]) C dX1_back_91 rfl (by decide) rfl ?_
      refine ph_goto C 74 dX1_back_94 (by decide) ?_
      rw [mp_s h0 rfl]
      exact ih (i + 1) (by omega) (by omega)
theorem cM_back {S : St} (hR : RgM S) : ph_M shM yX1_back cX1_back 2 (some .int) 2 [] S (fun r u => ∃ z : Int, r = some (.int (iI z)) ∧ EqM (bkM S) u ∧ RgM u ∧ z = cP (RdM (bkM S)) 24) := by
  have hk := bkM_ok hR
  refine ph_of shM_ok plM rfl cat0 (Nat.le_of_ble_eq_true rfl) (fun Γ h ad C => ?_)
  refine ph_iconst C dX1_back_0 ?_
  refine ph_istore_n (L' := [_, _]) C dX1_back_1 (by decide) (Nat.le_of_ble_eq_true rfl) rfl ?_
  refine ph_tab (mp_0 (k := 0) (f := bk0 S)).symm ?_
  refine bk_l1 C hR ?_ 24 0 (by omega) (by omega)
  refine ph_tab (show _ = bk1 S from rfl) ?_
  refine ph_iconst C dX1_back_35 ?_
  refine ph_istore_n (L' := [_, _]) C dX1_back_36 (by decide) (Nat.le_of_ble_eq_true rfl) rfl ?_
  refine ph_tab (mp_0 (k := 2) (f := bkf (bk1 S))).symm ?_
  refine bk_l2 C (bk1_ok hR) ?_ 48 0 (by omega) (by omega)
  refine ph_tab (show _ = bk2 S from rfl) ?_
  refine ph_iconst C dX1_back_72 ?_
  refine ph_istore_n (L' := [_, _]) C dX1_back_73 (by decide) (Nat.le_of_ble_eq_true rfl) rfl ?_
  refine ph_tab (mp_0 (k := 5) (f := bk2 S 6)).symm ?_
  refine bk_l3 C ?_ 3 0 (by omega) (by omega)
  refine ph_tab (show _ = bkM S from rfl) ?_
  refine ph_aload C dX1_back_97 rfl ?_
  refine ph_call C (cM_fromRoots hk) kM_fromRoots rfl rfl rfl (Nat.le_of_ble_eq_true rfl) dX1_back_98 (by decide) (by decide) (fun r_98 u_98 hp_98 => ?_)
  obtain ⟨z, rfl, z1, z2, hz⟩ := hp_98
  dsimp only [Option.toList_some, Option.toList_none, List.cons_append, List.nil_append]
  exact ph_iret C dX1_back_101 ⟨z, rfl, z1, z2, hz⟩
def rg24 (S : St) : St := mp S 7 4 (fun _ => 24)
/-- what a crash of the reference leaves -/
def CR (T u : St) (z : Int) : Prop := EqM (bkM (rg24 T)) u ∧ RgM u ∧ z = cP (RdM (bkM (rg24 T))) 24
theorem cr_l {Γ : Cx} {h : Nat} {ad : Nat → Nat} {post : Option Value → St → Prop} {S : St} (C : ph_C shM Γ h ad cX1_crash 3 (some .int) 3) {w : Int} (kk : ph_V shM Γ h ad post (rg24 S) 42 [.ref h, .int (iI w), .int (iI 4)] []) : ∀ (n : Nat) (i : Int), i + n = 4 → 0 ≤ i → ph_V shM Γ h ad post (mp S 7 i (fun _ => 24)) 23 [.ref h, .int (iI w), .int (iI i)] [] := by
  intro n
  induction n with
  | zero =>
    intro i hi h0
    obtain rfl : i = 4 := by omega
    refine ph_iload_n C dX1_crash_23 rfl ?_
    refine ph_iconst C dX1_crash_24 ?_
    refine ph_icmp_ge C 42 dX1_crash_25 (by decide) ⟨by omega, by omega⟩ ⟨by omega, by omega⟩ (fun c_25 => ?_) (fun c_25 => ?_)
    · exact kk
    · exact absurd c_25 (by omega)
  | succ n ih =>
    intro i hi h0
    refine ph_iload_n C dX1_crash_23 rfl ?_
    refine ph_iconst C dX1_crash_24 ?_
    refine ph_icmp_ge C 42 dX1_crash_25 (by decide) ⟨by omega, by omega⟩ ⟨by omega, by omega⟩ (fun c_25 => ?_) (fun c_25 => ?_)
    · exact absurd c_25 (by omega)
    · refine ph_aload C dX1_crash_28 rfl ?_
      refine gM7 C dX1_crash_29 ?_
      refine ph_iload_n C dX1_crash_32 rfl ?_
      refine ph_bipush C dX1_crash_33 (by decide) ?_
      refine sM7 C (by omega) (by omega) dX1_crash_35 ?_
      refine ph_iinc (L' := [_, _, _]) C dX1_crash_36 rfl (by decide) rfl ?_
      refine ph_goto C 23 dX1_crash_39 (by decide) ?_
      rw [mp_s h0 rfl]
      exact ih (i + 1) (by omega) (by omega)
theorem cr_t {Γ : Cx} {h : Nat} {ad : Nat → Nat} {post : Option Value → St → Prop} {T : St} (C : ph_C shM Γ h ad cX1_crash 3 (some .int) 3) (hR : RgM T) {w : Int} (hp : ∀ u z, CR T u z → post (some (.int (iI z))) u) : ph_V shM Γ h ad post T 21 [.ref h, .int (iI w)] [] := by
  have hk : RgM (rg24 T) := hR.fill (fun _ _ _ => ⟨by decide, by decide⟩)
  refine ph_iconst C dX1_crash_21 ?_
  refine ph_istore_n (L' := [_, _, _]) C dX1_crash_22 (by decide) (Nat.le_of_ble_eq_true rfl) rfl ?_
  refine ph_tab (mp_0 (k := 7) (f := fun _ => 24)).symm ?_
  refine cr_l C ?_ 4 0 (by omega) (by omega)
  refine ph_aload C dX1_crash_42 rfl ?_
  refine ph_call C (cM_back hk) kM_back rfl rfl rfl (Nat.le_of_ble_eq_true rfl) dX1_crash_43 (by decide) (by decide) (fun r_43 u_43 hp_43 => ?_)
  obtain ⟨z, rfl, z1, z2, hz⟩ := hp_43
  dsimp only [Option.toList_some, Option.toList_none, List.cons_append, List.nil_append]
  exact ph_iret C dX1_crash_46 (hp _ z ⟨z1, z2, hz⟩)
theorem cM_crash {S : St} (hR : RgM S) {w : Int} (hw : inI w) : ph_M shM yX1_crash cX1_crash 3 (some .int) 3 [.int (iI w)] S (fun r u => ∃ z : Int, r = some (.int (iI z)) ∧ (((w < 0 ∨ 2 < w) ∧ z = -1 ∧ S = u) ∨ ((0 ≤ w ∧ w ≤ 1) ∧ CR S u z) ∨ (w = 2 ∧ ∃ T, EqM (svM S) T ∧ RgM T ∧ CR T u z))) := by
  have hw1 := hw.1
  have hw2 := hw.2
  refine ph_of shM_ok plM rfl cat1 (Nat.le_of_ble_eq_true rfl) (fun Γ h ad C => ?_)
  refine ph_iload_n C dX1_crash_0 rfl ?_
  refine ph_if_lt C 9 dX1_crash_1 (by decide) ⟨by omega, by omega⟩ (fun c_1 => ?_) (fun c_1 => ?_)
  · refine ph_iconst C dX1_crash_9 ?_
    exact ph_iret C dX1_crash_10 ⟨_, rfl, Or.inl ⟨by omega, rfl, rfl⟩⟩
  · refine ph_iload_n C dX1_crash_4 rfl ?_
    refine ph_iconst C dX1_crash_5 ?_
    refine ph_icmp_le C 11 dX1_crash_6 (by decide) ⟨by omega, by omega⟩ ⟨by omega, by omega⟩ (fun c_6 => ?_) (fun c_6 => ?_)
    · refine ph_iload_n C dX1_crash_11 rfl ?_
      refine ph_iconst C dX1_crash_12 ?_
      refine ph_icmp_ne C 21 dX1_crash_13 (by decide) ⟨by omega, by omega⟩ ⟨by omega, by omega⟩ (fun c_13 => ?_) (fun c_13 => ?_)
      · first | exact cr_t C hR (fun u z hz => ⟨z, rfl, Or.inr (Or.inl ⟨by omega, hz⟩)⟩) | exact cr_t C y2 (fun u z hz => ⟨z, rfl, Or.inr (Or.inr ⟨by omega, _, y1, y2, hz⟩)⟩)
      · refine ph_aload C dX1_crash_16 rfl ?_
        refine ph_call C (cM_save hR) kM_save rfl rfl rfl (Nat.le_of_ble_eq_true rfl) dX1_crash_17 (by decide) (by decide) (fun r_17 u_17 hp_17 => ?_)
        obtain ⟨z3, rfl, y1, y2, hz3⟩ := hp_17
        dsimp only [Option.toList_some, Option.toList_none, List.cons_append, List.nil_append]
        refine ph_pop C dX1_crash_20 ?_
        first | exact cr_t C hR (fun u z hz => ⟨z, rfl, Or.inr (Or.inl ⟨by omega, hz⟩)⟩) | exact cr_t C y2 (fun u z hz => ⟨z, rfl, Or.inr (Or.inr ⟨by omega, _, y1, y2, hz⟩)⟩)
    · refine ph_iconst C dX1_crash_9 ?_
      exact ph_iret C dX1_crash_10 ⟨_, rfl, Or.inl ⟨by omega, rfl, rfl⟩⟩
theorem cM_collectAndCrash {S : St} (hR : RgM S) {w : Int} : ph_M shM yX1_collectAndCrash cX1_collectAndCrash 2 (some .int) 4 [.int (iI w)] S (fun r u => ∃ z : Int, r = some (.int (iI z)) ∧ CR S u z) := by
  refine ph_of shM_ok plM rfl cat1 (Nat.le_of_ble_eq_true rfl) (fun Γ h ad C => ?_)
  refine ph_aload C dX1_collectAndCrash_0 rfl ?_
  refine ph_iconst C dX1_collectAndCrash_1 ?_
  refine ph_call C (cM_crash hR (w := 0) ⟨by decide, by decide⟩) kM_crash rfl rfl rfl (Nat.le_of_ble_eq_true rfl) dX1_collectAndCrash_2 (by decide) (by decide) (fun r_2 u_2 hp_2 => ?_)
  obtain ⟨z, rfl, hz⟩ := hp_2
  dsimp only [Option.toList_some, Option.toList_none, List.cons_append, List.nil_append]
  have hz : CR S u_2 z := hz.elim (fun q => by omega) (fun q => q.elim (fun q => q.2) (fun q => by omega))
  exact ph_iret C dX1_collectAndCrash_5 ⟨z, rfl, hz⟩
end
section
set_option maxRecDepth 100000
/-! THE TWO CONSTRUCTORS -/
def Z0 : St := fun _ _ => 0
theorem nzc (N k : Nat) {ty : FieldType} (h : defaultValue ty = .int 0) : ∀ cA : ClassId, vp_cell cA (N, .inl (pwr Z0 k)) = arrV cA N (fun _ => defaultValue ty) := by
  intro cA
  rw [vp_cell_i, h]
  congr 1
theorem W.mono {p : Program} {l : Launch} {e : Env} {R : Room} {s : State} {m : MethodId} {args : Array Value} {below : List Frame} {meth : Method} {c : Code} {H : Heap} {locs : List Loc} {cells slots : Nat} {Q Q' : State → Prop} {g : JFrame} (hq : ∀ t, Q t → Q' t) (k : W p l e R s m args below meth c H locs cells slots Q g) : W p l e R s m args below meth c H locs cells slots Q' g := by
  intro T hT X
  obtain ⟨t, a, b⟩ := k T hT X
  exact ⟨t, a, hq t b⟩
abbrev fsX : List Value := [.int (iI 0), .null, .null, .null, .null, .null, .null, .null, .int (iI 0), .null, .null, .null, .null, .int (iI 0), .int (iI 0), .null]
def iniX : St := (mp (mp Z0 3 6 (fun _ => -1)) 7 4 (fun _ => -1))
theorem inX_l0 {Γ : Cx} {h : Nat} {ad : Nat → Nat} {post : Option Value → St → Prop} {S : St} (C : ph_C shX Γ h ad cX0_init 2 none 1) (kk : ph_V shX Γ h ad post (mp S 3 6 (fun _ => -1)) 122 [.ref h, .int (iI 6)] []) : ∀ (n : Nat) (i : Int), i + n = 6 → 0 ≤ i → ph_V shX Γ h ad post (mp S 3 i (fun _ => -1)) 103 [.ref h, .int (iI i)] [] := by
  intro n
  induction n with
  | zero =>
    intro i hi h0
    obtain rfl : i = 6 := by omega
    refine ph_iload_n C dX0_init_103 rfl ?_
    refine ph_bipush C dX0_init_104 (by decide) ?_
    refine ph_icmp_ge C 122 dX0_init_106 (by decide) ⟨by omega, by omega⟩ ⟨by omega, by omega⟩ (fun c_106 => ?_) (fun c_106 => ?_)
    · exact kk
    · exact absurd c_106 (by omega)
  | succ n ih =>
    intro i hi h0
    refine ph_iload_n C dX0_init_103 rfl ?_
    refine ph_bipush C dX0_init_104 (by decide) ?_
    refine ph_icmp_ge C 122 dX0_init_106 (by decide) ⟨by omega, by omega⟩ ⟨by omega, by omega⟩ (fun c_106 => ?_) (fun c_106 => ?_)
    · exact absurd c_106 (by omega)
    · refine ph_aload C dX0_init_109 rfl ?_
      refine gX3 C dX0_init_110 ?_
      refine ph_iload_n C dX0_init_113 rfl ?_
      refine ph_iconst C dX0_init_114 ?_
      refine sX3 C (by omega) (by omega) (by omega) dX0_init_115 ?_
      refine ph_iinc (L' := [_, _]) C dX0_init_116 rfl (by decide) rfl ?_
      refine ph_goto C 103 dX0_init_119 (by decide) ?_
      rw [mp_s h0 rfl]
      exact ih (i + 1) (by omega) (by omega)
theorem inX_l1 {Γ : Cx} {h : Nat} {ad : Nat → Nat} {post : Option Value → St → Prop} {S : St} (C : ph_C shX Γ h ad cX0_init 2 none 1) (kk : ph_V shX Γ h ad post (mp S 7 4 (fun _ => -1)) 142 [.ref h, .int (iI 4)] []) : ∀ (n : Nat) (i : Int), i + n = 4 → 0 ≤ i → ph_V shX Γ h ad post (mp S 7 i (fun _ => -1)) 124 [.ref h, .int (iI i)] [] := by
  intro n
  induction n with
  | zero =>
    intro i hi h0
    obtain rfl : i = 4 := by omega
    refine ph_iload_n C dX0_init_124 rfl ?_
    refine ph_iconst C dX0_init_125 ?_
    refine ph_icmp_ge C 142 dX0_init_126 (by decide) ⟨by omega, by omega⟩ ⟨by omega, by omega⟩ (fun c_126 => ?_) (fun c_126 => ?_)
    · exact kk
    · exact absurd c_126 (by omega)
  | succ n ih =>
    intro i hi h0
    refine ph_iload_n C dX0_init_124 rfl ?_
    refine ph_iconst C dX0_init_125 ?_
    refine ph_icmp_ge C 142 dX0_init_126 (by decide) ⟨by omega, by omega⟩ ⟨by omega, by omega⟩ (fun c_126 => ?_) (fun c_126 => ?_)
    · exact absurd c_126 (by omega)
    · refine ph_aload C dX0_init_129 rfl ?_
      refine gX7 C dX0_init_130 ?_
      refine ph_iload_n C dX0_init_133 rfl ?_
      refine ph_iconst C dX0_init_134 ?_
      refine sX7 C (by omega) (by omega) (by omega) dX0_init_135 ?_
      refine ph_iinc (L' := [_, _]) C dX0_init_136 rfl (by decide) rfl ?_
      refine ph_goto C 124 dX0_init_139 (by decide) ?_
      rw [mp_s h0 rfl]
      exact ih (i + 1) (by omega) (by omega)
theorem inX_v {Γ : Cx} {h : Nat} {ad : Nat → Nat} {post : Option Value → St → Prop} (C : ph_C shX Γ h ad cX0_init 2 none 1) (hp : post none iniX) : ph_V shX Γ h ad post Z0 101 [.ref h] [] := by
  refine ph_iconst C dX0_init_101 ?_
  refine ph_istore_n (L' := [_, _]) C dX0_init_102 (by decide) (Nat.le_of_ble_eq_true rfl) rfl ?_
  refine ph_tab (mp_0 (S := Z0) (k := 3) (f := fun _ => -1)).symm ?_
  refine inX_l0 C ?_ 6 0 (by omega) (by omega)
  refine ph_iconst C dX0_init_122 ?_
  refine ph_istore_n (L' := [_, _]) C dX0_init_123 (by decide) (Nat.le_of_ble_eq_true rfl) rfl ?_
  refine ph_tab (mp_0 (S := (mp Z0 3 6 (fun _ => -1))) (k := 7) (f := fun _ => -1)).symm ?_
  refine inX_l1 C ?_ 4 0 (by omega) (by omega)
  exact ph_vret C dX0_init_142 hp
set_option maxHeartbeats 4000000 in
theorem cX_init (l : Launch) (D : va_G) (h sz : Nat) : Met l yX0_init (ws_ yX0_init cX0_init 2 none) (rmd 1 12 827) (va_Pc [.ref h] (fun U => U.heap.size = sz ∧ va_P D vwCl [(h, .inr (0, fsX))] U.heap ∧ va_K D vwCl [] U ∧ va_D (fun _ => True) [(h, .inr (0, fsX))])) (va_Qv (fun _ : (Nat → Nat) × (Nat → ClassId) => True) (fun u t => ph_B shX D h u.1 u.2 iniX t ∧ va_D (va_A [(h, .inr (0, fsX))] sz) (pw shX h u.1 u.2 iniX)) (va_A [(h, .inr (0, fsX))] sz)) 12 827 (va_A [(h, .inr (0, fsX))] sz) := by
  refine Met.ofW (cc := cX0_init) (maxL := 2) (ret := none) (by decide) rfl ?_
  intro p e s m args below meth c s₁ B hml hv
  obtain ⟨rfl, hsz, hP, hK, hD0⟩ := hv
  have hx := B.exec
  have hb := B.bytes
  have hr := B.returns
  have hts := atoms_spec (ws := ws_ yX0_init cX0_init 2 none) B.pre
  have hts : ∀ w ∈ lw_all, w.before _ s = true := fun w h => hts w (List.mem_cons_of_mem _ h)
  have hown : s.vm.findClass RX0 = some m.cls := findClass_of_methodNamed B.named
  have hlocks := B.notSynchronized
  have hin : meth.name = "<init>" := (name_of_methodNamed B.named B.method).1
  subst hsz
  have hD := hD0.self (sz := s.heap.size)
  generalize hAe : va_A [(h, .inr (0, fsX))] s.heap.size = A at hD ⊢
  have hA : ∀ q : Nat, s.heap.size ≤ q → A q := fun q h => by rw [← hAe]; exact Or.inr h
  have hS : va_S A s.heap s.heap [] := va_S.rf
  have hP : va_P D vwCl [(h, .inr (0, fsX))] s.heap := hP
  have hcat : ∀ v ∈ ([Value.ref h] : List Value), v.category = 1 := fun v hv => by rw [List.mem_singleton] at hv; rw [hv]; rfl
  have hl := lh_entry [Value.ref h] (n := 2) hcat (Nat.le_of_ble_eq_true rfl)
  rw [entry_eq m [Value.ref h] hcat 2]
  generalize (([Value.ref h] : List Value).map Slot.val ++ List.replicate (2 - ([Value.ref h] : List Value).length) Slot.unset).toArray = ls at hl ⊢
  refine lv_aload_n hx hb dX0_init_0 rfl (lh_at hl (i := 0) rfl) ?_
  refine W.objInit hx hb hown (hts _ q32) (hts _ q33) (hts _ q34) rfl (by rw [hml]; exact hl.1.1) rfl dX0_init_1 (Nat.le_of_ble_eq_true rfl) (Nat.le_of_ble_eq_true rfl) ?_
  refine W.eq (g2 := F0 m 4 ls []) rfl ?_
  refine lv_aload_n hx hb dX0_init_4 rfl (lh_at hl (i := 0) rfl) ?_
  refine lv_sipush (v := iI 128) hx hb dX0_init_5 (by decide) ?_
  refine va_newa (atype := .byte) (ty := .byte) (a0 := (128, .inl (pwr Z0 1))) hx hb (hts _ q84) rfl hK hP hD hS hA (nzc 128 1 rfl) (by decide) (by decide) (by decide) (Nat.le_of_ble_eq_true rfl) (Nat.le_of_ble_eq_true rfl) dX0_init_8 (fun a1 c1 H hK hP hD hS => ?_)
  have hP : va_P D vwCl [(h, .inr (0, [.int (iI 0), .null, .null, .null, .null, .null, .null, .null, .int (iI 0), .null, .null, .null, .null, .int (iI 0), .int (iI 0), .null])), (a1, .inl (c1, 128, .inl (pwr Z0 1)))] H := hP
  have hD : va_D A [(h, .inr (0, [.int (iI 0), .null, .null, .null, .null, .null, .null, .null, .int (iI 0), .null, .null, .null, .null, .int (iI 0), .int (iI 0), .null])), (a1, .inl (c1, 128, .inl (pwr Z0 1)))] := hD
  refine va_putF (D := D) (ci := 0) (v := .ref a1) (ty := .array .byte) (C := RX0) (T := TX0) (N := 16) hx hb hts in_X0 tyX0 tyX0_ok nmX0 hown hK hP hD hS 0 rfl rfl 1 (by decide) (hts _ q36) (fun _ h9 => h9) rfl hin rfl (by decide +kernel) rfl rfl (Nat.le_of_ble_eq_true rfl) dX0_init_10 (fun H locs hP hD hS => ?_)
  have hP : va_P D vwCl [(h, .inr (0, [.int (iI 0), .ref a1, .null, .null, .null, .null, .null, .null, .int (iI 0), .null, .null, .null, .null, .int (iI 0), .int (iI 0), .null])), (a1, .inl (c1, 128, .inl (pwr Z0 1)))] H := hP
  have hD : va_D A [(h, .inr (0, [.int (iI 0), .ref a1, .null, .null, .null, .null, .null, .null, .int (iI 0), .null, .null, .null, .null, .int (iI 0), .int (iI 0), .null])), (a1, .inl (c1, 128, .inl (pwr Z0 1)))] := hD
  refine lv_aload_n hx hb dX0_init_13 rfl (lh_at hl (i := 0) rfl) ?_
  refine lv_bipush (v := iI 64) hx hb dX0_init_14 (by decide) ?_
  refine va_newa (atype := .int) (ty := .int) (a0 := (64, .inl (pwr Z0 2))) hx hb (hts _ q85) rfl hK hP hD hS hA (nzc 64 2 rfl) (by decide) (by decide) (by decide) (Nat.le_of_ble_eq_true rfl) (Nat.le_of_ble_eq_true rfl) dX0_init_16 (fun a2 c2 H hK hP hD hS => ?_)
  have hP : va_P D vwCl [(h, .inr (0, [.int (iI 0), .ref a1, .null, .null, .null, .null, .null, .null, .int (iI 0), .null, .null, .null, .null, .int (iI 0), .int (iI 0), .null])), (a1, .inl (c1, 128, .inl (pwr Z0 1))), (a2, .inl (c2, 64, .inl (pwr Z0 2)))] H := hP
  have hD : va_D A [(h, .inr (0, [.int (iI 0), .ref a1, .null, .null, .null, .null, .null, .null, .int (iI 0), .null, .null, .null, .null, .int (iI 0), .int (iI 0), .null])), (a1, .inl (c1, 128, .inl (pwr Z0 1))), (a2, .inl (c2, 64, .inl (pwr Z0 2)))] := hD
  refine va_putF (D := D) (ci := 0) (v := .ref a2) (ty := .array .int) (C := RX0) (T := TX0) (N := 16) hx hb hts in_X0 tyX0 tyX0_ok nmX0 hown hK hP hD hS 0 rfl rfl 2 (by decide) (hts _ q37) (fun _ h9 => h9) rfl hin rfl (by decide +kernel) rfl rfl (Nat.le_of_ble_eq_true rfl) dX0_init_18 (fun H locs hP hD hS => ?_)
  have hP : va_P D vwCl [(h, .inr (0, [.int (iI 0), .ref a1, .ref a2, .null, .null, .null, .null, .null, .int (iI 0), .null, .null, .null, .null, .int (iI 0), .int (iI 0), .null])), (a1, .inl (c1, 128, .inl (pwr Z0 1))), (a2, .inl (c2, 64, .inl (pwr Z0 2)))] H := hP
  have hD : va_D A [(h, .inr (0, [.int (iI 0), .ref a1, .ref a2, .null, .null, .null, .null, .null, .int (iI 0), .null, .null, .null, .null, .int (iI 0), .int (iI 0), .null])), (a1, .inl (c1, 128, .inl (pwr Z0 1))), (a2, .inl (c2, 64, .inl (pwr Z0 2)))] := hD
  refine lv_aload_n hx hb dX0_init_21 rfl (lh_at hl (i := 0) rfl) ?_
  refine lv_bipush (v := iI 6) hx hb dX0_init_22 (by decide) ?_
  refine va_newa (atype := .byte) (ty := .byte) (a0 := (6, .inl (pwr Z0 3))) hx hb (hts _ q84) rfl hK hP hD hS hA (nzc 6 3 rfl) (by decide) (by decide) (by decide) (Nat.le_of_ble_eq_true rfl) (Nat.le_of_ble_eq_true rfl) dX0_init_24 (fun a3 c3 H hK hP hD hS => ?_)
  have hP : va_P D vwCl [(h, .inr (0, [.int (iI 0), .ref a1, .ref a2, .null, .null, .null, .null, .null, .int (iI 0), .null, .null, .null, .null, .int (iI 0), .int (iI 0), .null])), (a1, .inl (c1, 128, .inl (pwr Z0 1))), (a2, .inl (c2, 64, .inl (pwr Z0 2))), (a3, .inl (c3, 6, .inl (pwr Z0 3)))] H := hP
  have hD : va_D A [(h, .inr (0, [.int (iI 0), .ref a1, .ref a2, .null, .null, .null, .null, .null, .int (iI 0), .null, .null, .null, .null, .int (iI 0), .int (iI 0), .null])), (a1, .inl (c1, 128, .inl (pwr Z0 1))), (a2, .inl (c2, 64, .inl (pwr Z0 2))), (a3, .inl (c3, 6, .inl (pwr Z0 3)))] := hD
  refine va_putF (D := D) (ci := 0) (v := .ref a3) (ty := .array .byte) (C := RX0) (T := TX0) (N := 16) hx hb hts in_X0 tyX0 tyX0_ok nmX0 hown hK hP hD hS 0 rfl rfl 3 (by decide) (hts _ q38) (fun _ h9 => h9) rfl hin rfl (by decide +kernel) rfl rfl (Nat.le_of_ble_eq_true rfl) dX0_init_26 (fun H locs hP hD hS => ?_)
  have hP : va_P D vwCl [(h, .inr (0, [.int (iI 0), .ref a1, .ref a2, .ref a3, .null, .null, .null, .null, .int (iI 0), .null, .null, .null, .null, .int (iI 0), .int (iI 0), .null])), (a1, .inl (c1, 128, .inl (pwr Z0 1))), (a2, .inl (c2, 64, .inl (pwr Z0 2))), (a3, .inl (c3, 6, .inl (pwr Z0 3)))] H := hP
  have hD : va_D A [(h, .inr (0, [.int (iI 0), .ref a1, .ref a2, .ref a3, .null, .null, .null, .null, .int (iI 0), .null, .null, .null, .null, .int (iI 0), .int (iI 0), .null])), (a1, .inl (c1, 128, .inl (pwr Z0 1))), (a2, .inl (c2, 64, .inl (pwr Z0 2))), (a3, .inl (c3, 6, .inl (pwr Z0 3)))] := hD
  refine lv_aload_n hx hb dX0_init_29 rfl (lh_at hl (i := 0) rfl) ?_
  refine lv_iconst (v := iI 2) hx hb dX0_init_30 (by decide) ?_
  refine va_newa (atype := .byte) (ty := .byte) (a0 := (2, .inl (pwr Z0 4))) hx hb (hts _ q84) rfl hK hP hD hS hA (nzc 2 4 rfl) (by decide) (by decide) (by decide) (Nat.le_of_ble_eq_true rfl) (Nat.le_of_ble_eq_true rfl) dX0_init_31 (fun a4 c4 H hK hP hD hS => ?_)
  have hP : va_P D vwCl [(h, .inr (0, [.int (iI 0), .ref a1, .ref a2, .ref a3, .null, .null, .null, .null, .int (iI 0), .null, .null, .null, .null, .int (iI 0), .int (iI 0), .null])), (a1, .inl (c1, 128, .inl (pwr Z0 1))), (a2, .inl (c2, 64, .inl (pwr Z0 2))), (a3, .inl (c3, 6, .inl (pwr Z0 3))), (a4, .inl (c4, 2, .inl (pwr Z0 4)))] H := hP
  have hD : va_D A [(h, .inr (0, [.int (iI 0), .ref a1, .ref a2, .ref a3, .null, .null, .null, .null, .int (iI 0), .null, .null, .null, .null, .int (iI 0), .int (iI 0), .null])), (a1, .inl (c1, 128, .inl (pwr Z0 1))), (a2, .inl (c2, 64, .inl (pwr Z0 2))), (a3, .inl (c3, 6, .inl (pwr Z0 3))), (a4, .inl (c4, 2, .inl (pwr Z0 4)))] := hD
  refine va_putF (D := D) (ci := 0) (v := .ref a4) (ty := .array .byte) (C := RX0) (T := TX0) (N := 16) hx hb hts in_X0 tyX0 tyX0_ok nmX0 hown hK hP hD hS 0 rfl rfl 4 (by decide) (hts _ q39) (fun _ h9 => h9) rfl hin rfl (by decide +kernel) rfl rfl (Nat.le_of_ble_eq_true rfl) dX0_init_33 (fun H locs hP hD hS => ?_)
  have hP : va_P D vwCl [(h, .inr (0, [.int (iI 0), .ref a1, .ref a2, .ref a3, .ref a4, .null, .null, .null, .int (iI 0), .null, .null, .null, .null, .int (iI 0), .int (iI 0), .null])), (a1, .inl (c1, 128, .inl (pwr Z0 1))), (a2, .inl (c2, 64, .inl (pwr Z0 2))), (a3, .inl (c3, 6, .inl (pwr Z0 3))), (a4, .inl (c4, 2, .inl (pwr Z0 4)))] H := hP
  have hD : va_D A [(h, .inr (0, [.int (iI 0), .ref a1, .ref a2, .ref a3, .ref a4, .null, .null, .null, .int (iI 0), .null, .null, .null, .null, .int (iI 0), .int (iI 0), .null])), (a1, .inl (c1, 128, .inl (pwr Z0 1))), (a2, .inl (c2, 64, .inl (pwr Z0 2))), (a3, .inl (c3, 6, .inl (pwr Z0 3))), (a4, .inl (c4, 2, .inl (pwr Z0 4)))] := hD
  refine lv_aload_n hx hb dX0_init_36 rfl (lh_at hl (i := 0) rfl) ?_
  refine lv_sipush (v := iI 198) hx hb dX0_init_37 (by decide) ?_
  refine va_newa (atype := .byte) (ty := .byte) (a0 := (198, .inl (pwr Z0 5))) hx hb (hts _ q84) rfl hK hP hD hS hA (nzc 198 5 rfl) (by decide) (by decide) (by decide) (Nat.le_of_ble_eq_true rfl) (Nat.le_of_ble_eq_true rfl) dX0_init_40 (fun a5 c5 H hK hP hD hS => ?_)
  have hP : va_P D vwCl [(h, .inr (0, [.int (iI 0), .ref a1, .ref a2, .ref a3, .ref a4, .null, .null, .null, .int (iI 0), .null, .null, .null, .null, .int (iI 0), .int (iI 0), .null])), (a1, .inl (c1, 128, .inl (pwr Z0 1))), (a2, .inl (c2, 64, .inl (pwr Z0 2))), (a3, .inl (c3, 6, .inl (pwr Z0 3))), (a4, .inl (c4, 2, .inl (pwr Z0 4))), (a5, .inl (c5, 198, .inl (pwr Z0 5)))] H := hP
  have hD : va_D A [(h, .inr (0, [.int (iI 0), .ref a1, .ref a2, .ref a3, .ref a4, .null, .null, .null, .int (iI 0), .null, .null, .null, .null, .int (iI 0), .int (iI 0), .null])), (a1, .inl (c1, 128, .inl (pwr Z0 1))), (a2, .inl (c2, 64, .inl (pwr Z0 2))), (a3, .inl (c3, 6, .inl (pwr Z0 3))), (a4, .inl (c4, 2, .inl (pwr Z0 4))), (a5, .inl (c5, 198, .inl (pwr Z0 5)))] := hD
  refine va_putF (D := D) (ci := 0) (v := .ref a5) (ty := .array .byte) (C := RX0) (T := TX0) (N := 16) hx hb hts in_X0 tyX0 tyX0_ok nmX0 hown hK hP hD hS 0 rfl rfl 5 (by decide) (hts _ q40) (fun _ h9 => h9) rfl hin rfl (by decide +kernel) rfl rfl (Nat.le_of_ble_eq_true rfl) dX0_init_42 (fun H locs hP hD hS => ?_)
  have hP : va_P D vwCl [(h, .inr (0, [.int (iI 0), .ref a1, .ref a2, .ref a3, .ref a4, .ref a5, .null, .null, .int (iI 0), .null, .null, .null, .null, .int (iI 0), .int (iI 0), .null])), (a1, .inl (c1, 128, .inl (pwr Z0 1))), (a2, .inl (c2, 64, .inl (pwr Z0 2))), (a3, .inl (c3, 6, .inl (pwr Z0 3))), (a4, .inl (c4, 2, .inl (pwr Z0 4))), (a5, .inl (c5, 198, .inl (pwr Z0 5)))] H := hP
  have hD : va_D A [(h, .inr (0, [.int (iI 0), .ref a1, .ref a2, .ref a3, .ref a4, .ref a5, .null, .null, .int (iI 0), .null, .null, .null, .null, .int (iI 0), .int (iI 0), .null])), (a1, .inl (c1, 128, .inl (pwr Z0 1))), (a2, .inl (c2, 64, .inl (pwr Z0 2))), (a3, .inl (c3, 6, .inl (pwr Z0 3))), (a4, .inl (c4, 2, .inl (pwr Z0 4))), (a5, .inl (c5, 198, .inl (pwr Z0 5)))] := hD
  refine lv_aload_n hx hb dX0_init_45 rfl (lh_at hl (i := 0) rfl) ?_
  refine lv_sipush (v := iI 198) hx hb dX0_init_46 (by decide) ?_
  refine va_newa (atype := .int) (ty := .int) (a0 := (198, .inl (pwr Z0 6))) hx hb (hts _ q85) rfl hK hP hD hS hA (nzc 198 6 rfl) (by decide) (by decide) (by decide) (Nat.le_of_ble_eq_true rfl) (Nat.le_of_ble_eq_true rfl) dX0_init_49 (fun a6 c6 H hK hP hD hS => ?_)
  have hP : va_P D vwCl [(h, .inr (0, [.int (iI 0), .ref a1, .ref a2, .ref a3, .ref a4, .ref a5, .null, .null, .int (iI 0), .null, .null, .null, .null, .int (iI 0), .int (iI 0), .null])), (a1, .inl (c1, 128, .inl (pwr Z0 1))), (a2, .inl (c2, 64, .inl (pwr Z0 2))), (a3, .inl (c3, 6, .inl (pwr Z0 3))), (a4, .inl (c4, 2, .inl (pwr Z0 4))), (a5, .inl (c5, 198, .inl (pwr Z0 5))), (a6, .inl (c6, 198, .inl (pwr Z0 6)))] H := hP
  have hD : va_D A [(h, .inr (0, [.int (iI 0), .ref a1, .ref a2, .ref a3, .ref a4, .ref a5, .null, .null, .int (iI 0), .null, .null, .null, .null, .int (iI 0), .int (iI 0), .null])), (a1, .inl (c1, 128, .inl (pwr Z0 1))), (a2, .inl (c2, 64, .inl (pwr Z0 2))), (a3, .inl (c3, 6, .inl (pwr Z0 3))), (a4, .inl (c4, 2, .inl (pwr Z0 4))), (a5, .inl (c5, 198, .inl (pwr Z0 5))), (a6, .inl (c6, 198, .inl (pwr Z0 6)))] := hD
  refine va_putF (D := D) (ci := 0) (v := .ref a6) (ty := .array .int) (C := RX0) (T := TX0) (N := 16) hx hb hts in_X0 tyX0 tyX0_ok nmX0 hown hK hP hD hS 0 rfl rfl 6 (by decide) (hts _ q41) (fun _ h9 => h9) rfl hin rfl (by decide +kernel) rfl rfl (Nat.le_of_ble_eq_true rfl) dX0_init_51 (fun H locs hP hD hS => ?_)
  have hP : va_P D vwCl [(h, .inr (0, [.int (iI 0), .ref a1, .ref a2, .ref a3, .ref a4, .ref a5, .ref a6, .null, .int (iI 0), .null, .null, .null, .null, .int (iI 0), .int (iI 0), .null])), (a1, .inl (c1, 128, .inl (pwr Z0 1))), (a2, .inl (c2, 64, .inl (pwr Z0 2))), (a3, .inl (c3, 6, .inl (pwr Z0 3))), (a4, .inl (c4, 2, .inl (pwr Z0 4))), (a5, .inl (c5, 198, .inl (pwr Z0 5))), (a6, .inl (c6, 198, .inl (pwr Z0 6)))] H := hP
  have hD : va_D A [(h, .inr (0, [.int (iI 0), .ref a1, .ref a2, .ref a3, .ref a4, .ref a5, .ref a6, .null, .int (iI 0), .null, .null, .null, .null, .int (iI 0), .int (iI 0), .null])), (a1, .inl (c1, 128, .inl (pwr Z0 1))), (a2, .inl (c2, 64, .inl (pwr Z0 2))), (a3, .inl (c3, 6, .inl (pwr Z0 3))), (a4, .inl (c4, 2, .inl (pwr Z0 4))), (a5, .inl (c5, 198, .inl (pwr Z0 5))), (a6, .inl (c6, 198, .inl (pwr Z0 6)))] := hD
  refine lv_aload_n hx hb dX0_init_54 rfl (lh_at hl (i := 0) rfl) ?_
  refine lv_iconst (v := iI 4) hx hb dX0_init_55 (by decide) ?_
  refine va_newa (atype := .byte) (ty := .byte) (a0 := (4, .inl (pwr Z0 7))) hx hb (hts _ q84) rfl hK hP hD hS hA (nzc 4 7 rfl) (by decide) (by decide) (by decide) (Nat.le_of_ble_eq_true rfl) (Nat.le_of_ble_eq_true rfl) dX0_init_56 (fun a7 c7 H hK hP hD hS => ?_)
  have hP : va_P D vwCl [(h, .inr (0, [.int (iI 0), .ref a1, .ref a2, .ref a3, .ref a4, .ref a5, .ref a6, .null, .int (iI 0), .null, .null, .null, .null, .int (iI 0), .int (iI 0), .null])), (a1, .inl (c1, 128, .inl (pwr Z0 1))), (a2, .inl (c2, 64, .inl (pwr Z0 2))), (a3, .inl (c3, 6, .inl (pwr Z0 3))), (a4, .inl (c4, 2, .inl (pwr Z0 4))), (a5, .inl (c5, 198, .inl (pwr Z0 5))), (a6, .inl (c6, 198, .inl (pwr Z0 6))), (a7, .inl (c7, 4, .inl (pwr Z0 7)))] H := hP
  have hD : va_D A [(h, .inr (0, [.int (iI 0), .ref a1, .ref a2, .ref a3, .ref a4, .ref a5, .ref a6, .null, .int (iI 0), .null, .null, .null, .null, .int (iI 0), .int (iI 0), .null])), (a1, .inl (c1, 128, .inl (pwr Z0 1))), (a2, .inl (c2, 64, .inl (pwr Z0 2))), (a3, .inl (c3, 6, .inl (pwr Z0 3))), (a4, .inl (c4, 2, .inl (pwr Z0 4))), (a5, .inl (c5, 198, .inl (pwr Z0 5))), (a6, .inl (c6, 198, .inl (pwr Z0 6))), (a7, .inl (c7, 4, .inl (pwr Z0 7)))] := hD
  refine va_putF (D := D) (ci := 0) (v := .ref a7) (ty := .array .byte) (C := RX0) (T := TX0) (N := 16) hx hb hts in_X0 tyX0 tyX0_ok nmX0 hown hK hP hD hS 0 rfl rfl 7 (by decide) (hts _ q42) (fun _ h9 => h9) rfl hin rfl (by decide +kernel) rfl rfl (Nat.le_of_ble_eq_true rfl) dX0_init_58 (fun H locs hP hD hS => ?_)
  have hP : va_P D vwCl [(h, .inr (0, [.int (iI 0), .ref a1, .ref a2, .ref a3, .ref a4, .ref a5, .ref a6, .ref a7, .int (iI 0), .null, .null, .null, .null, .int (iI 0), .int (iI 0), .null])), (a1, .inl (c1, 128, .inl (pwr Z0 1))), (a2, .inl (c2, 64, .inl (pwr Z0 2))), (a3, .inl (c3, 6, .inl (pwr Z0 3))), (a4, .inl (c4, 2, .inl (pwr Z0 4))), (a5, .inl (c5, 198, .inl (pwr Z0 5))), (a6, .inl (c6, 198, .inl (pwr Z0 6))), (a7, .inl (c7, 4, .inl (pwr Z0 7)))] H := hP
  have hD : va_D A [(h, .inr (0, [.int (iI 0), .ref a1, .ref a2, .ref a3, .ref a4, .ref a5, .ref a6, .ref a7, .int (iI 0), .null, .null, .null, .null, .int (iI 0), .int (iI 0), .null])), (a1, .inl (c1, 128, .inl (pwr Z0 1))), (a2, .inl (c2, 64, .inl (pwr Z0 2))), (a3, .inl (c3, 6, .inl (pwr Z0 3))), (a4, .inl (c4, 2, .inl (pwr Z0 4))), (a5, .inl (c5, 198, .inl (pwr Z0 5))), (a6, .inl (c6, 198, .inl (pwr Z0 6))), (a7, .inl (c7, 4, .inl (pwr Z0 7)))] := hD
  refine lv_aload_n hx hb dX0_init_61 rfl (lh_at hl (i := 0) rfl) ?_
  refine lv_bipush (v := iI 32) hx hb dX0_init_62 (by decide) ?_
  refine va_newa (atype := .boolean) (ty := .boolean) (a0 := (32, .inl (pwr Z0 9))) hx hb (hts _ q86) rfl hK hP hD hS hA (nzc 32 9 rfl) (by decide) (by decide) (by decide) (Nat.le_of_ble_eq_true rfl) (Nat.le_of_ble_eq_true rfl) dX0_init_64 (fun a9 c9 H hK hP hD hS => ?_)
  have hP : va_P D vwCl [(h, .inr (0, [.int (iI 0), .ref a1, .ref a2, .ref a3, .ref a4, .ref a5, .ref a6, .ref a7, .int (iI 0), .null, .null, .null, .null, .int (iI 0), .int (iI 0), .null])), (a1, .inl (c1, 128, .inl (pwr Z0 1))), (a2, .inl (c2, 64, .inl (pwr Z0 2))), (a3, .inl (c3, 6, .inl (pwr Z0 3))), (a4, .inl (c4, 2, .inl (pwr Z0 4))), (a5, .inl (c5, 198, .inl (pwr Z0 5))), (a6, .inl (c6, 198, .inl (pwr Z0 6))), (a7, .inl (c7, 4, .inl (pwr Z0 7))), (a9, .inl (c9, 32, .inl (pwr Z0 9)))] H := hP
  have hD : va_D A [(h, .inr (0, [.int (iI 0), .ref a1, .ref a2, .ref a3, .ref a4, .ref a5, .ref a6, .ref a7, .int (iI 0), .null, .null, .null, .null, .int (iI 0), .int (iI 0), .null])), (a1, .inl (c1, 128, .inl (pwr Z0 1))), (a2, .inl (c2, 64, .inl (pwr Z0 2))), (a3, .inl (c3, 6, .inl (pwr Z0 3))), (a4, .inl (c4, 2, .inl (pwr Z0 4))), (a5, .inl (c5, 198, .inl (pwr Z0 5))), (a6, .inl (c6, 198, .inl (pwr Z0 6))), (a7, .inl (c7, 4, .inl (pwr Z0 7))), (a9, .inl (c9, 32, .inl (pwr Z0 9)))] := hD
  refine va_putF (D := D) (ci := 0) (v := .ref a9) (ty := .array .boolean) (C := RX0) (T := TX0) (N := 16) hx hb hts in_X0 tyX0 tyX0_ok nmX0 hown hK hP hD hS 0 rfl rfl 9 (by decide) (hts _ q44) (fun _ h9 => h9) rfl hin rfl (by decide +kernel) rfl rfl (Nat.le_of_ble_eq_true rfl) dX0_init_66 (fun H locs hP hD hS => ?_)
  have hP : va_P D vwCl [(h, .inr (0, [.int (iI 0), .ref a1, .ref a2, .ref a3, .ref a4, .ref a5, .ref a6, .ref a7, .int (iI 0), .ref a9, .null, .null, .null, .int (iI 0), .int (iI 0), .null])), (a1, .inl (c1, 128, .inl (pwr Z0 1))), (a2, .inl (c2, 64, .inl (pwr Z0 2))), (a3, .inl (c3, 6, .inl (pwr Z0 3))), (a4, .inl (c4, 2, .inl (pwr Z0 4))), (a5, .inl (c5, 198, .inl (pwr Z0 5))), (a6, .inl (c6, 198, .inl (pwr Z0 6))), (a7, .inl (c7, 4, .inl (pwr Z0 7))), (a9, .inl (c9, 32, .inl (pwr Z0 9)))] H := hP
  have hD : va_D A [(h, .inr (0, [.int (iI 0), .ref a1, .ref a2, .ref a3, .ref a4, .ref a5, .ref a6, .ref a7, .int (iI 0), .ref a9, .null, .null, .null, .int (iI 0), .int (iI 0), .null])), (a1, .inl (c1, 128, .inl (pwr Z0 1))), (a2, .inl (c2, 64, .inl (pwr Z0 2))), (a3, .inl (c3, 6, .inl (pwr Z0 3))), (a4, .inl (c4, 2, .inl (pwr Z0 4))), (a5, .inl (c5, 198, .inl (pwr Z0 5))), (a6, .inl (c6, 198, .inl (pwr Z0 6))), (a7, .inl (c7, 4, .inl (pwr Z0 7))), (a9, .inl (c9, 32, .inl (pwr Z0 9)))] := hD
  refine lv_aload_n hx hb dX0_init_69 rfl (lh_at hl (i := 0) rfl) ?_
  refine lv_bipush (v := iI 99) hx hb dX0_init_70 (by decide) ?_
  refine va_newa (atype := .boolean) (ty := .boolean) (a0 := (99, .inl (pwr Z0 10))) hx hb (hts _ q86) rfl hK hP hD hS hA (nzc 99 10 rfl) (by decide) (by decide) (by decide) (Nat.le_of_ble_eq_true rfl) (Nat.le_of_ble_eq_true rfl) dX0_init_72 (fun a10 c10 H hK hP hD hS => ?_)
  have hP : va_P D vwCl [(h, .inr (0, [.int (iI 0), .ref a1, .ref a2, .ref a3, .ref a4, .ref a5, .ref a6, .ref a7, .int (iI 0), .ref a9, .null, .null, .null, .int (iI 0), .int (iI 0), .null])), (a1, .inl (c1, 128, .inl (pwr Z0 1))), (a2, .inl (c2, 64, .inl (pwr Z0 2))), (a3, .inl (c3, 6, .inl (pwr Z0 3))), (a4, .inl (c4, 2, .inl (pwr Z0 4))), (a5, .inl (c5, 198, .inl (pwr Z0 5))), (a6, .inl (c6, 198, .inl (pwr Z0 6))), (a7, .inl (c7, 4, .inl (pwr Z0 7))), (a9, .inl (c9, 32, .inl (pwr Z0 9))), (a10, .inl (c10, 99, .inl (pwr Z0 10)))] H := hP
  have hD : va_D A [(h, .inr (0, [.int (iI 0), .ref a1, .ref a2, .ref a3, .ref a4, .ref a5, .ref a6, .ref a7, .int (iI 0), .ref a9, .null, .null, .null, .int (iI 0), .int (iI 0), .null])), (a1, .inl (c1, 128, .inl (pwr Z0 1))), (a2, .inl (c2, 64, .inl (pwr Z0 2))), (a3, .inl (c3, 6, .inl (pwr Z0 3))), (a4, .inl (c4, 2, .inl (pwr Z0 4))), (a5, .inl (c5, 198, .inl (pwr Z0 5))), (a6, .inl (c6, 198, .inl (pwr Z0 6))), (a7, .inl (c7, 4, .inl (pwr Z0 7))), (a9, .inl (c9, 32, .inl (pwr Z0 9))), (a10, .inl (c10, 99, .inl (pwr Z0 10)))] := hD
  refine va_putF (D := D) (ci := 0) (v := .ref a10) (ty := .array .boolean) (C := RX0) (T := TX0) (N := 16) hx hb hts in_X0 tyX0 tyX0_ok nmX0 hown hK hP hD hS 0 rfl rfl 10 (by decide) (hts _ q45) (fun _ h9 => h9) rfl hin rfl (by decide +kernel) rfl rfl (Nat.le_of_ble_eq_true rfl) dX0_init_74 (fun H locs hP hD hS => ?_)
  have hP : va_P D vwCl [(h, .inr (0, [.int (iI 0), .ref a1, .ref a2, .ref a3, .ref a4, .ref a5, .ref a6, .ref a7, .int (iI 0), .ref a9, .ref a10, .null, .null, .int (iI 0), .int (iI 0), .null])), (a1, .inl (c1, 128, .inl (pwr Z0 1))), (a2, .inl (c2, 64, .inl (pwr Z0 2))), (a3, .inl (c3, 6, .inl (pwr Z0 3))), (a4, .inl (c4, 2, .inl (pwr Z0 4))), (a5, .inl (c5, 198, .inl (pwr Z0 5))), (a6, .inl (c6, 198, .inl (pwr Z0 6))), (a7, .inl (c7, 4, .inl (pwr Z0 7))), (a9, .inl (c9, 32, .inl (pwr Z0 9))), (a10, .inl (c10, 99, .inl (pwr Z0 10)))] H := hP
  have hD : va_D A [(h, .inr (0, [.int (iI 0), .ref a1, .ref a2, .ref a3, .ref a4, .ref a5, .ref a6, .ref a7, .int (iI 0), .ref a9, .ref a10, .null, .null, .int (iI 0), .int (iI 0), .null])), (a1, .inl (c1, 128, .inl (pwr Z0 1))), (a2, .inl (c2, 64, .inl (pwr Z0 2))), (a3, .inl (c3, 6, .inl (pwr Z0 3))), (a4, .inl (c4, 2, .inl (pwr Z0 4))), (a5, .inl (c5, 198, .inl (pwr Z0 5))), (a6, .inl (c6, 198, .inl (pwr Z0 6))), (a7, .inl (c7, 4, .inl (pwr Z0 7))), (a9, .inl (c9, 32, .inl (pwr Z0 9))), (a10, .inl (c10, 99, .inl (pwr Z0 10)))] := hD
  refine lv_aload_n hx hb dX0_init_77 rfl (lh_at hl (i := 0) rfl) ?_
  refine lv_bipush (v := iI 32) hx hb dX0_init_78 (by decide) ?_
  refine va_newa (atype := .byte) (ty := .byte) (a0 := (32, .inl (pwr Z0 11))) hx hb (hts _ q84) rfl hK hP hD hS hA (nzc 32 11 rfl) (by decide) (by decide) (by decide) (Nat.le_of_ble_eq_true rfl) (Nat.le_of_ble_eq_true rfl) dX0_init_80 (fun a11 c11 H hK hP hD hS => ?_)
  have hP : va_P D vwCl [(h, .inr (0, [.int (iI 0), .ref a1, .ref a2, .ref a3, .ref a4, .ref a5, .ref a6, .ref a7, .int (iI 0), .ref a9, .ref a10, .null, .null, .int (iI 0), .int (iI 0), .null])), (a1, .inl (c1, 128, .inl (pwr Z0 1))), (a2, .inl (c2, 64, .inl (pwr Z0 2))), (a3, .inl (c3, 6, .inl (pwr Z0 3))), (a4, .inl (c4, 2, .inl (pwr Z0 4))), (a5, .inl (c5, 198, .inl (pwr Z0 5))), (a6, .inl (c6, 198, .inl (pwr Z0 6))), (a7, .inl (c7, 4, .inl (pwr Z0 7))), (a9, .inl (c9, 32, .inl (pwr Z0 9))), (a10, .inl (c10, 99, .inl (pwr Z0 10))), (a11, .inl (c11, 32, .inl (pwr Z0 11)))] H := hP
  have hD : va_D A [(h, .inr (0, [.int (iI 0), .ref a1, .ref a2, .ref a3, .ref a4, .ref a5, .ref a6, .ref a7, .int (iI 0), .ref a9, .ref a10, .null, .null, .int (iI 0), .int (iI 0), .null])), (a1, .inl (c1, 128, .inl (pwr Z0 1))), (a2, .inl (c2, 64, .inl (pwr Z0 2))), (a3, .inl (c3, 6, .inl (pwr Z0 3))), (a4, .inl (c4, 2, .inl (pwr Z0 4))), (a5, .inl (c5, 198, .inl (pwr Z0 5))), (a6, .inl (c6, 198, .inl (pwr Z0 6))), (a7, .inl (c7, 4, .inl (pwr Z0 7))), (a9, .inl (c9, 32, .inl (pwr Z0 9))), (a10, .inl (c10, 99, .inl (pwr Z0 10))), (a11, .inl (c11, 32, .inl (pwr Z0 11)))] := hD
  refine va_putF (D := D) (ci := 0) (v := .ref a11) (ty := .array .byte) (C := RX0) (T := TX0) (N := 16) hx hb hts in_X0 tyX0 tyX0_ok nmX0 hown hK hP hD hS 0 rfl rfl 11 (by decide) (hts _ q46) (fun _ h9 => h9) rfl hin rfl (by decide +kernel) rfl rfl (Nat.le_of_ble_eq_true rfl) dX0_init_82 (fun H locs hP hD hS => ?_)
  have hP : va_P D vwCl [(h, .inr (0, [.int (iI 0), .ref a1, .ref a2, .ref a3, .ref a4, .ref a5, .ref a6, .ref a7, .int (iI 0), .ref a9, .ref a10, .ref a11, .null, .int (iI 0), .int (iI 0), .null])), (a1, .inl (c1, 128, .inl (pwr Z0 1))), (a2, .inl (c2, 64, .inl (pwr Z0 2))), (a3, .inl (c3, 6, .inl (pwr Z0 3))), (a4, .inl (c4, 2, .inl (pwr Z0 4))), (a5, .inl (c5, 198, .inl (pwr Z0 5))), (a6, .inl (c6, 198, .inl (pwr Z0 6))), (a7, .inl (c7, 4, .inl (pwr Z0 7))), (a9, .inl (c9, 32, .inl (pwr Z0 9))), (a10, .inl (c10, 99, .inl (pwr Z0 10))), (a11, .inl (c11, 32, .inl (pwr Z0 11)))] H := hP
  have hD : va_D A [(h, .inr (0, [.int (iI 0), .ref a1, .ref a2, .ref a3, .ref a4, .ref a5, .ref a6, .ref a7, .int (iI 0), .ref a9, .ref a10, .ref a11, .null, .int (iI 0), .int (iI 0), .null])), (a1, .inl (c1, 128, .inl (pwr Z0 1))), (a2, .inl (c2, 64, .inl (pwr Z0 2))), (a3, .inl (c3, 6, .inl (pwr Z0 3))), (a4, .inl (c4, 2, .inl (pwr Z0 4))), (a5, .inl (c5, 198, .inl (pwr Z0 5))), (a6, .inl (c6, 198, .inl (pwr Z0 6))), (a7, .inl (c7, 4, .inl (pwr Z0 7))), (a9, .inl (c9, 32, .inl (pwr Z0 9))), (a10, .inl (c10, 99, .inl (pwr Z0 10))), (a11, .inl (c11, 32, .inl (pwr Z0 11)))] := hD
  refine lv_aload_n hx hb dX0_init_85 rfl (lh_at hl (i := 0) rfl) ?_
  refine lv_bipush (v := iI 32) hx hb dX0_init_86 (by decide) ?_
  refine va_newa (atype := .byte) (ty := .byte) (a0 := (32, .inl (pwr Z0 12))) hx hb (hts _ q84) rfl hK hP hD hS hA (nzc 32 12 rfl) (by decide) (by decide) (by decide) (Nat.le_of_ble_eq_true rfl) (Nat.le_of_ble_eq_true rfl) dX0_init_88 (fun a12 c12 H hK hP hD hS => ?_)
  have hP : va_P D vwCl [(h, .inr (0, [.int (iI 0), .ref a1, .ref a2, .ref a3, .ref a4, .ref a5, .ref a6, .ref a7, .int (iI 0), .ref a9, .ref a10, .ref a11, .null, .int (iI 0), .int (iI 0), .null])), (a1, .inl (c1, 128, .inl (pwr Z0 1))), (a2, .inl (c2, 64, .inl (pwr Z0 2))), (a3, .inl (c3, 6, .inl (pwr Z0 3))), (a4, .inl (c4, 2, .inl (pwr Z0 4))), (a5, .inl (c5, 198, .inl (pwr Z0 5))), (a6, .inl (c6, 198, .inl (pwr Z0 6))), (a7, .inl (c7, 4, .inl (pwr Z0 7))), (a9, .inl (c9, 32, .inl (pwr Z0 9))), (a10, .inl (c10, 99, .inl (pwr Z0 10))), (a11, .inl (c11, 32, .inl (pwr Z0 11))), (a12, .inl (c12, 32, .inl (pwr Z0 12)))] H := hP
  have hD : va_D A [(h, .inr (0, [.int (iI 0), .ref a1, .ref a2, .ref a3, .ref a4, .ref a5, .ref a6, .ref a7, .int (iI 0), .ref a9, .ref a10, .ref a11, .null, .int (iI 0), .int (iI 0), .null])), (a1, .inl (c1, 128, .inl (pwr Z0 1))), (a2, .inl (c2, 64, .inl (pwr Z0 2))), (a3, .inl (c3, 6, .inl (pwr Z0 3))), (a4, .inl (c4, 2, .inl (pwr Z0 4))), (a5, .inl (c5, 198, .inl (pwr Z0 5))), (a6, .inl (c6, 198, .inl (pwr Z0 6))), (a7, .inl (c7, 4, .inl (pwr Z0 7))), (a9, .inl (c9, 32, .inl (pwr Z0 9))), (a10, .inl (c10, 99, .inl (pwr Z0 10))), (a11, .inl (c11, 32, .inl (pwr Z0 11))), (a12, .inl (c12, 32, .inl (pwr Z0 12)))] := hD
  refine va_putF (D := D) (ci := 0) (v := .ref a12) (ty := .array .byte) (C := RX0) (T := TX0) (N := 16) hx hb hts in_X0 tyX0 tyX0_ok nmX0 hown hK hP hD hS 0 rfl rfl 12 (by decide) (hts _ q47) (fun _ h9 => h9) rfl hin rfl (by decide +kernel) rfl rfl (Nat.le_of_ble_eq_true rfl) dX0_init_90 (fun H locs hP hD hS => ?_)
  have hP : va_P D vwCl [(h, .inr (0, [.int (iI 0), .ref a1, .ref a2, .ref a3, .ref a4, .ref a5, .ref a6, .ref a7, .int (iI 0), .ref a9, .ref a10, .ref a11, .ref a12, .int (iI 0), .int (iI 0), .null])), (a1, .inl (c1, 128, .inl (pwr Z0 1))), (a2, .inl (c2, 64, .inl (pwr Z0 2))), (a3, .inl (c3, 6, .inl (pwr Z0 3))), (a4, .inl (c4, 2, .inl (pwr Z0 4))), (a5, .inl (c5, 198, .inl (pwr Z0 5))), (a6, .inl (c6, 198, .inl (pwr Z0 6))), (a7, .inl (c7, 4, .inl (pwr Z0 7))), (a9, .inl (c9, 32, .inl (pwr Z0 9))), (a10, .inl (c10, 99, .inl (pwr Z0 10))), (a11, .inl (c11, 32, .inl (pwr Z0 11))), (a12, .inl (c12, 32, .inl (pwr Z0 12)))] H := hP
  have hD : va_D A [(h, .inr (0, [.int (iI 0), .ref a1, .ref a2, .ref a3, .ref a4, .ref a5, .ref a6, .ref a7, .int (iI 0), .ref a9, .ref a10, .ref a11, .ref a12, .int (iI 0), .int (iI 0), .null])), (a1, .inl (c1, 128, .inl (pwr Z0 1))), (a2, .inl (c2, 64, .inl (pwr Z0 2))), (a3, .inl (c3, 6, .inl (pwr Z0 3))), (a4, .inl (c4, 2, .inl (pwr Z0 4))), (a5, .inl (c5, 198, .inl (pwr Z0 5))), (a6, .inl (c6, 198, .inl (pwr Z0 6))), (a7, .inl (c7, 4, .inl (pwr Z0 7))), (a9, .inl (c9, 32, .inl (pwr Z0 9))), (a10, .inl (c10, 99, .inl (pwr Z0 10))), (a11, .inl (c11, 32, .inl (pwr Z0 11))), (a12, .inl (c12, 32, .inl (pwr Z0 12)))] := hD
  refine lv_aload_n hx hb dX0_init_93 rfl (lh_at hl (i := 0) rfl) ?_
  refine lv_bipush (v := iI 32) hx hb dX0_init_94 (by decide) ?_
  refine va_newa (atype := .boolean) (ty := .boolean) (a0 := (32, .inl (pwr Z0 15))) hx hb (hts _ q86) rfl hK hP hD hS hA (nzc 32 15 rfl) (by decide) (by decide) (by decide) (Nat.le_of_ble_eq_true rfl) (Nat.le_of_ble_eq_true rfl) dX0_init_96 (fun a15 c15 H hK hP hD hS => ?_)
  have hP : va_P D vwCl [(h, .inr (0, [.int (iI 0), .ref a1, .ref a2, .ref a3, .ref a4, .ref a5, .ref a6, .ref a7, .int (iI 0), .ref a9, .ref a10, .ref a11, .ref a12, .int (iI 0), .int (iI 0), .null])), (a1, .inl (c1, 128, .inl (pwr Z0 1))), (a2, .inl (c2, 64, .inl (pwr Z0 2))), (a3, .inl (c3, 6, .inl (pwr Z0 3))), (a4, .inl (c4, 2, .inl (pwr Z0 4))), (a5, .inl (c5, 198, .inl (pwr Z0 5))), (a6, .inl (c6, 198, .inl (pwr Z0 6))), (a7, .inl (c7, 4, .inl (pwr Z0 7))), (a9, .inl (c9, 32, .inl (pwr Z0 9))), (a10, .inl (c10, 99, .inl (pwr Z0 10))), (a11, .inl (c11, 32, .inl (pwr Z0 11))), (a12, .inl (c12, 32, .inl (pwr Z0 12))), (a15, .inl (c15, 32, .inl (pwr Z0 15)))] H := hP
  have hD : va_D A [(h, .inr (0, [.int (iI 0), .ref a1, .ref a2, .ref a3, .ref a4, .ref a5, .ref a6, .ref a7, .int (iI 0), .ref a9, .ref a10, .ref a11, .ref a12, .int (iI 0), .int (iI 0), .null])), (a1, .inl (c1, 128, .inl (pwr Z0 1))), (a2, .inl (c2, 64, .inl (pwr Z0 2))), (a3, .inl (c3, 6, .inl (pwr Z0 3))), (a4, .inl (c4, 2, .inl (pwr Z0 4))), (a5, .inl (c5, 198, .inl (pwr Z0 5))), (a6, .inl (c6, 198, .inl (pwr Z0 6))), (a7, .inl (c7, 4, .inl (pwr Z0 7))), (a9, .inl (c9, 32, .inl (pwr Z0 9))), (a10, .inl (c10, 99, .inl (pwr Z0 10))), (a11, .inl (c11, 32, .inl (pwr Z0 11))), (a12, .inl (c12, 32, .inl (pwr Z0 12))), (a15, .inl (c15, 32, .inl (pwr Z0 15)))] := hD
  refine va_putF (D := D) (ci := 0) (v := .ref a15) (ty := .array .boolean) (C := RX0) (T := TX0) (N := 16) hx hb hts in_X0 tyX0 tyX0_ok nmX0 hown hK hP hD hS 0 rfl rfl 15 (by decide) (hts _ q50) (fun _ h9 => h9) rfl hin rfl (by decide +kernel) rfl rfl (Nat.le_of_ble_eq_true rfl) dX0_init_98 (fun H locs hP hD hS => ?_)
  have hP : va_P D vwCl [(h, .inr (0, [.int (iI 0), .ref a1, .ref a2, .ref a3, .ref a4, .ref a5, .ref a6, .ref a7, .int (iI 0), .ref a9, .ref a10, .ref a11, .ref a12, .int (iI 0), .int (iI 0), .ref a15])), (a1, .inl (c1, 128, .inl (pwr Z0 1))), (a2, .inl (c2, 64, .inl (pwr Z0 2))), (a3, .inl (c3, 6, .inl (pwr Z0 3))), (a4, .inl (c4, 2, .inl (pwr Z0 4))), (a5, .inl (c5, 198, .inl (pwr Z0 5))), (a6, .inl (c6, 198, .inl (pwr Z0 6))), (a7, .inl (c7, 4, .inl (pwr Z0 7))), (a9, .inl (c9, 32, .inl (pwr Z0 9))), (a10, .inl (c10, 99, .inl (pwr Z0 10))), (a11, .inl (c11, 32, .inl (pwr Z0 11))), (a12, .inl (c12, 32, .inl (pwr Z0 12))), (a15, .inl (c15, 32, .inl (pwr Z0 15)))] H := hP
  have hD : va_D A [(h, .inr (0, [.int (iI 0), .ref a1, .ref a2, .ref a3, .ref a4, .ref a5, .ref a6, .ref a7, .int (iI 0), .ref a9, .ref a10, .ref a11, .ref a12, .int (iI 0), .int (iI 0), .ref a15])), (a1, .inl (c1, 128, .inl (pwr Z0 1))), (a2, .inl (c2, 64, .inl (pwr Z0 2))), (a3, .inl (c3, 6, .inl (pwr Z0 3))), (a4, .inl (c4, 2, .inl (pwr Z0 4))), (a5, .inl (c5, 198, .inl (pwr Z0 5))), (a6, .inl (c6, 198, .inl (pwr Z0 6))), (a7, .inl (c7, 4, .inl (pwr Z0 7))), (a9, .inl (c9, 32, .inl (pwr Z0 9))), (a10, .inl (c10, 99, .inl (pwr Z0 10))), (a11, .inl (c11, 32, .inl (pwr Z0 11))), (a12, .inl (c12, 32, .inl (pwr Z0 12))), (a15, .inl (c15, 32, .inl (pwr Z0 15)))] := hD
  obtain ⟨ad, hadd⟩ : ∃ ad : Nat → Nat, ad = (fun k => match k with | 1 => a1 | 2 => a2 | 3 => a3 | 4 => a4 | 5 => a5 | 6 => a6 | 7 => a7 | 9 => a9 | 10 => a10 | 11 => a11 | 12 => a12 | _ => a15) := ⟨_, rfl⟩
  obtain ⟨cs, hcss⟩ : ∃ cs : Nat → ClassId, cs = (fun k => match k with | 1 => c1 | 2 => c2 | 3 => c3 | 4 => c4 | 5 => c5 | 6 => c6 | 7 => c7 | 9 => c9 | 10 => c10 | 11 => c11 | 12 => c12 | _ => c15) := ⟨_, rfl⟩
  have hPz : va_P D vwCl (pw shX h ad cs Z0) H := by rw [hadd, hcss]; exact hP
  have hDz : va_D A (pw shX h ad cs Z0) := by rw [hadd, hcss]; exact hD
  have hKz : va_K D vwCl (tyl shX cs) s := by rw [hcss]; exact hK
  refine W.mono (Q := MQ below (xQ (fun r u => r = none ∧ iniX = u) (ph_B shX D h ad cs) A) #[Value.ref h] s 12 827 A) ?_ ?_
  · rintro t ⟨o, h1, h2, ⟨⟨r, u, h3, ⟨rfl, rfl⟩, h5⟩, h6⟩, h7⟩
    exact ⟨o, h1, h2, ⟨⟨(ad, cs), h3, trivial, h5, pw_D hDz⟩, h6⟩, h7⟩
  · exact inX_v (Γ := (p, l, e, rmd 1 12 827, s, m, #[Value.ref h], below, meth, c, D, cs, A, 2, 12, 827)) (h := h) (ad := ad) ⟨hx, hb, hml, rfl, hr, hlocks, hown, hts, hKz, fun S' => pw_D hDz, hA, rfl, shX_ok⟩ ⟨rfl, rfl⟩ H locs ls hPz hS hl
abbrev fsM : List Value := [.null, .null, .null, .null, .null, .null, .null, .null, .null]
def iniM : St := (mp (mp (mp (mp (mp Z0 5 3 (fun _ => 24)) 6 3 (fun _ => 24)) 7 4 (fun _ => 24)) 2 48 (fun _ => 24)) 3 48 (fun _ => 24))
theorem inM_l0 {Γ : Cx} {h : Nat} {ad : Nat → Nat} {post : Option Value → St → Prop} {S : St} (C : ph_C shM Γ h ad cX1_init 2 none 1) (kk : ph_V shM Γ h ad post (mp S 5 3 (fun _ => 24)) 94 [.ref h, .int (iI 3)] []) : ∀ (n : Nat) (i : Int), i + n = 3 → 0 ≤ i → ph_V shM Γ h ad post (mp S 5 i (fun _ => 24)) 75 [.ref h, .int (iI i)] [] := by
  intro n
  induction n with
  | zero =>
    intro i hi h0
    obtain rfl : i = 3 := by omega
    refine ph_iload_n C dX1_init_75 rfl ?_
    refine ph_iconst C dX1_init_76 ?_
    refine ph_icmp_ge C 94 dX1_init_77 (by decide) ⟨by omega, by omega⟩ ⟨by omega, by omega⟩ (fun c_77 => ?_) (fun c_77 => ?_)
    · exact kk
    · exact absurd c_77 (by omega)
  | succ n ih =>
    intro i hi h0
    refine ph_iload_n C dX1_init_75 rfl ?_
    refine ph_iconst C dX1_init_76 ?_
    refine ph_icmp_ge C 94 dX1_init_77 (by decide) ⟨by omega, by omega⟩ ⟨by omega, by omega⟩ (fun c_77 => ?_) (fun c_77 => ?_)
    · exact absurd c_77 (by omega)
    · refine ph_aload C dX1_init_80 rfl ?_
      refine gM5 C dX1_init_81 ?_
      refine ph_iload_n C dX1_init_84 rfl ?_
      refine ph_bipush C dX1_init_85 (by decide) ?_
      refine sM5 C (by omega) (by omega) dX1_init_87 ?_
      refine ph_iinc (L' := [_, _]) C dX1_init_88 rfl (by decide) rfl ?_
      refine ph_goto C 75 dX1_init_91 (by decide) ?_
      rw [mp_s h0 rfl]
      exact ih (i + 1) (by omega) (by omega)
theorem inM_l1 {Γ : Cx} {h : Nat} {ad : Nat → Nat} {post : Option Value → St → Prop} {S : St} (C : ph_C shM Γ h ad cX1_init 2 none 1) (kk : ph_V shM Γ h ad post (mp S 6 3 (fun _ => 24)) 115 [.ref h, .int (iI 3)] []) : ∀ (n : Nat) (i : Int), i + n = 3 → 0 ≤ i → ph_V shM Γ h ad post (mp S 6 i (fun _ => 24)) 96 [.ref h, .int (iI i)] [] := by
  intro n
  induction n with
  | zero =>
    intro i hi h0
    obtain rfl : i = 3 := by omega
    refine ph_iload_n C dX1_init_96 rfl ?_
    refine ph_iconst C dX1_init_97 ?_
    refine ph_icmp_ge C 115 dX1_init_98 (by decide) ⟨by omega, by omega⟩ ⟨by omega, by omega⟩ (fun c_98 => ?_) (fun c_98 => ?_)
    · exact kk
    · exact absurd c_98 (by omega)
  | succ n ih =>
    intro i hi h0
    refine ph_iload_n C dX1_init_96 rfl ?_
    refine ph_iconst C dX1_init_97 ?_
    refine ph_icmp_ge C 115 dX1_init_98 (by decide) ⟨by omega, by omega⟩ ⟨by omega, by omega⟩ (fun c_98 => ?_) (fun c_98 => ?_)
    · exact absurd c_98 (by omega)
    · refine ph_aload C dX1_init_101 rfl ?_
      refine gM6 C dX1_init_102 ?_
      refine ph_iload_n C dX1_init_105 rfl ?_
      refine ph_bipush C dX1_init_106 (by decide) ?_
      refine sM6 C (by omega) (by omega) dX1_init_108 ?_
      refine ph_iinc (L' := [_, _]) C dX1_init_109 rfl (by decide) rfl ?_
      refine ph_goto C 96 dX1_init_112 (by decide) ?_
      rw [mp_s h0 rfl]
      exact ih (i + 1) (by omega) (by omega)
theorem inM_l2 {Γ : Cx} {h : Nat} {ad : Nat → Nat} {post : Option Value → St → Prop} {S : St} (C : ph_C shM Γ h ad cX1_init 2 none 1) (kk : ph_V shM Γ h ad post (mp S 7 4 (fun _ => 24)) 136 [.ref h, .int (iI 4)] []) : ∀ (n : Nat) (i : Int), i + n = 4 → 0 ≤ i → ph_V shM Γ h ad post (mp S 7 i (fun _ => 24)) 117 [.ref h, .int (iI i)] [] := by
  intro n
  induction n with
  | zero =>
    intro i hi h0
    obtain rfl : i = 4 := by omega
    refine ph_iload_n C dX1_init_117 rfl ?_
    refine ph_iconst C dX1_init_118 ?_
    refine ph_icmp_ge C 136 dX1_init_119 (by decide) ⟨by omega, by omega⟩ ⟨by omega, by omega⟩ (fun c_119 => ?_) (fun c_119 => ?_)
    · exact kk
    · exact absurd c_119 (by omega)
  | succ n ih =>
    intro i hi h0
    refine ph_iload_n C dX1_init_117 rfl ?_
    refine ph_iconst C dX1_init_118 ?_
    refine ph_icmp_ge C 136 dX1_init_119 (by decide) ⟨by omega, by omega⟩ ⟨by omega, by omega⟩ (fun c_119 => ?_) (fun c_119 => ?_)
    · exact absurd c_119 (by omega)
    · refine ph_aload C dX1_init_122 rfl ?_
      refine gM7 C dX1_init_123 ?_
      refine ph_iload_n C dX1_init_126 rfl ?_
      refine ph_bipush C dX1_init_127 (by decide) ?_
      refine sM7 C (by omega) (by omega) dX1_init_129 ?_
      refine ph_iinc (L' := [_, _]) C dX1_init_130 rfl (by decide) rfl ?_
      refine ph_goto C 117 dX1_init_133 (by decide) ?_
      rw [mp_s h0 rfl]
      exact ih (i + 1) (by omega) (by omega)
theorem inM_l3 {Γ : Cx} {h : Nat} {ad : Nat → Nat} {post : Option Value → St → Prop} {S : St} (C : ph_C shM Γ h ad cX1_init 2 none 1) (kk : ph_V shM Γ h ad post (mp S 2 48 (fun _ => 24)) 158 [.ref h, .int (iI 48)] []) : ∀ (n : Nat) (i : Int), i + n = 48 → 0 ≤ i → ph_V shM Γ h ad post (mp S 2 i (fun _ => 24)) 138 [.ref h, .int (iI i)] [] := by
  intro n
  induction n with
  | zero =>
    intro i hi h0
    obtain rfl : i = 48 := by omega
    refine ph_iload_n C dX1_init_138 rfl ?_
    refine ph_bipush C dX1_init_139 (by decide) ?_
    refine ph_icmp_ge C 158 dX1_init_141 (by decide) ⟨by omega, by omega⟩ ⟨by omega, by omega⟩ (fun c_141 => ?_) (fun c_141 => ?_)
    · exact kk
    · exact absurd c_141 (by omega)
  | succ n ih =>
    intro i hi h0
    refine ph_iload_n C dX1_init_138 rfl ?_
    refine ph_bipush C dX1_init_139 (by decide) ?_
    refine ph_icmp_ge C 158 dX1_init_141 (by decide) ⟨by omega, by omega⟩ ⟨by omega, by omega⟩ (fun c_141 => ?_) (fun c_141 => ?_)
    · exact absurd c_141 (by omega)
    · refine ph_aload C dX1_init_144 rfl ?_
      refine gM2 C dX1_init_145 ?_
      refine ph_iload_n C dX1_init_148 rfl ?_
      refine ph_bipush C dX1_init_149 (by decide) ?_
      refine sM2 C (by omega) (by omega) dX1_init_151 ?_
      refine ph_iinc (L' := [_, _]) C dX1_init_152 rfl (by decide) rfl ?_
      refine ph_goto C 138 dX1_init_155 (by decide) ?_
      rw [mp_s h0 rfl]
      exact ih (i + 1) (by omega) (by omega)
theorem inM_l4 {Γ : Cx} {h : Nat} {ad : Nat → Nat} {post : Option Value → St → Prop} {S : St} (C : ph_C shM Γ h ad cX1_init 2 none 1) (kk : ph_V shM Γ h ad post (mp S 3 48 (fun _ => 24)) 180 [.ref h, .int (iI 48)] []) : ∀ (n : Nat) (i : Int), i + n = 48 → 0 ≤ i → ph_V shM Γ h ad post (mp S 3 i (fun _ => 24)) 160 [.ref h, .int (iI i)] [] := by
  intro n
  induction n with
  | zero =>
    intro i hi h0
    obtain rfl : i = 48 := by omega
    refine ph_iload_n C dX1_init_160 rfl ?_
    refine ph_bipush C dX1_init_161 (by decide) ?_
    refine ph_icmp_ge C 180 dX1_init_163 (by decide) ⟨by omega, by omega⟩ ⟨by omega, by omega⟩ (fun c_163 => ?_) (fun c_163 => ?_)
    · exact kk
    · exact absurd c_163 (by omega)
  | succ n ih =>
    intro i hi h0
    refine ph_iload_n C dX1_init_160 rfl ?_
    refine ph_bipush C dX1_init_161 (by decide) ?_
    refine ph_icmp_ge C 180 dX1_init_163 (by decide) ⟨by omega, by omega⟩ ⟨by omega, by omega⟩ (fun c_163 => ?_) (fun c_163 => ?_)
    · exact absurd c_163 (by omega)
    · refine ph_aload C dX1_init_166 rfl ?_
      refine gM3 C dX1_init_167 ?_
      refine ph_iload_n C dX1_init_170 rfl ?_
      refine ph_bipush C dX1_init_171 (by decide) ?_
      refine sM3 C (by omega) (by omega) dX1_init_173 ?_
      refine ph_iinc (L' := [_, _]) C dX1_init_174 rfl (by decide) rfl ?_
      refine ph_goto C 160 dX1_init_177 (by decide) ?_
      rw [mp_s h0 rfl]
      exact ih (i + 1) (by omega) (by omega)
theorem inM_v {Γ : Cx} {h : Nat} {ad : Nat → Nat} {post : Option Value → St → Prop} (C : ph_C shM Γ h ad cX1_init 2 none 1) (hp : post none iniM) : ph_V shM Γ h ad post Z0 73 [.ref h] [] := by
  refine ph_iconst C dX1_init_73 ?_
  refine ph_istore_n (L' := [_, _]) C dX1_init_74 (by decide) (Nat.le_of_ble_eq_true rfl) rfl ?_
  refine ph_tab (mp_0 (S := Z0) (k := 5) (f := fun _ => 24)).symm ?_
  refine inM_l0 C ?_ 3 0 (by omega) (by omega)
  refine ph_iconst C dX1_init_94 ?_
  refine ph_istore_n (L' := [_, _]) C dX1_init_95 (by decide) (Nat.le_of_ble_eq_true rfl) rfl ?_
  refine ph_tab (mp_0 (S := (mp Z0 5 3 (fun _ => 24))) (k := 6) (f := fun _ => 24)).symm ?_
  refine inM_l1 C ?_ 3 0 (by omega) (by omega)
  refine ph_iconst C dX1_init_115 ?_
  refine ph_istore_n (L' := [_, _]) C dX1_init_116 (by decide) (Nat.le_of_ble_eq_true rfl) rfl ?_
  refine ph_tab (mp_0 (S := (mp (mp Z0 5 3 (fun _ => 24)) 6 3 (fun _ => 24))) (k := 7) (f := fun _ => 24)).symm ?_
  refine inM_l2 C ?_ 4 0 (by omega) (by omega)
  refine ph_iconst C dX1_init_136 ?_
  refine ph_istore_n (L' := [_, _]) C dX1_init_137 (by decide) (Nat.le_of_ble_eq_true rfl) rfl ?_
  refine ph_tab (mp_0 (S := (mp (mp (mp Z0 5 3 (fun _ => 24)) 6 3 (fun _ => 24)) 7 4 (fun _ => 24))) (k := 2) (f := fun _ => 24)).symm ?_
  refine inM_l3 C ?_ 48 0 (by omega) (by omega)
  refine ph_iconst C dX1_init_158 ?_
  refine ph_istore_n (L' := [_, _]) C dX1_init_159 (by decide) (Nat.le_of_ble_eq_true rfl) rfl ?_
  refine ph_tab (mp_0 (S := (mp (mp (mp (mp Z0 5 3 (fun _ => 24)) 6 3 (fun _ => 24)) 7 4 (fun _ => 24)) 2 48 (fun _ => 24))) (k := 3) (f := fun _ => 24)).symm ?_
  refine inM_l4 C ?_ 48 0 (by omega) (by omega)
  exact ph_vret C dX1_init_180 hp
set_option maxHeartbeats 4000000 in
theorem cM_init (l : Launch) (D : va_G) (h sz : Nat) : Met l yX1_init (ws_ yX1_init cX1_init 2 none) (rmd 1 9 203) (va_Pc [.ref h] (fun U => U.heap.size = sz ∧ va_P D vwCl [(h, .inr (1, fsM))] U.heap ∧ va_K D vwCl [] U ∧ va_D (fun _ => True) [(h, .inr (1, fsM))])) (va_Qv (fun _ : (Nat → Nat) × (Nat → ClassId) => True) (fun u t => ph_B shM D h u.1 u.2 iniM t ∧ va_D (va_A [(h, .inr (1, fsM))] sz) (pw shM h u.1 u.2 iniM)) (va_A [(h, .inr (1, fsM))] sz)) 9 203 (va_A [(h, .inr (1, fsM))] sz) := by
  refine Met.ofW (cc := cX1_init) (maxL := 2) (ret := none) (by decide) rfl ?_
  intro p e s m args below meth c s₁ B hml hv
  obtain ⟨rfl, hsz, hP, hK, hD0⟩ := hv
  have hx := B.exec
  have hb := B.bytes
  have hr := B.returns
  have hts := atoms_spec (ws := ws_ yX1_init cX1_init 2 none) B.pre
  have hts : ∀ w ∈ lw_all, w.before _ s = true := fun w h => hts w (List.mem_cons_of_mem _ h)
  have hown : s.vm.findClass RX1 = some m.cls := findClass_of_methodNamed B.named
  have hlocks := B.notSynchronized
  have hin : meth.name = "<init>" := (name_of_methodNamed B.named B.method).1
  subst hsz
  have hD := hD0.self (sz := s.heap.size)
  generalize hAe : va_A [(h, .inr (1, fsM))] s.heap.size = A at hD ⊢
  have hA : ∀ q : Nat, s.heap.size ≤ q → A q := fun q h => by rw [← hAe]; exact Or.inr h
  have hS : va_S A s.heap s.heap [] := va_S.rf
  have hP : va_P D vwCl [(h, .inr (1, fsM))] s.heap := hP
  have hcat : ∀ v ∈ ([Value.ref h] : List Value), v.category = 1 := fun v hv => by rw [List.mem_singleton] at hv; rw [hv]; rfl
  have hl := lh_entry [Value.ref h] (n := 2) hcat (Nat.le_of_ble_eq_true rfl)
  rw [entry_eq m [Value.ref h] hcat 2]
  generalize (([Value.ref h] : List Value).map Slot.val ++ List.replicate (2 - ([Value.ref h] : List Value).length) Slot.unset).toArray = ls at hl ⊢
  refine lv_aload_n hx hb dX1_init_0 rfl (lh_at hl (i := 0) rfl) ?_
  refine W.objInit hx hb hown (hts _ q229) (hts _ q33) (hts _ q34) rfl (by rw [hml]; exact hl.1.1) rfl dX1_init_1 (Nat.le_of_ble_eq_true rfl) (Nat.le_of_ble_eq_true rfl) ?_
  refine W.eq (g2 := F0 m 4 ls []) rfl ?_
  refine lv_aload_n hx hb dX1_init_4 rfl (lh_at hl (i := 0) rfl) ?_
  refine lv_bipush (v := iI 24) hx hb dX1_init_5 (by decide) ?_
  refine va_newa (atype := .int) (ty := .int) (a0 := (24, .inl (pwr Z0 0))) hx hb (hts _ q85) rfl hK hP hD hS hA (nzc 24 0 rfl) (by decide) (by decide) (by decide) (Nat.le_of_ble_eq_true rfl) (Nat.le_of_ble_eq_true rfl) dX1_init_7 (fun a0 c0 H hK hP hD hS => ?_)
  have hP : va_P D vwCl [(h, .inr (1, [.null, .null, .null, .null, .null, .null, .null, .null, .null])), (a0, .inl (c0, 24, .inl (pwr Z0 0)))] H := hP
  have hD : va_D A [(h, .inr (1, [.null, .null, .null, .null, .null, .null, .null, .null, .null])), (a0, .inl (c0, 24, .inl (pwr Z0 0)))] := hD
  refine va_put (D := D) (ci := 1) (v := .ref a0) (ty := .array .int) (C := RX1) (T := TX1) (N := 9) hx hb hts in_X1 tyX1 tyX1_ok nmX1 hown hK hP hD hS 0 rfl rfl 0 (by decide) (hts _ q230) (fun _ h9 => h9) rfl (by decide +kernel) rfl rfl (Nat.le_of_ble_eq_true rfl) dX1_init_9 (fun H locs hP hD hS => ?_)
  have hP : va_P D vwCl [(h, .inr (1, [.ref a0, .null, .null, .null, .null, .null, .null, .null, .null])), (a0, .inl (c0, 24, .inl (pwr Z0 0)))] H := hP
  have hD : va_D A [(h, .inr (1, [.ref a0, .null, .null, .null, .null, .null, .null, .null, .null])), (a0, .inl (c0, 24, .inl (pwr Z0 0)))] := hD
  refine lv_aload_n hx hb dX1_init_12 rfl (lh_at hl (i := 0) rfl) ?_
  refine lv_bipush (v := iI 24) hx hb dX1_init_13 (by decide) ?_
  refine va_newa (atype := .int) (ty := .int) (a0 := (24, .inl (pwr Z0 1))) hx hb (hts _ q85) rfl hK hP hD hS hA (nzc 24 1 rfl) (by decide) (by decide) (by decide) (Nat.le_of_ble_eq_true rfl) (Nat.le_of_ble_eq_true rfl) dX1_init_15 (fun a1 c1 H hK hP hD hS => ?_)
  have hP : va_P D vwCl [(h, .inr (1, [.ref a0, .null, .null, .null, .null, .null, .null, .null, .null])), (a0, .inl (c0, 24, .inl (pwr Z0 0))), (a1, .inl (c1, 24, .inl (pwr Z0 1)))] H := hP
  have hD : va_D A [(h, .inr (1, [.ref a0, .null, .null, .null, .null, .null, .null, .null, .null])), (a0, .inl (c0, 24, .inl (pwr Z0 0))), (a1, .inl (c1, 24, .inl (pwr Z0 1)))] := hD
  refine va_put (D := D) (ci := 1) (v := .ref a1) (ty := .array .int) (C := RX1) (T := TX1) (N := 9) hx hb hts in_X1 tyX1 tyX1_ok nmX1 hown hK hP hD hS 0 rfl rfl 1 (by decide) (hts _ q231) (fun _ h9 => h9) rfl (by decide +kernel) rfl rfl (Nat.le_of_ble_eq_true rfl) dX1_init_17 (fun H locs hP hD hS => ?_)
  have hP : va_P D vwCl [(h, .inr (1, [.ref a0, .ref a1, .null, .null, .null, .null, .null, .null, .null])), (a0, .inl (c0, 24, .inl (pwr Z0 0))), (a1, .inl (c1, 24, .inl (pwr Z0 1)))] H := hP
  have hD : va_D A [(h, .inr (1, [.ref a0, .ref a1, .null, .null, .null, .null, .null, .null, .null])), (a0, .inl (c0, 24, .inl (pwr Z0 0))), (a1, .inl (c1, 24, .inl (pwr Z0 1)))] := hD
  refine lv_aload_n hx hb dX1_init_20 rfl (lh_at hl (i := 0) rfl) ?_
  refine lv_bipush (v := iI 48) hx hb dX1_init_21 (by decide) ?_
  refine va_newa (atype := .int) (ty := .int) (a0 := (48, .inl (pwr Z0 2))) hx hb (hts _ q85) rfl hK hP hD hS hA (nzc 48 2 rfl) (by decide) (by decide) (by decide) (Nat.le_of_ble_eq_true rfl) (Nat.le_of_ble_eq_true rfl) dX1_init_23 (fun a2 c2 H hK hP hD hS => ?_)
  have hP : va_P D vwCl [(h, .inr (1, [.ref a0, .ref a1, .null, .null, .null, .null, .null, .null, .null])), (a0, .inl (c0, 24, .inl (pwr Z0 0))), (a1, .inl (c1, 24, .inl (pwr Z0 1))), (a2, .inl (c2, 48, .inl (pwr Z0 2)))] H := hP
  have hD : va_D A [(h, .inr (1, [.ref a0, .ref a1, .null, .null, .null, .null, .null, .null, .null])), (a0, .inl (c0, 24, .inl (pwr Z0 0))), (a1, .inl (c1, 24, .inl (pwr Z0 1))), (a2, .inl (c2, 48, .inl (pwr Z0 2)))] := hD
  refine va_put (D := D) (ci := 1) (v := .ref a2) (ty := .array .int) (C := RX1) (T := TX1) (N := 9) hx hb hts in_X1 tyX1 tyX1_ok nmX1 hown hK hP hD hS 0 rfl rfl 2 (by decide) (hts _ q232) (fun _ h9 => h9) rfl (by decide +kernel) rfl rfl (Nat.le_of_ble_eq_true rfl) dX1_init_25 (fun H locs hP hD hS => ?_)
  have hP : va_P D vwCl [(h, .inr (1, [.ref a0, .ref a1, .ref a2, .null, .null, .null, .null, .null, .null])), (a0, .inl (c0, 24, .inl (pwr Z0 0))), (a1, .inl (c1, 24, .inl (pwr Z0 1))), (a2, .inl (c2, 48, .inl (pwr Z0 2)))] H := hP
  have hD : va_D A [(h, .inr (1, [.ref a0, .ref a1, .ref a2, .null, .null, .null, .null, .null, .null])), (a0, .inl (c0, 24, .inl (pwr Z0 0))), (a1, .inl (c1, 24, .inl (pwr Z0 1))), (a2, .inl (c2, 48, .inl (pwr Z0 2)))] := hD
  refine lv_aload_n hx hb dX1_init_28 rfl (lh_at hl (i := 0) rfl) ?_
  refine lv_bipush (v := iI 48) hx hb dX1_init_29 (by decide) ?_
  refine va_newa (atype := .int) (ty := .int) (a0 := (48, .inl (pwr Z0 3))) hx hb (hts _ q85) rfl hK hP hD hS hA (nzc 48 3 rfl) (by decide) (by decide) (by decide) (Nat.le_of_ble_eq_true rfl) (Nat.le_of_ble_eq_true rfl) dX1_init_31 (fun a3 c3 H hK hP hD hS => ?_)
  have hP : va_P D vwCl [(h, .inr (1, [.ref a0, .ref a1, .ref a2, .null, .null, .null, .null, .null, .null])), (a0, .inl (c0, 24, .inl (pwr Z0 0))), (a1, .inl (c1, 24, .inl (pwr Z0 1))), (a2, .inl (c2, 48, .inl (pwr Z0 2))), (a3, .inl (c3, 48, .inl (pwr Z0 3)))] H := hP
  have hD : va_D A [(h, .inr (1, [.ref a0, .ref a1, .ref a2, .null, .null, .null, .null, .null, .null])), (a0, .inl (c0, 24, .inl (pwr Z0 0))), (a1, .inl (c1, 24, .inl (pwr Z0 1))), (a2, .inl (c2, 48, .inl (pwr Z0 2))), (a3, .inl (c3, 48, .inl (pwr Z0 3)))] := hD
  refine va_put (D := D) (ci := 1) (v := .ref a3) (ty := .array .int) (C := RX1) (T := TX1) (N := 9) hx hb hts in_X1 tyX1 tyX1_ok nmX1 hown hK hP hD hS 0 rfl rfl 3 (by decide) (hts _ q233) (fun _ h9 => h9) rfl (by decide +kernel) rfl rfl (Nat.le_of_ble_eq_true rfl) dX1_init_33 (fun H locs hP hD hS => ?_)
  have hP : va_P D vwCl [(h, .inr (1, [.ref a0, .ref a1, .ref a2, .ref a3, .null, .null, .null, .null, .null])), (a0, .inl (c0, 24, .inl (pwr Z0 0))), (a1, .inl (c1, 24, .inl (pwr Z0 1))), (a2, .inl (c2, 48, .inl (pwr Z0 2))), (a3, .inl (c3, 48, .inl (pwr Z0 3)))] H := hP
  have hD : va_D A [(h, .inr (1, [.ref a0, .ref a1, .ref a2, .ref a3, .null, .null, .null, .null, .null])), (a0, .inl (c0, 24, .inl (pwr Z0 0))), (a1, .inl (c1, 24, .inl (pwr Z0 1))), (a2, .inl (c2, 48, .inl (pwr Z0 2))), (a3, .inl (c3, 48, .inl (pwr Z0 3)))] := hD
  refine lv_aload_n hx hb dX1_init_36 rfl (lh_at hl (i := 0) rfl) ?_
  refine lv_bipush (v := iI 24) hx hb dX1_init_37 (by decide) ?_
  refine va_newa (atype := .boolean) (ty := .boolean) (a0 := (24, .inl (pwr Z0 4))) hx hb (hts _ q86) rfl hK hP hD hS hA (nzc 24 4 rfl) (by decide) (by decide) (by decide) (Nat.le_of_ble_eq_true rfl) (Nat.le_of_ble_eq_true rfl) dX1_init_39 (fun a4 c4 H hK hP hD hS => ?_)
  have hP : va_P D vwCl [(h, .inr (1, [.ref a0, .ref a1, .ref a2, .ref a3, .null, .null, .null, .null, .null])), (a0, .inl (c0, 24, .inl (pwr Z0 0))), (a1, .inl (c1, 24, .inl (pwr Z0 1))), (a2, .inl (c2, 48, .inl (pwr Z0 2))), (a3, .inl (c3, 48, .inl (pwr Z0 3))), (a4, .inl (c4, 24, .inl (pwr Z0 4)))] H := hP
  have hD : va_D A [(h, .inr (1, [.ref a0, .ref a1, .ref a2, .ref a3, .null, .null, .null, .null, .null])), (a0, .inl (c0, 24, .inl (pwr Z0 0))), (a1, .inl (c1, 24, .inl (pwr Z0 1))), (a2, .inl (c2, 48, .inl (pwr Z0 2))), (a3, .inl (c3, 48, .inl (pwr Z0 3))), (a4, .inl (c4, 24, .inl (pwr Z0 4)))] := hD
  refine va_put (D := D) (ci := 1) (v := .ref a4) (ty := .array .boolean) (C := RX1) (T := TX1) (N := 9) hx hb hts in_X1 tyX1 tyX1_ok nmX1 hown hK hP hD hS 0 rfl rfl 4 (by decide) (hts _ q234) (fun _ h9 => h9) rfl (by decide +kernel) rfl rfl (Nat.le_of_ble_eq_true rfl) dX1_init_41 (fun H locs hP hD hS => ?_)
  have hP : va_P D vwCl [(h, .inr (1, [.ref a0, .ref a1, .ref a2, .ref a3, .ref a4, .null, .null, .null, .null])), (a0, .inl (c0, 24, .inl (pwr Z0 0))), (a1, .inl (c1, 24, .inl (pwr Z0 1))), (a2, .inl (c2, 48, .inl (pwr Z0 2))), (a3, .inl (c3, 48, .inl (pwr Z0 3))), (a4, .inl (c4, 24, .inl (pwr Z0 4)))] H := hP
  have hD : va_D A [(h, .inr (1, [.ref a0, .ref a1, .ref a2, .ref a3, .ref a4, .null, .null, .null, .null])), (a0, .inl (c0, 24, .inl (pwr Z0 0))), (a1, .inl (c1, 24, .inl (pwr Z0 1))), (a2, .inl (c2, 48, .inl (pwr Z0 2))), (a3, .inl (c3, 48, .inl (pwr Z0 3))), (a4, .inl (c4, 24, .inl (pwr Z0 4)))] := hD
  refine lv_aload_n hx hb dX1_init_44 rfl (lh_at hl (i := 0) rfl) ?_
  refine lv_iconst (v := iI 3) hx hb dX1_init_45 (by decide) ?_
  refine va_newa (atype := .int) (ty := .int) (a0 := (3, .inl (pwr Z0 5))) hx hb (hts _ q85) rfl hK hP hD hS hA (nzc 3 5 rfl) (by decide) (by decide) (by decide) (Nat.le_of_ble_eq_true rfl) (Nat.le_of_ble_eq_true rfl) dX1_init_46 (fun a5 c5 H hK hP hD hS => ?_)
  have hP : va_P D vwCl [(h, .inr (1, [.ref a0, .ref a1, .ref a2, .ref a3, .ref a4, .null, .null, .null, .null])), (a0, .inl (c0, 24, .inl (pwr Z0 0))), (a1, .inl (c1, 24, .inl (pwr Z0 1))), (a2, .inl (c2, 48, .inl (pwr Z0 2))), (a3, .inl (c3, 48, .inl (pwr Z0 3))), (a4, .inl (c4, 24, .inl (pwr Z0 4))), (a5, .inl (c5, 3, .inl (pwr Z0 5)))] H := hP
  have hD : va_D A [(h, .inr (1, [.ref a0, .ref a1, .ref a2, .ref a3, .ref a4, .null, .null, .null, .null])), (a0, .inl (c0, 24, .inl (pwr Z0 0))), (a1, .inl (c1, 24, .inl (pwr Z0 1))), (a2, .inl (c2, 48, .inl (pwr Z0 2))), (a3, .inl (c3, 48, .inl (pwr Z0 3))), (a4, .inl (c4, 24, .inl (pwr Z0 4))), (a5, .inl (c5, 3, .inl (pwr Z0 5)))] := hD
  refine va_put (D := D) (ci := 1) (v := .ref a5) (ty := .array .int) (C := RX1) (T := TX1) (N := 9) hx hb hts in_X1 tyX1 tyX1_ok nmX1 hown hK hP hD hS 0 rfl rfl 5 (by decide) (hts _ q235) (fun _ h9 => h9) rfl (by decide +kernel) rfl rfl (Nat.le_of_ble_eq_true rfl) dX1_init_48 (fun H locs hP hD hS => ?_)
  have hP : va_P D vwCl [(h, .inr (1, [.ref a0, .ref a1, .ref a2, .ref a3, .ref a4, .ref a5, .null, .null, .null])), (a0, .inl (c0, 24, .inl (pwr Z0 0))), (a1, .inl (c1, 24, .inl (pwr Z0 1))), (a2, .inl (c2, 48, .inl (pwr Z0 2))), (a3, .inl (c3, 48, .inl (pwr Z0 3))), (a4, .inl (c4, 24, .inl (pwr Z0 4))), (a5, .inl (c5, 3, .inl (pwr Z0 5)))] H := hP
  have hD : va_D A [(h, .inr (1, [.ref a0, .ref a1, .ref a2, .ref a3, .ref a4, .ref a5, .null, .null, .null])), (a0, .inl (c0, 24, .inl (pwr Z0 0))), (a1, .inl (c1, 24, .inl (pwr Z0 1))), (a2, .inl (c2, 48, .inl (pwr Z0 2))), (a3, .inl (c3, 48, .inl (pwr Z0 3))), (a4, .inl (c4, 24, .inl (pwr Z0 4))), (a5, .inl (c5, 3, .inl (pwr Z0 5)))] := hD
  refine lv_aload_n hx hb dX1_init_51 rfl (lh_at hl (i := 0) rfl) ?_
  refine lv_iconst (v := iI 3) hx hb dX1_init_52 (by decide) ?_
  refine va_newa (atype := .int) (ty := .int) (a0 := (3, .inl (pwr Z0 6))) hx hb (hts _ q85) rfl hK hP hD hS hA (nzc 3 6 rfl) (by decide) (by decide) (by decide) (Nat.le_of_ble_eq_true rfl) (Nat.le_of_ble_eq_true rfl) dX1_init_53 (fun a6 c6 H hK hP hD hS => ?_)
  have hP : va_P D vwCl [(h, .inr (1, [.ref a0, .ref a1, .ref a2, .ref a3, .ref a4, .ref a5, .null, .null, .null])), (a0, .inl (c0, 24, .inl (pwr Z0 0))), (a1, .inl (c1, 24, .inl (pwr Z0 1))), (a2, .inl (c2, 48, .inl (pwr Z0 2))), (a3, .inl (c3, 48, .inl (pwr Z0 3))), (a4, .inl (c4, 24, .inl (pwr Z0 4))), (a5, .inl (c5, 3, .inl (pwr Z0 5))), (a6, .inl (c6, 3, .inl (pwr Z0 6)))] H := hP
  have hD : va_D A [(h, .inr (1, [.ref a0, .ref a1, .ref a2, .ref a3, .ref a4, .ref a5, .null, .null, .null])), (a0, .inl (c0, 24, .inl (pwr Z0 0))), (a1, .inl (c1, 24, .inl (pwr Z0 1))), (a2, .inl (c2, 48, .inl (pwr Z0 2))), (a3, .inl (c3, 48, .inl (pwr Z0 3))), (a4, .inl (c4, 24, .inl (pwr Z0 4))), (a5, .inl (c5, 3, .inl (pwr Z0 5))), (a6, .inl (c6, 3, .inl (pwr Z0 6)))] := hD
  refine va_put (D := D) (ci := 1) (v := .ref a6) (ty := .array .int) (C := RX1) (T := TX1) (N := 9) hx hb hts in_X1 tyX1 tyX1_ok nmX1 hown hK hP hD hS 0 rfl rfl 6 (by decide) (hts _ q236) (fun _ h9 => h9) rfl (by decide +kernel) rfl rfl (Nat.le_of_ble_eq_true rfl) dX1_init_55 (fun H locs hP hD hS => ?_)
  have hP : va_P D vwCl [(h, .inr (1, [.ref a0, .ref a1, .ref a2, .ref a3, .ref a4, .ref a5, .ref a6, .null, .null])), (a0, .inl (c0, 24, .inl (pwr Z0 0))), (a1, .inl (c1, 24, .inl (pwr Z0 1))), (a2, .inl (c2, 48, .inl (pwr Z0 2))), (a3, .inl (c3, 48, .inl (pwr Z0 3))), (a4, .inl (c4, 24, .inl (pwr Z0 4))), (a5, .inl (c5, 3, .inl (pwr Z0 5))), (a6, .inl (c6, 3, .inl (pwr Z0 6)))] H := hP
  have hD : va_D A [(h, .inr (1, [.ref a0, .ref a1, .ref a2, .ref a3, .ref a4, .ref a5, .ref a6, .null, .null])), (a0, .inl (c0, 24, .inl (pwr Z0 0))), (a1, .inl (c1, 24, .inl (pwr Z0 1))), (a2, .inl (c2, 48, .inl (pwr Z0 2))), (a3, .inl (c3, 48, .inl (pwr Z0 3))), (a4, .inl (c4, 24, .inl (pwr Z0 4))), (a5, .inl (c5, 3, .inl (pwr Z0 5))), (a6, .inl (c6, 3, .inl (pwr Z0 6)))] := hD
  refine lv_aload_n hx hb dX1_init_58 rfl (lh_at hl (i := 0) rfl) ?_
  refine lv_iconst (v := iI 4) hx hb dX1_init_59 (by decide) ?_
  refine va_newa (atype := .int) (ty := .int) (a0 := (4, .inl (pwr Z0 7))) hx hb (hts _ q85) rfl hK hP hD hS hA (nzc 4 7 rfl) (by decide) (by decide) (by decide) (Nat.le_of_ble_eq_true rfl) (Nat.le_of_ble_eq_true rfl) dX1_init_60 (fun a7 c7 H hK hP hD hS => ?_)
  have hP : va_P D vwCl [(h, .inr (1, [.ref a0, .ref a1, .ref a2, .ref a3, .ref a4, .ref a5, .ref a6, .null, .null])), (a0, .inl (c0, 24, .inl (pwr Z0 0))), (a1, .inl (c1, 24, .inl (pwr Z0 1))), (a2, .inl (c2, 48, .inl (pwr Z0 2))), (a3, .inl (c3, 48, .inl (pwr Z0 3))), (a4, .inl (c4, 24, .inl (pwr Z0 4))), (a5, .inl (c5, 3, .inl (pwr Z0 5))), (a6, .inl (c6, 3, .inl (pwr Z0 6))), (a7, .inl (c7, 4, .inl (pwr Z0 7)))] H := hP
  have hD : va_D A [(h, .inr (1, [.ref a0, .ref a1, .ref a2, .ref a3, .ref a4, .ref a5, .ref a6, .null, .null])), (a0, .inl (c0, 24, .inl (pwr Z0 0))), (a1, .inl (c1, 24, .inl (pwr Z0 1))), (a2, .inl (c2, 48, .inl (pwr Z0 2))), (a3, .inl (c3, 48, .inl (pwr Z0 3))), (a4, .inl (c4, 24, .inl (pwr Z0 4))), (a5, .inl (c5, 3, .inl (pwr Z0 5))), (a6, .inl (c6, 3, .inl (pwr Z0 6))), (a7, .inl (c7, 4, .inl (pwr Z0 7)))] := hD
  refine va_put (D := D) (ci := 1) (v := .ref a7) (ty := .array .int) (C := RX1) (T := TX1) (N := 9) hx hb hts in_X1 tyX1 tyX1_ok nmX1 hown hK hP hD hS 0 rfl rfl 7 (by decide) (hts _ q237) (fun _ h9 => h9) rfl (by decide +kernel) rfl rfl (Nat.le_of_ble_eq_true rfl) dX1_init_62 (fun H locs hP hD hS => ?_)
  have hP : va_P D vwCl [(h, .inr (1, [.ref a0, .ref a1, .ref a2, .ref a3, .ref a4, .ref a5, .ref a6, .ref a7, .null])), (a0, .inl (c0, 24, .inl (pwr Z0 0))), (a1, .inl (c1, 24, .inl (pwr Z0 1))), (a2, .inl (c2, 48, .inl (pwr Z0 2))), (a3, .inl (c3, 48, .inl (pwr Z0 3))), (a4, .inl (c4, 24, .inl (pwr Z0 4))), (a5, .inl (c5, 3, .inl (pwr Z0 5))), (a6, .inl (c6, 3, .inl (pwr Z0 6))), (a7, .inl (c7, 4, .inl (pwr Z0 7)))] H := hP
  have hD : va_D A [(h, .inr (1, [.ref a0, .ref a1, .ref a2, .ref a3, .ref a4, .ref a5, .ref a6, .ref a7, .null])), (a0, .inl (c0, 24, .inl (pwr Z0 0))), (a1, .inl (c1, 24, .inl (pwr Z0 1))), (a2, .inl (c2, 48, .inl (pwr Z0 2))), (a3, .inl (c3, 48, .inl (pwr Z0 3))), (a4, .inl (c4, 24, .inl (pwr Z0 4))), (a5, .inl (c5, 3, .inl (pwr Z0 5))), (a6, .inl (c6, 3, .inl (pwr Z0 6))), (a7, .inl (c7, 4, .inl (pwr Z0 7)))] := hD
  refine lv_aload_n hx hb dX1_init_65 rfl (lh_at hl (i := 0) rfl) ?_
  refine lv_bipush (v := iI 25) hx hb dX1_init_66 (by decide) ?_
  refine va_newa (atype := .boolean) (ty := .boolean) (a0 := (25, .inl (pwr Z0 8))) hx hb (hts _ q86) rfl hK hP hD hS hA (nzc 25 8 rfl) (by decide) (by decide) (by decide) (Nat.le_of_ble_eq_true rfl) (Nat.le_of_ble_eq_true rfl) dX1_init_68 (fun a8 c8 H hK hP hD hS => ?_)
  have hP : va_P D vwCl [(h, .inr (1, [.ref a0, .ref a1, .ref a2, .ref a3, .ref a4, .ref a5, .ref a6, .ref a7, .null])), (a0, .inl (c0, 24, .inl (pwr Z0 0))), (a1, .inl (c1, 24, .inl (pwr Z0 1))), (a2, .inl (c2, 48, .inl (pwr Z0 2))), (a3, .inl (c3, 48, .inl (pwr Z0 3))), (a4, .inl (c4, 24, .inl (pwr Z0 4))), (a5, .inl (c5, 3, .inl (pwr Z0 5))), (a6, .inl (c6, 3, .inl (pwr Z0 6))), (a7, .inl (c7, 4, .inl (pwr Z0 7))), (a8, .inl (c8, 25, .inl (pwr Z0 8)))] H := hP
  have hD : va_D A [(h, .inr (1, [.ref a0, .ref a1, .ref a2, .ref a3, .ref a4, .ref a5, .ref a6, .ref a7, .null])), (a0, .inl (c0, 24, .inl (pwr Z0 0))), (a1, .inl (c1, 24, .inl (pwr Z0 1))), (a2, .inl (c2, 48, .inl (pwr Z0 2))), (a3, .inl (c3, 48, .inl (pwr Z0 3))), (a4, .inl (c4, 24, .inl (pwr Z0 4))), (a5, .inl (c5, 3, .inl (pwr Z0 5))), (a6, .inl (c6, 3, .inl (pwr Z0 6))), (a7, .inl (c7, 4, .inl (pwr Z0 7))), (a8, .inl (c8, 25, .inl (pwr Z0 8)))] := hD
  refine va_put (D := D) (ci := 1) (v := .ref a8) (ty := .array .boolean) (C := RX1) (T := TX1) (N := 9) hx hb hts in_X1 tyX1 tyX1_ok nmX1 hown hK hP hD hS 0 rfl rfl 8 (by decide) (hts _ q238) (fun _ h9 => h9) rfl (by decide +kernel) rfl rfl (Nat.le_of_ble_eq_true rfl) dX1_init_70 (fun H locs hP hD hS => ?_)
  have hP : va_P D vwCl [(h, .inr (1, [.ref a0, .ref a1, .ref a2, .ref a3, .ref a4, .ref a5, .ref a6, .ref a7, .ref a8])), (a0, .inl (c0, 24, .inl (pwr Z0 0))), (a1, .inl (c1, 24, .inl (pwr Z0 1))), (a2, .inl (c2, 48, .inl (pwr Z0 2))), (a3, .inl (c3, 48, .inl (pwr Z0 3))), (a4, .inl (c4, 24, .inl (pwr Z0 4))), (a5, .inl (c5, 3, .inl (pwr Z0 5))), (a6, .inl (c6, 3, .inl (pwr Z0 6))), (a7, .inl (c7, 4, .inl (pwr Z0 7))), (a8, .inl (c8, 25, .inl (pwr Z0 8)))] H := hP
  have hD : va_D A [(h, .inr (1, [.ref a0, .ref a1, .ref a2, .ref a3, .ref a4, .ref a5, .ref a6, .ref a7, .ref a8])), (a0, .inl (c0, 24, .inl (pwr Z0 0))), (a1, .inl (c1, 24, .inl (pwr Z0 1))), (a2, .inl (c2, 48, .inl (pwr Z0 2))), (a3, .inl (c3, 48, .inl (pwr Z0 3))), (a4, .inl (c4, 24, .inl (pwr Z0 4))), (a5, .inl (c5, 3, .inl (pwr Z0 5))), (a6, .inl (c6, 3, .inl (pwr Z0 6))), (a7, .inl (c7, 4, .inl (pwr Z0 7))), (a8, .inl (c8, 25, .inl (pwr Z0 8)))] := hD
  obtain ⟨ad, hadd⟩ : ∃ ad : Nat → Nat, ad = (fun k => match k with | 0 => a0 | 1 => a1 | 2 => a2 | 3 => a3 | 4 => a4 | 5 => a5 | 6 => a6 | 7 => a7 | _ => a8) := ⟨_, rfl⟩
  obtain ⟨cs, hcss⟩ : ∃ cs : Nat → ClassId, cs = (fun k => match k with | 0 => c0 | 1 => c1 | 2 => c2 | 3 => c3 | 4 => c4 | 5 => c5 | 6 => c6 | 7 => c7 | _ => c8) := ⟨_, rfl⟩
  have hPz : va_P D vwCl (pw shM h ad cs Z0) H := by rw [hadd, hcss]; exact hP
  have hDz : va_D A (pw shM h ad cs Z0) := by rw [hadd, hcss]; exact hD
  have hKz : va_K D vwCl (tyl shM cs) s := by rw [hcss]; exact hK
  refine W.mono (Q := MQ below (xQ (fun r u => r = none ∧ iniM = u) (ph_B shM D h ad cs) A) #[Value.ref h] s 9 203 A) ?_ ?_
  · rintro t ⟨o, h1, h2, ⟨⟨r, u, h3, ⟨rfl, rfl⟩, h5⟩, h6⟩, h7⟩
    exact ⟨o, h1, h2, ⟨⟨(ad, cs), h3, trivial, h5, pw_D hDz⟩, h6⟩, h7⟩
  · exact inM_v (Γ := (p, l, e, rmd 1 9 203, s, m, #[Value.ref h], below, meth, c, D, cs, A, 2, 9, 203)) (h := h) (ad := ad) ⟨hx, hb, hml, rfl, hr, hlocks, hown, hts, hKz, fun S' => pw_D hDz, hA, rfl, shM_ok⟩ ⟨rfl, rfl⟩ H locs ls hPz hS hl
end
section
set_option maxRecDepth 100000
def R_law : String := "PersistentHeapLaw"
def lw_P (b : Addr) (xs : List Int32) (args : Array Value) (s : State) : Prop := args = #[.ref b] ∧ s.IntsAt b xs ∧ xs.length ≤ 256 ∧ (Jvm.Cond.and given_1 narrow_1).before args s = true
def lw_Q (_ : Array Value) (s : State) (o : Outcome) (t : State) : Prop := o = .returned (some (.int 1)) ∧ Framed s o t [] 600000 7290000
def lw_Z (below : List Frame) (a : Array Value) (s : State) : State → Prop := fun t => ∃ o, t.status = .running ∧ Ended t below o ∧ lw_Q a s o t
/-- the law's own end, with 1 on the stack, nothing written that was there before, its room as the claim has it -/
theorem lw_ret {p : Program} {l : Launch} {e : Env} {s : State} {m : MethodId} {below : List Frame} {meth : Method} {c : Code} {b : Nat} (hx : p.tables.exec = Jvm.exec) (hb : c.code = code) (hr : meth.sig.returnType = ret) (hlocks : meth.locks = false) {pc : Nat} {H : Heap} {ls : Array Slot} (hdg : decode code pc = .ok (.ireturn, 1)) : W p l e room_1 s m #[Value.ref b] below meth c H [] 600000 7290000 (lw_Z below #[Value.ref b] s) (F0 m pc ls [.int 1]) := by
  intro T hT X
  obtain ⟨fs, hret, hrun, hended, hW, hframe⟩ := X.leave (v := some (.int 1)) (hlocks := hlocks) (fun h => by rw [hr] at h; cases h)
  have hmeth' : T.vm.method? m = some meth := X.method'
  refine ⟨T.setFrames fs, ?_, .returned (some (.int 1)), hrun, hended, rfl, ⟨_, rfl⟩, hW, hframe⟩
  jvm_step X.here [X.here.top, hx, hb, hdg, hmeth', hr, ret, narrow_b1]
  (try refine ⟨rfl, ?_⟩); (try refine ⟨rfl, ?_⟩)
  first | (intro acts; rw [hret _ acts rfl rfl rfl]) | rw [hret _ _ rfl rfl rfl]
  exact Steps.refl _
/-- what holds at the law's entry: the machine, the code, the tables' words (any of lw_tbl by 'hts w (by decide +kernel)'), the script of L ints xs at the cell b, what the Statement gives of the start (any of its parts by flat_of_before) -/
def lw_At (p : Program) (s : State) (m : MethodId) (meth : Method) (c : Code) (b L : Nat) (xs : Nat → Int32) : Prop :=
  p.tables.exec = Jvm.exec ∧ c.code = code ∧ meth.sig.returnType = ret ∧ c.maxLocals = 4 ∧ s.vm.findClass R_law = some m.cls ∧ (∀ w ∈ lw_tbl, w.before #[Value.ref b] s = true) ∧ va_X b L xs s s.heap ∧ b < s.heap.size ∧ meth.locks = false ∧ (Jvm.Cond.and given_1 narrow_1).before #[Value.ref b] s = true
abbrev Lx : Type := Program × Launch × Env × State × MethodId × List Frame × Method × Code × va_G × (Nat → Prop) × (Nat → Nat) × (Nat → ClassId) × (Nat → Nat) × (Nat → ClassId)
def lx_V (Γ : Lx) (b hX hM : Nat) (S M : St) (pc : Nat) (L st : List Value) : Prop :=
  match Γ with
  | (p, l, e, s, m, below, meth, c, D, A, aX, cX, aM, cM) => ∀ (H : Heap) (locs : List Loc) (ls : Array Slot), va_P D vwCl (pw shX hX aX cX S) H → va_P D vwCl (pw shM hM aM cM M) H → va_S A s.heap H locs → lh ls 4 L →
      W p l e room_1 s m #[Value.ref b] below meth c H locs 23 1055 (lw_Z below #[Value.ref b] s) (F0 m pc ls st)
def lx_C (Γ : Lx) (b hX hM Ln : Nat) (xs : Nat → Int32) : Prop :=
  match Γ with
  | (p, l, e, s, m, below, meth, c, D, A, aX, cX, aM, cM) => p.tables.exec = Jvm.exec ∧ c.code = code ∧ c.maxLocals = 4 ∧ meth.sig.returnType = ret ∧ meth.locks = false ∧ s.vm.findClass R_law = some m.cls ∧ (∀ w ∈ lw_all, w.before #[Value.ref b] s = true) ∧ va_K D vwCl (tyl shX cX) s ∧ va_K D vwCl (tyl shM cM) s ∧ (∀ S, va_D A (pw shX hX aX cX S)) ∧ (∀ M, va_D A (pw shM hM aM cM M)) ∧ (∀ S M (i j : Nat) (p q : Nat × va_E), (pw shX hX aX cX S)[i]? = some p → (pw shM hM aM cM M)[j]? = some q → p.1 ≠ q.1) ∧ (∀ q, A q ↔ s.heap.size ≤ q) ∧ va_X b Ln xs s s.heap ∧ b < s.heap.size ∧ Ln ≤ 256
section LXV
variable {Γ : Lx} {b hX hM Ln : Nat} {xs : Nat → Int32} {S M : St} {pc : Nat} {L st : List Value}
theorem lx_aload (C : lx_C Γ b hX hM Ln xs) {k : Fin 4} {a : Nat} (hd : decode code pc = .ok (.aload_n k, 1)) (hi : L[(k : Nat)]? = some (.ref a)) (kk : lx_V Γ b hX hM S M (pc + 1) L (.ref a :: st)) : lx_V Γ b hX hM S M (pc) L (st) := by
  obtain ⟨p, l, e, s, m, below, meth, c, D, A, aX, cX, aM, cM⟩ := Γ
  obtain ⟨hx, hb, hml, hr, hlk, hown, hts, hKX, hKM, hDX, hDM, hap, hA, hX0, hbl, hLn⟩ := C
  intro H locs ls hPX hPM hS hl
  exact lv_aload_n hx hb hd rfl (lh_at hl hi) (kk H locs ls hPX hPM hS hl)
theorem lx_iload (C : lx_C Γ b hX hM Ln xs) {k : Fin 4} {z : Int32} (hd : decode code pc = .ok (.iload_n k, 1)) (hi : L[(k : Nat)]? = some (.int z)) (kk : lx_V Γ b hX hM S M (pc + 1) L (.int z :: st)) : lx_V Γ b hX hM S M (pc) L (st) := by
  obtain ⟨p, l, e, s, m, below, meth, c, D, A, aX, cX, aM, cM⟩ := Γ
  obtain ⟨hx, hb, hml, hr, hlk, hown, hts, hKX, hKM, hDX, hDM, hap, hA, hX0, hbl, hLn⟩ := C
  intro H locs ls hPX hPM hS hl
  exact lv_iload_n hx hb hd rfl (lh_at hl hi) (kk H locs ls hPX hPM hS hl)
theorem lx_iconst (C : lx_C Γ b hX hM Ln xs) {n : Int} (hd : decode code pc = .ok (.iconst n, 1)) (kk : lx_V Γ b hX hM S M (pc + 1) L (.int (iI n) :: st)) : lx_V Γ b hX hM S M (pc) L (st) := by
  obtain ⟨p, l, e, s, m, below, meth, c, D, A, aX, cX, aM, cM⟩ := Γ
  obtain ⟨hx, hb, hml, hr, hlk, hown, hts, hKX, hKM, hDX, hDM, hap, hA, hX0, hbl, hLn⟩ := C
  intro H locs ls hPX hPM hS hl
  exact lv_iconst hx hb hd rfl (kk H locs ls hPX hPM hS hl)
theorem lx_bipush (C : lx_C Γ b hX hM Ln xs) {n : Int} (hd : decode code pc = .ok (.bipush n, 2)) (hv : (Int8.ofInt n).toInt32 = iI n) (kk : lx_V Γ b hX hM S M (pc + 2) L (.int (iI n) :: st)) : lx_V Γ b hX hM S M (pc) L (st) := by
  obtain ⟨p, l, e, s, m, below, meth, c, D, A, aX, cX, aM, cM⟩ := Γ
  obtain ⟨hx, hb, hml, hr, hlk, hown, hts, hKX, hKM, hDX, hDM, hap, hA, hX0, hbl, hLn⟩ := C
  intro H locs ls hPX hPM hS hl
  exact lv_bipush hx hb hd hv (kk H locs ls hPX hPM hS hl)
theorem lx_iadd (C : lx_C Γ b hX hM Ln xs) {x y : Int} (hd : decode code pc = .ok (.iadd, 1)) (kk : lx_V Γ b hX hM S M (pc + 1) L (.int (iI (x + y)) :: st)) : lx_V Γ b hX hM S M (pc) L (.int (iI y) :: .int (iI x) :: st) := by
  obtain ⟨p, l, e, s, m, below, meth, c, D, A, aX, cX, aM, cM⟩ := Γ
  obtain ⟨hx, hb, hml, hr, hlk, hown, hts, hKX, hKM, hDX, hDM, hap, hA, hX0, hbl, hLn⟩ := C
  intro H locs ls hPX hPM hS hl
  exact lv_iadd hx hb hd (by rw [iI_add]; exact kk H locs ls hPX hPM hS hl)
theorem lx_isub (C : lx_C Γ b hX hM Ln xs) {x y : Int} (hd : decode code pc = .ok (.isub, 1)) (kk : lx_V Γ b hX hM S M (pc + 1) L (.int (iI (x - y)) :: st)) : lx_V Γ b hX hM S M (pc) L (.int (iI y) :: .int (iI x) :: st) := by
  obtain ⟨p, l, e, s, m, below, meth, c, D, A, aX, cX, aM, cM⟩ := Γ
  obtain ⟨hx, hb, hml, hr, hlk, hown, hts, hKX, hKM, hDX, hDM, hap, hA, hX0, hbl, hLn⟩ := C
  intro H locs ls hPX hPM hS hl
  exact lv_isub hx hb hd (by rw [iI_sub]; exact kk H locs ls hPX hPM hS hl)
theorem lx_iand (C : lx_C Γ b hX hM Ln xs) {x y : Int32} (hd : decode code pc = .ok (.iand, 1)) (kk : lx_V Γ b hX hM S M (pc + 1) L (.int (x &&& y) :: st)) : lx_V Γ b hX hM S M (pc) L (.int y :: .int x :: st) := by
  obtain ⟨p, l, e, s, m, below, meth, c, D, A, aX, cX, aM, cM⟩ := Γ
  obtain ⟨hx, hb, hml, hr, hlk, hown, hts, hKX, hKM, hDX, hDM, hap, hA, hX0, hbl, hLn⟩ := C
  intro H locs ls hPX hPM hS hl
  exact lv_iand hx hb hd (kk H locs ls hPX hPM hS hl)
theorem lx_goto (C : lx_C Γ b hX hM Ln xs) {off : Int} (tgt : Nat) (hd : decode code pc = .ok (.goto off, 3)) (ht : (pc : Int) + off = (tgt : Int)) (kk : lx_V Γ b hX hM S M (tgt) L (st)) : lx_V Γ b hX hM S M (pc) L (st) := by
  obtain ⟨p, l, e, s, m, below, meth, c, D, A, aX, cX, aM, cM⟩ := Γ
  obtain ⟨hx, hb, hml, hr, hlk, hown, hts, hKX, hKM, hDX, hDM, hap, hA, hX0, hbl, hLn⟩ := C
  intro H locs ls hPX hPM hS hl
  exact lv_goto hx hb hd ht (kk H locs ls hPX hPM hS hl)
theorem lx_iinc (C : lx_C Γ b hX hM Ln xs) {i : Nat} {n z : Int} {L' : List Value} (hd : decode code pc = .ok (.iinc i n, 3)) (hz : L[i]? = some (.int (iI z))) (hn : i < 4) (e' : stL L i (.int (iI (z + n))) = L') (kk : lx_V Γ b hX hM S M (pc + 3) L' (st)) : lx_V Γ b hX hM S M (pc) L (st) := by
  obtain ⟨p, l, e, s, m, below, meth, c, D, A, aX, cX, aM, cM⟩ := Γ
  obtain ⟨hx, hb, hml, hr, hlk, hown, hts, hKX, hKM, hDX, hDM, hap, hA, hX0, hbl, hLn⟩ := C
  intro H locs ls hPX hPM hS hl
  exact lv_iinc hx hb hd hl.1 (en_at hz) (iI_add z n) hn rfl (fun ls' h' => kk H locs ls' hPX hPM hS (lh_st hl (Nat.le_of_lt (List.getElem?_eq_some_iff.mp hz).1) rfl e' h'))
theorem lx_istore (C : lx_C Γ b hX hM Ln xs) {k : Fin 4} {z : Int32} {L' : List Value} (hd : decode code pc = .ok (.istore_n k, 1)) (hi : (k : Nat) ≤ L.length) (e' : stL L k (.int z) = L') (kk : lx_V Γ b hX hM S M (pc + 1) L' (st)) : lx_V Γ b hX hM S M (pc) L (.int z :: st) := by
  obtain ⟨p, l, e, s, m, below, meth, c, D, A, aX, cX, aM, cM⟩ := Γ
  obtain ⟨hx, hb, hml, hr, hlk, hown, hts, hKX, hKM, hDX, hDM, hap, hA, hX0, hbl, hLn⟩ := C
  intro H locs ls hPX hPM hS hl
  exact lv_istore_n hx hb hd rfl hl.1 k.isLt rfl (fun ls' h' => kk H locs ls' hPX hPM hS (lh_st hl hi rfl e' h'))
theorem lx_sld (C : lx_C Γ b hX hM Ln xs) {z : Int} (hd : decode code pc = .ok (.iaload, 1)) (h0 : 0 ≤ z) (h1 : z < (Ln : Int)) (kk : lx_V Γ b hX hM S M (pc + 1) L (.int (xs z.toNat) :: st)) : lx_V Γ b hX hM S M (pc) L (.int (iI z) :: .ref b :: st) := by
  obtain ⟨p, l, e, s, m, below, meth, c, D, A, aX, cX, aM, cM⟩ := Γ
  obtain ⟨hx, hb, hml, hr, hlk, hown, hts, hKX, hKM, hDX, hDM, hap, hA, hX0, hbl, hLn⟩ := C
  intro H locs ls hPX hPM hS hl
  have hbA : ¬ A b := fun q => by have := (hA b).mp q; omega
  refine va_sld hx hb hX0 hbl hbA hS (iI_in h0 h1 (by omega)) hd ?_
  rw [iI_clamp h0 (by omega)]
  exact kk H locs ls hPX hPM hS hl
theorem lx_slen (C : lx_C Γ b hX hM Ln xs) (hd : decode code pc = .ok (.arraylength, 1)) (kk : lx_V Γ b hX hM S M (pc + 1) L (.int (iI (Ln : Int)) :: st)) : lx_V Γ b hX hM S M (pc) L (.ref b :: st) := by
  obtain ⟨p, l, e, s, m, below, meth, c, D, A, aX, cX, aM, cM⟩ := Γ
  obtain ⟨hx, hb, hml, hr, hlk, hown, hts, hKX, hKM, hDX, hDM, hap, hA, hX0, hbl, hLn⟩ := C
  intro H locs ls hPX hPM hS hl
  have hbA : ¬ A b := fun q => by have := (hA b).mp q; omega
  refine va_slen hx hb hX0 hbl hbA hS hd ?_
  rw [← iI_nat]
  exact kk H locs ls hPX hPM hS hl
theorem lx_icmp_gt (C : lx_C Γ b hX hM Ln xs) {x y off : Int} (tgt : Nat) (hd : decode code pc = .ok (.if_icmp .gt off, 3)) (ht : (pc : Int) + off = (tgt : Int)) (ha : inI x) (hb : inI y) (kt : y < x → lx_V Γ b hX hM S M (tgt) L (st)) (kf : x ≤ y → lx_V Γ b hX hM S M (pc + 3) L (st)) : lx_V Γ b hX hM S M (pc) L (.int (iI y) :: .int (iI x) :: st) := by
  obtain ⟨p, l, e, s, m, below, meth, c, D, A, aX, cX, aM, cM⟩ := Γ
  obtain ⟨hx, hb', hml, hr, hlk, hown, hts, hKX, hKM, hDX, hDM, hap, hA, hX0, hbl, hLn⟩ := C
  intro H locs ls hPX hPM hS hl
  exact lv_icmp_gt hx hb' hd ht (fun q => kt ((iI_lt hb ha).mp q) H locs ls hPX hPM hS hl) (fun q => kf (by have := mt (iI_lt hb ha).mpr q; omega) H locs ls hPX hPM hS hl)
theorem lx_icmp_eq (C : lx_C Γ b hX hM Ln xs) {x : Int32} {off : Int} (tgt : Nat) (hd : decode code pc = .ok (.if_icmp .eq off, 3)) (ht : (pc : Int) + off = (tgt : Int)) (kt : lx_V Γ b hX hM S M (tgt) L (st)) : lx_V Γ b hX hM S M (pc) L (.int x :: .int x :: st) := by
  obtain ⟨p, l, e, s, m, below, meth, c, D, A, aX, cX, aM, cM⟩ := Γ
  obtain ⟨hx, hb, hml, hr, hlk, hown, hts, hKX, hKM, hDX, hDM, hap, hA, hX0, hbl, hLn⟩ := C
  intro H locs ls hPX hPM hS hl
  exact lv_icmp_eq hx hb hd ht (fun q => kt H locs ls hPX hPM hS hl) (fun q => absurd rfl q)
theorem lx_table (C : lx_C Γ b hX hM Ln xs) {dflt lo hi off : Int} {offs : Array Int} {len : Nat} {x : Int32} (tgt : Nat) (hd : decode code pc = .ok (.tableswitch dflt lo hi offs, len)) (h1 : ¬ x.toInt < lo) (h2 : ¬ hi < x.toInt) (ho : offs[(x.toInt - lo).toNat]? = some off) (ht : (pc : Int) + off = (tgt : Int)) (kt : lx_V Γ b hX hM S M (tgt) L (st)) : lx_V Γ b hX hM S M (pc) L (.int x :: st) := by
  obtain ⟨p, l, e, s, m, below, meth, c, D, A, aX, cX, aM, cM⟩ := Γ
  obtain ⟨hx, hb, hml, hr, hlk, hown, hts, hKX, hKM, hDX, hDM, hap, hA, hX0, hbl, hLn⟩ := C
  intro H locs ls hPX hPM hS hl
  exact lv_tableIn hx hb hd h1 h2 ho ht (kt H locs ls hPX hPM hS hl)
theorem lx_ret (C : lx_C Γ b hX hM Ln xs) (hd : decode code pc = .ok (.ireturn, 1)) : lx_V Γ b hX hM S M pc L [.int (iI 1)] := by
  obtain ⟨p, l, e, s, m, below, meth, c, D, A, aX, cX, aM, cM⟩ := Γ
  obtain ⟨hx, hb, hml, hr, hlk, hown, hts, hKX, hKM, hDX, hDM, hap, hA, hX0, hbl, hLn⟩ := C
  intro H locs ls hPX hPM hS hl
  rw [iI_1]
  refine va_forget (fun q hq => (hA _).mp (hS.2.2 q hq)) ?_
  refine W.widen (k := 600000) (n := 7290000) (Nat.le_of_ble_eq_true rfl) (Nat.le_of_ble_eq_true rfl) ?_
  exact lw_ret hx hb hr hlk hd
theorem lx_callX (C : lx_C Γ b hX hM Ln xs) {rest : List Value} {y : MethodName} {cc' : ByteArray} {nL' : Nat} {ret' : Option FieldType} {d' idx n : Nat} {As : List Value} {post' : Option Value → St → Prop} (hM0 : ph_M shX y cc' nL' ret' d' As S post') (hk : ph_K R_law idx y cc' nL' ret' n) (hyc : y.cls = sh_C shX) (hn : As.length = n) (hst : st = As.reverse ++ .ref hX :: rest) (hroom : (rest.map fun v => v.category).sum ≤ 8) (hd : decode code pc = .ok (.invokevirtual idx, 3)) (hdd : d' ≤ 6) (hnl : nL' ≤ 13)
    (kk : ∀ (r : Option Value) (S' : St), post' r S' → lx_V Γ b hX hM S' M (pc + 3) L (r.toList ++ rest)) : lx_V Γ b hX hM S M pc L st := by
  subst hst
  obtain ⟨p, l, e, s, m, below, meth, c, D, A, aX, cX, aM, cM⟩ := Γ
  obtain ⟨hx, hb, hml, hr, hlk, hown, hts, hKX, hKM, hDX, hDM, hap, hA, hX0, hbl, hLn⟩ := C
  intro H locs ls hPX hPM hS hl
  have hF : ∀ q, va_A (pw shX hX aX cX S) H.size q → A q := pw_A (hDX S) (fun q hq => (hA q).mpr (Nat.le_trans hS.1 hq))
  have hrec : ∃ cell : Cell, H[hX]? = some cell ∧ cell.vm.isStatics = false ∧ s.vm.findClass y.cls = some cell.cls := by
    rw [hyc]
    exact va_recv hKX hPX (ci := shX.1) (q0 := 0) shX_ok.1 pw_obj
  refine va_callx (va_runV (As := As) (rest := rest) ⟨hx, hb, hml, hown, hts⟩ (hM0 l D hX aX cX H.size) (cwV n hts hk.1 rfl rfl rfl ⟨rfl, hk.2⟩ ⟨by show d' + 1 ≤ 8; omega, by show 8 + (_ + 11) + 32 * d' ≤ 270; omega⟩) ⟨fun a U g mk q => by obtain ⟨q0, q1, qP, qK, qD⟩ := q; exact ⟨q0, q1, qP, va_K.moved (u := U) (U := U.calling g mk a) (Vm.Alike.refl U.vm) qK, qD⟩, hrec, fun U hU hW => ⟨rfl, by rw [hU], by rw [hU]; exact hPX, va_K.moved hW.alike hKX, (hDX S).weaken (fun _ _ _ _ => trivial)⟩⟩ rfl hn hl.1.1 rfl (lv_room hroom) hd ⟨Nat.le_of_ble_eq_true rfl, Nat.le_of_ble_eq_true rfl⟩) hS (fun q _ hq => hF q hq) hF (fun r u t H1 locs1 ht hvm hp hB hz hk1 hS1 => ?_)
  have hP1 := hB.1
  rw [ht] at hP1
  have hP2 : va_P D vwCl (pw shM hM aM cM M) H1 := by
    refine hPM.kept (fun k q hq => hk1 q.1 (hPM k q hq).lt ?_)
    rintro (⟨k2, e2, h2⟩ | h2)
    · exact hap S M k2 k _ _ h2 hq rfl
    · have := (hPM k q hq).lt
      omega
  exact kk r u hp H1 locs1 ls hP1 hP2 hS1 hl
theorem lx_callM (C : lx_C Γ b hX hM Ln xs) {rest : List Value} {y : MethodName} {cc' : ByteArray} {nL' : Nat} {ret' : Option FieldType} {d' idx n : Nat} {As : List Value} {post' : Option Value → St → Prop} (hM0 : ph_M shM y cc' nL' ret' d' As M post') (hk : ph_K R_law idx y cc' nL' ret' n) (hyc : y.cls = sh_C shM) (hn : As.length = n) (hst : st = As.reverse ++ .ref hM :: rest) (hroom : (rest.map fun v => v.category).sum ≤ 8) (hd : decode code pc = .ok (.invokevirtual idx, 3)) (hdd : d' ≤ 6) (hnl : nL' ≤ 13)
    (kk : ∀ (r : Option Value) (S' : St), post' r S' → lx_V Γ b hX hM S S' (pc + 3) L (r.toList ++ rest)) : lx_V Γ b hX hM S M pc L st := by
  subst hst
  obtain ⟨p, l, e, s, m, below, meth, c, D, A, aX, cX, aM, cM⟩ := Γ
  obtain ⟨hx, hb, hml, hr, hlk, hown, hts, hKX, hKM, hDX, hDM, hap, hA, hX0, hbl, hLn⟩ := C
  intro H locs ls hPX hPM hS hl
  have hF : ∀ q, va_A (pw shM hM aM cM M) H.size q → A q := pw_A (hDM M) (fun q hq => (hA q).mpr (Nat.le_trans hS.1 hq))
  have hrec : ∃ cell : Cell, H[hM]? = some cell ∧ cell.vm.isStatics = false ∧ s.vm.findClass y.cls = some cell.cls := by
    rw [hyc]
    exact va_recv hKM hPM (ci := shM.1) (q0 := 0) shM_ok.1 pw_obj
  refine va_callx (va_runV (As := As) (rest := rest) ⟨hx, hb, hml, hown, hts⟩ (hM0 l D hM aM cM H.size) (cwV n hts hk.1 rfl rfl rfl ⟨rfl, hk.2⟩ ⟨by show d' + 1 ≤ 8; omega, by show 8 + (_ + 11) + 32 * d' ≤ 270; omega⟩) ⟨fun a U g mk q => by obtain ⟨q0, q1, qP, qK, qD⟩ := q; exact ⟨q0, q1, qP, va_K.moved (u := U) (U := U.calling g mk a) (Vm.Alike.refl U.vm) qK, qD⟩, hrec, fun U hU hW => ⟨rfl, by rw [hU], by rw [hU]; exact hPM, va_K.moved hW.alike hKM, (hDM M).weaken (fun _ _ _ _ => trivial)⟩⟩ rfl hn hl.1.1 rfl (lv_room hroom) hd ⟨Nat.le_of_ble_eq_true rfl, Nat.le_of_ble_eq_true rfl⟩) hS (fun q _ hq => hF q hq) hF (fun r u t H1 locs1 ht hvm hp hB hz hk1 hS1 => ?_)
  have hP1 := hB.1
  rw [ht] at hP1
  have hP2 : va_P D vwCl (pw shX hX aX cX S) H1 := by
    refine hPX.kept (fun k q hq => hk1 q.1 (hPX k q hq).lt ?_)
    rintro (⟨k2, e2, h2⟩ | h2)
    · exact hap S M k k2 _ _ hq h2 rfl
    · have := (hPX k q hq).lt
      omega
  exact kk r u hp H1 locs1 ls hP2 hP1 hS1 hl
end LXV
/-- a pair of calls, one on each side: same answer, Rel kept -/
def OpOK (Rel : St → St → Prop) (yX : MethodName) (ccX : ByteArray) (nX : Nat) (rX : Option FieldType) (dX : Nat) (yM : MethodName) (ccM : ByteArray) (nM : Nat) (rM : Option FieldType) (dM : Nat) (As : List Value) : Prop :=
  ∀ S M, Rel S M → ∃ PX PM, ph_M shX yX ccX nX rX dX As S PX ∧ ph_M shM yM ccM nM rM dM As M PM ∧ ∀ r u r' u', PX r u → PM r' u' → ∃ z : Int32, r = some (.int z) ∧ r' = some (.int z) ∧ Rel u u'
/-- all sixteen pairs -/
def Ops (Rel : St → St → Prop) : Prop := (∀ x y : Int32, OpOK Rel yX0_make cX0_make 5 (some .int) 4 yX1_make cX1_make 5 (some .int) 2 [.int x, .int y]) ∧ (∀ x y : Int32, OpOK Rel yX0_fromRoot cX0_fromRoot 3 (some .int) 1 yX1_fromRoot cX1_fromRoot 3 (some .int) 1 [.int x, .int y]) ∧ (∀ x y : Int32, OpOK Rel yX0_toRoot cX0_toRoot 3 (some .int) 1 yX1_toRoot cX1_toRoot 3 (some .int) 1 [.int x, .int y]) ∧ (∀ x y z : Int32, OpOK Rel yX0_fromField cX0_fromField 4 (some .int) 1 yX1_fromField cX1_fromField 4 (some .int) 1 [.int x, .int y, .int z]) ∧ (∀ x y z : Int32, OpOK Rel yX0_toField cX0_toField 6 (some .int) 1 yX1_toField cX1_toField 4 (some .int) 1 [.int x, .int y, .int z]) ∧ (∀ x : Int32, OpOK Rel yX0_release cX0_release 2 (some .int) 1 yX1_release cX1_release 2 (some .int) 1 [.int x]) ∧ (∀ x : Int32, OpOK Rel yX0_number cX0_number 2 (some .int) 1 yX1_number cX1_number 2 (some .int) 1 [.int x]) ∧ (∀ x y : Int32, OpOK Rel yX0_setNumber cX0_setNumber 4 (some .int) 1 yX1_setNumber cX1_setNumber 3 (some .int) 1 [.int x, .int y]) ∧ (∀ x y : Int32, OpOK Rel yX0_same cX0_same 3 (some .boolean) 1 yX1_same cX1_same 3 (some .boolean) 1 [.int x, .int y]) ∧ (OpOK Rel yX0_save cX0_save 2 (some .int) 4 yX1_save cX1_save 2 (some .int) 2 []) ∧ (OpOK Rel yX0_back cX0_back 1 (some .int) 4 yX1_back cX1_back 2 (some .int) 2 []) ∧ (∀ x : Int32, OpOK Rel yX0_crash cX0_crash 2 (some .int) 5 yX1_crash cX1_crash 3 (some .int) 3 [.int x]) ∧ (OpOK Rel yX0_collect cX0_collect 1 (some .int) 3 yX1_collect cX1_collect 1 (some .int) 2 []) ∧ (∀ x : Int32, OpOK Rel yX0_collectAndCrash cX0_collectAndCrash 2 (some .int) 5 yX1_collectAndCrash cX1_collectAndCrash 2 (some .int) 4 [.int x]) ∧ (OpOK Rel yX0_needed cX0_needed 2 (some .int) 4 yX1_needed cX1_needed 1 (some .int) 2 []) ∧ (∀ x : Int32, OpOK Rel yX0_reach cX0_reach 4 (some .int) 3 yX1_reach cX1_reach 2 (some .int) 1 [.int x])
theorem kLX_make : ph_K R_law 13 yX0_make cX0_make 5 (some .int) 2 := ⟨lw_V q87 q88 q89 q25 q90, by decide +kernel⟩
theorem kLM_make : ph_K R_law 17 yX1_make cX1_make 5 (some .int) 2 := ⟨lw_V q258 q259 q260 q26 q261, by decide +kernel⟩
theorem kLX_fromRoot : ph_K R_law 18 yX0_fromRoot cX0_fromRoot 3 (some .int) 2 := ⟨lw_V q147 q148 q149 q25 q150, by decide +kernel⟩
theorem kLM_fromRoot : ph_K R_law 21 yX1_fromRoot cX1_fromRoot 3 (some .int) 2 := ⟨lw_V q278 q279 q280 q26 q281, by decide +kernel⟩
theorem kLX_toRoot : ph_K R_law 22 yX0_toRoot cX0_toRoot 3 (some .int) 2 := ⟨lw_V q155 q156 q157 q25 q158, by decide +kernel⟩
theorem kLM_toRoot : ph_K R_law 25 yX1_toRoot cX1_toRoot 3 (some .int) 2 := ⟨lw_V q286 q287 q288 q26 q289, by decide +kernel⟩
theorem kLX_fromField : ph_K R_law 26 yX0_fromField cX0_fromField 4 (some .int) 3 := ⟨lw_V q163 q164 q165 q25 q166, by decide +kernel⟩
theorem kLM_fromField : ph_K R_law 30 yX1_fromField cX1_fromField 4 (some .int) 3 := ⟨lw_V q290 q291 q292 q26 q293, by decide +kernel⟩
theorem kLX_toField : ph_K R_law 31 yX0_toField cX0_toField 6 (some .int) 3 := ⟨lw_V q167 q168 q169 q25 q170, by decide +kernel⟩
theorem kLM_toField : ph_K R_law 34 yX1_toField cX1_toField 4 (some .int) 3 := ⟨lw_V q294 q295 q296 q26 q297, by decide +kernel⟩
theorem kLX_release : ph_K R_law 35 yX0_release cX0_release 2 (some .int) 1 := ⟨lw_V q171 q172 q173 q25 q174, by decide +kernel⟩
theorem kLM_release : ph_K R_law 39 yX1_release cX1_release 2 (some .int) 1 := ⟨lw_V q298 q299 q300 q26 q301, by decide +kernel⟩
theorem kLX_number : ph_K R_law 40 yX0_number cX0_number 2 (some .int) 1 := ⟨lw_V q175 q176 q177 q25 q178, by decide +kernel⟩
theorem kLM_number : ph_K R_law 43 yX1_number cX1_number 2 (some .int) 1 := ⟨lw_V q302 q303 q304 q26 q305, by decide +kernel⟩
theorem kLX_setNumber : ph_K R_law 44 yX0_setNumber cX0_setNumber 4 (some .int) 2 := ⟨lw_V q179 q180 q181 q25 q182, by decide +kernel⟩
theorem kLM_setNumber : ph_K R_law 47 yX1_setNumber cX1_setNumber 3 (some .int) 2 := ⟨lw_V q306 q307 q308 q26 q309, by decide +kernel⟩
theorem kLX_same : ph_K R_law 48 yX0_same cX0_same 3 (some .boolean) 2 := ⟨lw_V q183 q184 q185 q25 q186, by decide +kernel⟩
theorem kLM_same : ph_K R_law 52 yX1_same cX1_same 3 (some .boolean) 2 := ⟨lw_V q310 q311 q312 q26 q313, by decide +kernel⟩
theorem kLX_save : ph_K R_law 53 yX0_save cX0_save 2 (some .int) 0 := ⟨lw_V q187 q188 q189 q25 q190, by decide +kernel⟩
theorem kLM_save : ph_K R_law 57 yX1_save cX1_save 2 (some .int) 0 := ⟨lw_V q314 q315 q316 q26 q317, by decide +kernel⟩
theorem kLX_back : ph_K R_law 58 yX0_back cX0_back 1 (some .int) 0 := ⟨lw_V q195 q196 q197 q25 q198, by decide +kernel⟩
theorem kLM_back : ph_K R_law 61 yX1_back cX1_back 2 (some .int) 0 := ⟨lw_V q322 q323 q324 q26 q325, by decide +kernel⟩
theorem kLX_crash : ph_K R_law 62 yX0_crash cX0_crash 2 (some .int) 1 := ⟨lw_V q203 q204 q205 q25 q206, by decide +kernel⟩
theorem kLM_crash : ph_K R_law 65 yX1_crash cX1_crash 3 (some .int) 1 := ⟨lw_V q326 q327 q328 q26 q329, by decide +kernel⟩
theorem kLX_collect : ph_K R_law 66 yX0_collect cX0_collect 1 (some .int) 0 := ⟨lw_V q211 q120 q121 q25 q122, by decide +kernel⟩
theorem kLM_collect : ph_K R_law 69 yX1_collect cX1_collect 1 (some .int) 0 := ⟨lw_V q332 q333 q334 q26 q335, by decide +kernel⟩
theorem kLX_collectAndCrash : ph_K R_law 70 yX0_collectAndCrash cX0_collectAndCrash 2 (some .int) 1 := ⟨lw_V q212 q213 q214 q25 q215, by decide +kernel⟩
theorem kLM_collectAndCrash : ph_K R_law 73 yX1_collectAndCrash cX1_collectAndCrash 2 (some .int) 1 := ⟨lw_V q336 q337 q338 q26 q339, by decide +kernel⟩
theorem kLX_needed : ph_K R_law 74 yX0_needed cX0_needed 2 (some .int) 0 := ⟨lw_V q216 q217 q218 q25 q219, by decide +kernel⟩
theorem kLM_needed : ph_K R_law 77 yX1_needed cX1_needed 1 (some .int) 0 := ⟨lw_V q341 q342 q343 q26 q344, by decide +kernel⟩
theorem kLX_reach : ph_K R_law 78 yX0_reach cX0_reach 4 (some .int) 1 := ⟨lw_V q220 q221 q222 q25 q223, by decide +kernel⟩
theorem kLM_reach : ph_K R_law 81 yX1_reach cX1_reach 2 (some .int) 1 := ⟨lw_V q345 q346 q347 q26 q348, by decide +kernel⟩
theorem lc_make {Γ : Lx} {b hX hM Ln : Nat} {xs : Nat → Int32} {S M : St} (C : lx_C Γ b hX hM Ln xs) {Rel : St → St → Prop} {i : Nat} (hi : i + 4 ≤ Ln) (ho : OpOK Rel yX0_make cX0_make 5 (some .int) 4 yX1_make cX1_make 5 (some .int) 2 [.int (xs ((i : Int) + 1).toNat), .int (xs ((i : Int) + 2).toNat)]) (hR : Rel S M) (kk : ∀ S' M', Rel S' M' → lx_V Γ b hX hM S' M' 530 [.ref b, .ref hX, .ref hM, .int (iI (i : Int))] []) : lx_V Γ b hX hM S M 112 [.ref b, .ref hX, .ref hM, .int (iI (i : Int))] [] := by
  obtain ⟨PX, PM, h1, h2, h3⟩ := ho S M hR
  refine lx_aload C dL_law_112 rfl ?_
  refine lx_aload C dL_law_113 rfl ?_
  refine lx_iload C dL_law_114 rfl ?_
  refine lx_iconst C dL_law_115 ?_
  refine lx_iadd C dL_law_116 ?_
  refine lx_sld C dL_law_117 (by omega) (by omega) ?_
  refine lx_aload C dL_law_118 rfl ?_
  refine lx_iload C dL_law_119 rfl ?_
  refine lx_iconst C dL_law_120 ?_
  refine lx_iadd C dL_law_121 ?_
  refine lx_sld C dL_law_122 (by omega) (by omega) ?_
  refine lx_callX C h1 kLX_make rfl rfl rfl (Nat.le_of_ble_eq_true rfl) dL_law_123 (by decide) (by decide) (fun r S1 hp1 => ?_)
  refine lx_aload C dL_law_126 rfl ?_
  refine lx_aload C dL_law_127 rfl ?_
  refine lx_iload C dL_law_128 rfl ?_
  refine lx_iconst C dL_law_129 ?_
  refine lx_iadd C dL_law_130 ?_
  refine lx_sld C dL_law_131 (by omega) (by omega) ?_
  refine lx_aload C dL_law_132 rfl ?_
  refine lx_iload C dL_law_133 rfl ?_
  refine lx_iconst C dL_law_134 ?_
  refine lx_iadd C dL_law_135 ?_
  refine lx_sld C dL_law_136 (by omega) (by omega) ?_
  refine lx_callM C h2 kLM_make rfl rfl rfl (by cases r <;> first | exact Nat.le_of_ble_eq_true rfl | (rename_i v; have := lv_cat v; simp [Option.toList]; omega)) dL_law_137 (by decide) (by decide) (fun r2 S2 hp2 => ?_)
  obtain ⟨z, rfl, rfl, hR2⟩ := h3 r S1 r2 S2 hp1 hp2
  dsimp only [Option.toList_some, Option.toList_none, List.cons_append, List.nil_append]
  refine lx_icmp_eq C 530 dL_law_140 (by decide) ?_
  exact kk S1 S2 hR2
theorem lc_fromRoot {Γ : Lx} {b hX hM Ln : Nat} {xs : Nat → Int32} {S M : St} (C : lx_C Γ b hX hM Ln xs) {Rel : St → St → Prop} {i : Nat} (hi : i + 4 ≤ Ln) (ho : OpOK Rel yX0_fromRoot cX0_fromRoot 3 (some .int) 1 yX1_fromRoot cX1_fromRoot 3 (some .int) 1 [.int (xs ((i : Int) + 1).toNat), .int (xs ((i : Int) + 2).toNat)]) (hR : Rel S M) (kk : ∀ S' M', Rel S' M' → lx_V Γ b hX hM S' M' 530 [.ref b, .ref hX, .ref hM, .int (iI (i : Int))] []) : lx_V Γ b hX hM S M 145 [.ref b, .ref hX, .ref hM, .int (iI (i : Int))] [] := by
  obtain ⟨PX, PM, h1, h2, h3⟩ := ho S M hR
  refine lx_aload C dL_law_145 rfl ?_
  refine lx_aload C dL_law_146 rfl ?_
  refine lx_iload C dL_law_147 rfl ?_
  refine lx_iconst C dL_law_148 ?_
  refine lx_iadd C dL_law_149 ?_
  refine lx_sld C dL_law_150 (by omega) (by omega) ?_
  refine lx_aload C dL_law_151 rfl ?_
  refine lx_iload C dL_law_152 rfl ?_
  refine lx_iconst C dL_law_153 ?_
  refine lx_iadd C dL_law_154 ?_
  refine lx_sld C dL_law_155 (by omega) (by omega) ?_
  refine lx_callX C h1 kLX_fromRoot rfl rfl rfl (Nat.le_of_ble_eq_true rfl) dL_law_156 (by decide) (by decide) (fun r S1 hp1 => ?_)
  refine lx_aload C dL_law_159 rfl ?_
  refine lx_aload C dL_law_160 rfl ?_
  refine lx_iload C dL_law_161 rfl ?_
  refine lx_iconst C dL_law_162 ?_
  refine lx_iadd C dL_law_163 ?_
  refine lx_sld C dL_law_164 (by omega) (by omega) ?_
  refine lx_aload C dL_law_165 rfl ?_
  refine lx_iload C dL_law_166 rfl ?_
  refine lx_iconst C dL_law_167 ?_
  refine lx_iadd C dL_law_168 ?_
  refine lx_sld C dL_law_169 (by omega) (by omega) ?_
  refine lx_callM C h2 kLM_fromRoot rfl rfl rfl (by cases r <;> first | exact Nat.le_of_ble_eq_true rfl | (rename_i v; have := lv_cat v; simp [Option.toList]; omega)) dL_law_170 (by decide) (by decide) (fun r2 S2 hp2 => ?_)
  obtain ⟨z, rfl, rfl, hR2⟩ := h3 r S1 r2 S2 hp1 hp2
  dsimp only [Option.toList_some, Option.toList_none, List.cons_append, List.nil_append]
  refine lx_icmp_eq C 530 dL_law_173 (by decide) ?_
  exact kk S1 S2 hR2
theorem lc_toRoot {Γ : Lx} {b hX hM Ln : Nat} {xs : Nat → Int32} {S M : St} (C : lx_C Γ b hX hM Ln xs) {Rel : St → St → Prop} {i : Nat} (hi : i + 4 ≤ Ln) (ho : OpOK Rel yX0_toRoot cX0_toRoot 3 (some .int) 1 yX1_toRoot cX1_toRoot 3 (some .int) 1 [.int (xs ((i : Int) + 1).toNat), .int (xs ((i : Int) + 2).toNat)]) (hR : Rel S M) (kk : ∀ S' M', Rel S' M' → lx_V Γ b hX hM S' M' 530 [.ref b, .ref hX, .ref hM, .int (iI (i : Int))] []) : lx_V Γ b hX hM S M 178 [.ref b, .ref hX, .ref hM, .int (iI (i : Int))] [] := by
  obtain ⟨PX, PM, h1, h2, h3⟩ := ho S M hR
  refine lx_aload C dL_law_178 rfl ?_
  refine lx_aload C dL_law_179 rfl ?_
  refine lx_iload C dL_law_180 rfl ?_
  refine lx_iconst C dL_law_181 ?_
  refine lx_iadd C dL_law_182 ?_
  refine lx_sld C dL_law_183 (by omega) (by omega) ?_
  refine lx_aload C dL_law_184 rfl ?_
  refine lx_iload C dL_law_185 rfl ?_
  refine lx_iconst C dL_law_186 ?_
  refine lx_iadd C dL_law_187 ?_
  refine lx_sld C dL_law_188 (by omega) (by omega) ?_
  refine lx_callX C h1 kLX_toRoot rfl rfl rfl (Nat.le_of_ble_eq_true rfl) dL_law_189 (by decide) (by decide) (fun r S1 hp1 => ?_)
  refine lx_aload C dL_law_192 rfl ?_
  refine lx_aload C dL_law_193 rfl ?_
  refine lx_iload C dL_law_194 rfl ?_
  refine lx_iconst C dL_law_195 ?_
  refine lx_iadd C dL_law_196 ?_
  refine lx_sld C dL_law_197 (by omega) (by omega) ?_
  refine lx_aload C dL_law_198 rfl ?_
  refine lx_iload C dL_law_199 rfl ?_
  refine lx_iconst C dL_law_200 ?_
  refine lx_iadd C dL_law_201 ?_
  refine lx_sld C dL_law_202 (by omega) (by omega) ?_
  refine lx_callM C h2 kLM_toRoot rfl rfl rfl (by cases r <;> first | exact Nat.le_of_ble_eq_true rfl | (rename_i v; have := lv_cat v; simp [Option.toList]; omega)) dL_law_203 (by decide) (by decide) (fun r2 S2 hp2 => ?_)
  obtain ⟨z, rfl, rfl, hR2⟩ := h3 r S1 r2 S2 hp1 hp2
  dsimp only [Option.toList_some, Option.toList_none, List.cons_append, List.nil_append]
  refine lx_icmp_eq C 530 dL_law_206 (by decide) ?_
  exact kk S1 S2 hR2
theorem lc_fromField {Γ : Lx} {b hX hM Ln : Nat} {xs : Nat → Int32} {S M : St} (C : lx_C Γ b hX hM Ln xs) {Rel : St → St → Prop} {i : Nat} (hi : i + 4 ≤ Ln) (ho : OpOK Rel yX0_fromField cX0_fromField 4 (some .int) 1 yX1_fromField cX1_fromField 4 (some .int) 1 [.int (xs ((i : Int) + 1).toNat), .int (xs ((i : Int) + 2).toNat), .int (xs ((i : Int) + 3).toNat)]) (hR : Rel S M) (kk : ∀ S' M', Rel S' M' → lx_V Γ b hX hM S' M' 530 [.ref b, .ref hX, .ref hM, .int (iI (i : Int))] []) : lx_V Γ b hX hM S M 211 [.ref b, .ref hX, .ref hM, .int (iI (i : Int))] [] := by
  obtain ⟨PX, PM, h1, h2, h3⟩ := ho S M hR
  refine lx_aload C dL_law_211 rfl ?_
  refine lx_aload C dL_law_212 rfl ?_
  refine lx_iload C dL_law_213 rfl ?_
  refine lx_iconst C dL_law_214 ?_
  refine lx_iadd C dL_law_215 ?_
  refine lx_sld C dL_law_216 (by omega) (by omega) ?_
  refine lx_aload C dL_law_217 rfl ?_
  refine lx_iload C dL_law_218 rfl ?_
  refine lx_iconst C dL_law_219 ?_
  refine lx_iadd C dL_law_220 ?_
  refine lx_sld C dL_law_221 (by omega) (by omega) ?_
  refine lx_aload C dL_law_222 rfl ?_
  refine lx_iload C dL_law_223 rfl ?_
  refine lx_iconst C dL_law_224 ?_
  refine lx_iadd C dL_law_225 ?_
  refine lx_sld C dL_law_226 (by omega) (by omega) ?_
  refine lx_callX C h1 kLX_fromField rfl rfl rfl (Nat.le_of_ble_eq_true rfl) dL_law_227 (by decide) (by decide) (fun r S1 hp1 => ?_)
  refine lx_aload C dL_law_230 rfl ?_
  refine lx_aload C dL_law_231 rfl ?_
  refine lx_iload C dL_law_232 rfl ?_
  refine lx_iconst C dL_law_233 ?_
  refine lx_iadd C dL_law_234 ?_
  refine lx_sld C dL_law_235 (by omega) (by omega) ?_
  refine lx_aload C dL_law_236 rfl ?_
  refine lx_iload C dL_law_237 rfl ?_
  refine lx_iconst C dL_law_238 ?_
  refine lx_iadd C dL_law_239 ?_
  refine lx_sld C dL_law_240 (by omega) (by omega) ?_
  refine lx_aload C dL_law_241 rfl ?_
  refine lx_iload C dL_law_242 rfl ?_
  refine lx_iconst C dL_law_243 ?_
  refine lx_iadd C dL_law_244 ?_
  refine lx_sld C dL_law_245 (by omega) (by omega) ?_
  refine lx_callM C h2 kLM_fromField rfl rfl rfl (by cases r <;> first | exact Nat.le_of_ble_eq_true rfl | (rename_i v; have := lv_cat v; simp [Option.toList]; omega)) dL_law_246 (by decide) (by decide) (fun r2 S2 hp2 => ?_)
  obtain ⟨z, rfl, rfl, hR2⟩ := h3 r S1 r2 S2 hp1 hp2
  dsimp only [Option.toList_some, Option.toList_none, List.cons_append, List.nil_append]
  refine lx_icmp_eq C 530 dL_law_249 (by decide) ?_
  exact kk S1 S2 hR2
theorem lc_toField {Γ : Lx} {b hX hM Ln : Nat} {xs : Nat → Int32} {S M : St} (C : lx_C Γ b hX hM Ln xs) {Rel : St → St → Prop} {i : Nat} (hi : i + 4 ≤ Ln) (ho : OpOK Rel yX0_toField cX0_toField 6 (some .int) 1 yX1_toField cX1_toField 4 (some .int) 1 [.int (xs ((i : Int) + 1).toNat), .int (xs ((i : Int) + 2).toNat), .int (xs ((i : Int) + 3).toNat)]) (hR : Rel S M) (kk : ∀ S' M', Rel S' M' → lx_V Γ b hX hM S' M' 530 [.ref b, .ref hX, .ref hM, .int (iI (i : Int))] []) : lx_V Γ b hX hM S M 254 [.ref b, .ref hX, .ref hM, .int (iI (i : Int))] [] := by
  obtain ⟨PX, PM, h1, h2, h3⟩ := ho S M hR
  refine lx_aload C dL_law_254 rfl ?_
  refine lx_aload C dL_law_255 rfl ?_
  refine lx_iload C dL_law_256 rfl ?_
  refine lx_iconst C dL_law_257 ?_
  refine lx_iadd C dL_law_258 ?_
  refine lx_sld C dL_law_259 (by omega) (by omega) ?_
  refine lx_aload C dL_law_260 rfl ?_
  refine lx_iload C dL_law_261 rfl ?_
  refine lx_iconst C dL_law_262 ?_
  refine lx_iadd C dL_law_263 ?_
  refine lx_sld C dL_law_264 (by omega) (by omega) ?_
  refine lx_aload C dL_law_265 rfl ?_
  refine lx_iload C dL_law_266 rfl ?_
  refine lx_iconst C dL_law_267 ?_
  refine lx_iadd C dL_law_268 ?_
  refine lx_sld C dL_law_269 (by omega) (by omega) ?_
  refine lx_callX C h1 kLX_toField rfl rfl rfl (Nat.le_of_ble_eq_true rfl) dL_law_270 (by decide) (by decide) (fun r S1 hp1 => ?_)
  refine lx_aload C dL_law_273 rfl ?_
  refine lx_aload C dL_law_274 rfl ?_
  refine lx_iload C dL_law_275 rfl ?_
  refine lx_iconst C dL_law_276 ?_
  refine lx_iadd C dL_law_277 ?_
  refine lx_sld C dL_law_278 (by omega) (by omega) ?_
  refine lx_aload C dL_law_279 rfl ?_
  refine lx_iload C dL_law_280 rfl ?_
  refine lx_iconst C dL_law_281 ?_
  refine lx_iadd C dL_law_282 ?_
  refine lx_sld C dL_law_283 (by omega) (by omega) ?_
  refine lx_aload C dL_law_284 rfl ?_
  refine lx_iload C dL_law_285 rfl ?_
  refine lx_iconst C dL_law_286 ?_
  refine lx_iadd C dL_law_287 ?_
  refine lx_sld C dL_law_288 (by omega) (by omega) ?_
  refine lx_callM C h2 kLM_toField rfl rfl rfl (by cases r <;> first | exact Nat.le_of_ble_eq_true rfl | (rename_i v; have := lv_cat v; simp [Option.toList]; omega)) dL_law_289 (by decide) (by decide) (fun r2 S2 hp2 => ?_)
  obtain ⟨z, rfl, rfl, hR2⟩ := h3 r S1 r2 S2 hp1 hp2
  dsimp only [Option.toList_some, Option.toList_none, List.cons_append, List.nil_append]
  refine lx_icmp_eq C 530 dL_law_292 (by decide) ?_
  exact kk S1 S2 hR2
theorem lc_release {Γ : Lx} {b hX hM Ln : Nat} {xs : Nat → Int32} {S M : St} (C : lx_C Γ b hX hM Ln xs) {Rel : St → St → Prop} {i : Nat} (hi : i + 4 ≤ Ln) (ho : OpOK Rel yX0_release cX0_release 2 (some .int) 1 yX1_release cX1_release 2 (some .int) 1 [.int (xs ((i : Int) + 1).toNat)]) (hR : Rel S M) (kk : ∀ S' M', Rel S' M' → lx_V Γ b hX hM S' M' 530 [.ref b, .ref hX, .ref hM, .int (iI (i : Int))] []) : lx_V Γ b hX hM S M 297 [.ref b, .ref hX, .ref hM, .int (iI (i : Int))] [] := by
  obtain ⟨PX, PM, h1, h2, h3⟩ := ho S M hR
  refine lx_aload C dL_law_297 rfl ?_
  refine lx_aload C dL_law_298 rfl ?_
  refine lx_iload C dL_law_299 rfl ?_
  refine lx_iconst C dL_law_300 ?_
  refine lx_iadd C dL_law_301 ?_
  refine lx_sld C dL_law_302 (by omega) (by omega) ?_
  refine lx_callX C h1 kLX_release rfl rfl rfl (Nat.le_of_ble_eq_true rfl) dL_law_303 (by decide) (by decide) (fun r S1 hp1 => ?_)
  refine lx_aload C dL_law_306 rfl ?_
  refine lx_aload C dL_law_307 rfl ?_
  refine lx_iload C dL_law_308 rfl ?_
  refine lx_iconst C dL_law_309 ?_
  refine lx_iadd C dL_law_310 ?_
  refine lx_sld C dL_law_311 (by omega) (by omega) ?_
  refine lx_callM C h2 kLM_release rfl rfl rfl (by cases r <;> first | exact Nat.le_of_ble_eq_true rfl | (rename_i v; have := lv_cat v; simp [Option.toList]; omega)) dL_law_312 (by decide) (by decide) (fun r2 S2 hp2 => ?_)
  obtain ⟨z, rfl, rfl, hR2⟩ := h3 r S1 r2 S2 hp1 hp2
  dsimp only [Option.toList_some, Option.toList_none, List.cons_append, List.nil_append]
  refine lx_icmp_eq C 530 dL_law_315 (by decide) ?_
  exact kk S1 S2 hR2
theorem lc_number {Γ : Lx} {b hX hM Ln : Nat} {xs : Nat → Int32} {S M : St} (C : lx_C Γ b hX hM Ln xs) {Rel : St → St → Prop} {i : Nat} (hi : i + 4 ≤ Ln) (ho : OpOK Rel yX0_number cX0_number 2 (some .int) 1 yX1_number cX1_number 2 (some .int) 1 [.int (xs ((i : Int) + 1).toNat)]) (hR : Rel S M) (kk : ∀ S' M', Rel S' M' → lx_V Γ b hX hM S' M' 530 [.ref b, .ref hX, .ref hM, .int (iI (i : Int))] []) : lx_V Γ b hX hM S M 320 [.ref b, .ref hX, .ref hM, .int (iI (i : Int))] [] := by
  obtain ⟨PX, PM, h1, h2, h3⟩ := ho S M hR
  refine lx_aload C dL_law_320 rfl ?_
  refine lx_aload C dL_law_321 rfl ?_
  refine lx_iload C dL_law_322 rfl ?_
  refine lx_iconst C dL_law_323 ?_
  refine lx_iadd C dL_law_324 ?_
  refine lx_sld C dL_law_325 (by omega) (by omega) ?_
  refine lx_callX C h1 kLX_number rfl rfl rfl (Nat.le_of_ble_eq_true rfl) dL_law_326 (by decide) (by decide) (fun r S1 hp1 => ?_)
  refine lx_aload C dL_law_329 rfl ?_
  refine lx_aload C dL_law_330 rfl ?_
  refine lx_iload C dL_law_331 rfl ?_
  refine lx_iconst C dL_law_332 ?_
  refine lx_iadd C dL_law_333 ?_
  refine lx_sld C dL_law_334 (by omega) (by omega) ?_
  refine lx_callM C h2 kLM_number rfl rfl rfl (by cases r <;> first | exact Nat.le_of_ble_eq_true rfl | (rename_i v; have := lv_cat v; simp [Option.toList]; omega)) dL_law_335 (by decide) (by decide) (fun r2 S2 hp2 => ?_)
  obtain ⟨z, rfl, rfl, hR2⟩ := h3 r S1 r2 S2 hp1 hp2
  dsimp only [Option.toList_some, Option.toList_none, List.cons_append, List.nil_append]
  refine lx_icmp_eq C 530 dL_law_338 (by decide) ?_
  exact kk S1 S2 hR2
theorem lc_setNumber {Γ : Lx} {b hX hM Ln : Nat} {xs : Nat → Int32} {S M : St} (C : lx_C Γ b hX hM Ln xs) {Rel : St → St → Prop} {i : Nat} (hi : i + 4 ≤ Ln) (ho : OpOK Rel yX0_setNumber cX0_setNumber 4 (some .int) 1 yX1_setNumber cX1_setNumber 3 (some .int) 1 [.int (xs ((i : Int) + 1).toNat), .int (xs ((i : Int) + 2).toNat)]) (hR : Rel S M) (kk : ∀ S' M', Rel S' M' → lx_V Γ b hX hM S' M' 530 [.ref b, .ref hX, .ref hM, .int (iI (i : Int))] []) : lx_V Γ b hX hM S M 343 [.ref b, .ref hX, .ref hM, .int (iI (i : Int))] [] := by
  obtain ⟨PX, PM, h1, h2, h3⟩ := ho S M hR
  refine lx_aload C dL_law_343 rfl ?_
  refine lx_aload C dL_law_344 rfl ?_
  refine lx_iload C dL_law_345 rfl ?_
  refine lx_iconst C dL_law_346 ?_
  refine lx_iadd C dL_law_347 ?_
  refine lx_sld C dL_law_348 (by omega) (by omega) ?_
  refine lx_aload C dL_law_349 rfl ?_
  refine lx_iload C dL_law_350 rfl ?_
  refine lx_iconst C dL_law_351 ?_
  refine lx_iadd C dL_law_352 ?_
  refine lx_sld C dL_law_353 (by omega) (by omega) ?_
  refine lx_callX C h1 kLX_setNumber rfl rfl rfl (Nat.le_of_ble_eq_true rfl) dL_law_354 (by decide) (by decide) (fun r S1 hp1 => ?_)
  refine lx_aload C dL_law_357 rfl ?_
  refine lx_aload C dL_law_358 rfl ?_
  refine lx_iload C dL_law_359 rfl ?_
  refine lx_iconst C dL_law_360 ?_
  refine lx_iadd C dL_law_361 ?_
  refine lx_sld C dL_law_362 (by omega) (by omega) ?_
  refine lx_aload C dL_law_363 rfl ?_
  refine lx_iload C dL_law_364 rfl ?_
  refine lx_iconst C dL_law_365 ?_
  refine lx_iadd C dL_law_366 ?_
  refine lx_sld C dL_law_367 (by omega) (by omega) ?_
  refine lx_callM C h2 kLM_setNumber rfl rfl rfl (by cases r <;> first | exact Nat.le_of_ble_eq_true rfl | (rename_i v; have := lv_cat v; simp [Option.toList]; omega)) dL_law_368 (by decide) (by decide) (fun r2 S2 hp2 => ?_)
  obtain ⟨z, rfl, rfl, hR2⟩ := h3 r S1 r2 S2 hp1 hp2
  dsimp only [Option.toList_some, Option.toList_none, List.cons_append, List.nil_append]
  refine lx_icmp_eq C 530 dL_law_371 (by decide) ?_
  exact kk S1 S2 hR2
theorem lc_same {Γ : Lx} {b hX hM Ln : Nat} {xs : Nat → Int32} {S M : St} (C : lx_C Γ b hX hM Ln xs) {Rel : St → St → Prop} {i : Nat} (hi : i + 4 ≤ Ln) (ho : OpOK Rel yX0_same cX0_same 3 (some .boolean) 1 yX1_same cX1_same 3 (some .boolean) 1 [.int (xs ((i : Int) + 1).toNat), .int (xs ((i : Int) + 2).toNat)]) (hR : Rel S M) (kk : ∀ S' M', Rel S' M' → lx_V Γ b hX hM S' M' 530 [.ref b, .ref hX, .ref hM, .int (iI (i : Int))] []) : lx_V Γ b hX hM S M 376 [.ref b, .ref hX, .ref hM, .int (iI (i : Int))] [] := by
  obtain ⟨PX, PM, h1, h2, h3⟩ := ho S M hR
  refine lx_aload C dL_law_376 rfl ?_
  refine lx_aload C dL_law_377 rfl ?_
  refine lx_iload C dL_law_378 rfl ?_
  refine lx_iconst C dL_law_379 ?_
  refine lx_iadd C dL_law_380 ?_
  refine lx_sld C dL_law_381 (by omega) (by omega) ?_
  refine lx_aload C dL_law_382 rfl ?_
  refine lx_iload C dL_law_383 rfl ?_
  refine lx_iconst C dL_law_384 ?_
  refine lx_iadd C dL_law_385 ?_
  refine lx_sld C dL_law_386 (by omega) (by omega) ?_
  refine lx_callX C h1 kLX_same rfl rfl rfl (Nat.le_of_ble_eq_true rfl) dL_law_387 (by decide) (by decide) (fun r S1 hp1 => ?_)
  refine lx_aload C dL_law_390 rfl ?_
  refine lx_aload C dL_law_391 rfl ?_
  refine lx_iload C dL_law_392 rfl ?_
  refine lx_iconst C dL_law_393 ?_
  refine lx_iadd C dL_law_394 ?_
  refine lx_sld C dL_law_395 (by omega) (by omega) ?_
  refine lx_aload C dL_law_396 rfl ?_
  refine lx_iload C dL_law_397 rfl ?_
  refine lx_iconst C dL_law_398 ?_
  refine lx_iadd C dL_law_399 ?_
  refine lx_sld C dL_law_400 (by omega) (by omega) ?_
  refine lx_callM C h2 kLM_same rfl rfl rfl (by cases r <;> first | exact Nat.le_of_ble_eq_true rfl | (rename_i v; have := lv_cat v; simp [Option.toList]; omega)) dL_law_401 (by decide) (by decide) (fun r2 S2 hp2 => ?_)
  obtain ⟨z, rfl, rfl, hR2⟩ := h3 r S1 r2 S2 hp1 hp2
  dsimp only [Option.toList_some, Option.toList_none, List.cons_append, List.nil_append]
  refine lx_icmp_eq C 530 dL_law_404 (by decide) ?_
  exact kk S1 S2 hR2
theorem lc_save {Γ : Lx} {b hX hM Ln : Nat} {xs : Nat → Int32} {S M : St} (C : lx_C Γ b hX hM Ln xs) {Rel : St → St → Prop} {i : Nat} (hi : i + 4 ≤ Ln) (ho : OpOK Rel yX0_save cX0_save 2 (some .int) 4 yX1_save cX1_save 2 (some .int) 2 []) (hR : Rel S M) (kk : ∀ S' M', Rel S' M' → lx_V Γ b hX hM S' M' 530 [.ref b, .ref hX, .ref hM, .int (iI (i : Int))] []) : lx_V Γ b hX hM S M 409 [.ref b, .ref hX, .ref hM, .int (iI (i : Int))] [] := by
  obtain ⟨PX, PM, h1, h2, h3⟩ := ho S M hR
  refine lx_aload C dL_law_409 rfl ?_
  refine lx_callX C h1 kLX_save rfl rfl rfl (Nat.le_of_ble_eq_true rfl) dL_law_410 (by decide) (by decide) (fun r S1 hp1 => ?_)
  refine lx_aload C dL_law_413 rfl ?_
  refine lx_callM C h2 kLM_save rfl rfl rfl (by cases r <;> first | exact Nat.le_of_ble_eq_true rfl | (rename_i v; have := lv_cat v; simp [Option.toList]; omega)) dL_law_414 (by decide) (by decide) (fun r2 S2 hp2 => ?_)
  obtain ⟨z, rfl, rfl, hR2⟩ := h3 r S1 r2 S2 hp1 hp2
  dsimp only [Option.toList_some, Option.toList_none, List.cons_append, List.nil_append]
  refine lx_icmp_eq C 530 dL_law_417 (by decide) ?_
  exact kk S1 S2 hR2
theorem lc_back {Γ : Lx} {b hX hM Ln : Nat} {xs : Nat → Int32} {S M : St} (C : lx_C Γ b hX hM Ln xs) {Rel : St → St → Prop} {i : Nat} (hi : i + 4 ≤ Ln) (ho : OpOK Rel yX0_back cX0_back 1 (some .int) 4 yX1_back cX1_back 2 (some .int) 2 []) (hR : Rel S M) (kk : ∀ S' M', Rel S' M' → lx_V Γ b hX hM S' M' 530 [.ref b, .ref hX, .ref hM, .int (iI (i : Int))] []) : lx_V Γ b hX hM S M 422 [.ref b, .ref hX, .ref hM, .int (iI (i : Int))] [] := by
  obtain ⟨PX, PM, h1, h2, h3⟩ := ho S M hR
  refine lx_aload C dL_law_422 rfl ?_
  refine lx_callX C h1 kLX_back rfl rfl rfl (Nat.le_of_ble_eq_true rfl) dL_law_423 (by decide) (by decide) (fun r S1 hp1 => ?_)
  refine lx_aload C dL_law_426 rfl ?_
  refine lx_callM C h2 kLM_back rfl rfl rfl (by cases r <;> first | exact Nat.le_of_ble_eq_true rfl | (rename_i v; have := lv_cat v; simp [Option.toList]; omega)) dL_law_427 (by decide) (by decide) (fun r2 S2 hp2 => ?_)
  obtain ⟨z, rfl, rfl, hR2⟩ := h3 r S1 r2 S2 hp1 hp2
  dsimp only [Option.toList_some, Option.toList_none, List.cons_append, List.nil_append]
  refine lx_icmp_eq C 530 dL_law_430 (by decide) ?_
  exact kk S1 S2 hR2
theorem lc_crash {Γ : Lx} {b hX hM Ln : Nat} {xs : Nat → Int32} {S M : St} (C : lx_C Γ b hX hM Ln xs) {Rel : St → St → Prop} {i : Nat} (hi : i + 4 ≤ Ln) (ho : OpOK Rel yX0_crash cX0_crash 2 (some .int) 5 yX1_crash cX1_crash 3 (some .int) 3 [.int (xs ((i : Int) + 1).toNat)]) (hR : Rel S M) (kk : ∀ S' M', Rel S' M' → lx_V Γ b hX hM S' M' 530 [.ref b, .ref hX, .ref hM, .int (iI (i : Int))] []) : lx_V Γ b hX hM S M 435 [.ref b, .ref hX, .ref hM, .int (iI (i : Int))] [] := by
  obtain ⟨PX, PM, h1, h2, h3⟩ := ho S M hR
  refine lx_aload C dL_law_435 rfl ?_
  refine lx_aload C dL_law_436 rfl ?_
  refine lx_iload C dL_law_437 rfl ?_
  refine lx_iconst C dL_law_438 ?_
  refine lx_iadd C dL_law_439 ?_
  refine lx_sld C dL_law_440 (by omega) (by omega) ?_
  refine lx_callX C h1 kLX_crash rfl rfl rfl (Nat.le_of_ble_eq_true rfl) dL_law_441 (by decide) (by decide) (fun r S1 hp1 => ?_)
  refine lx_aload C dL_law_444 rfl ?_
  refine lx_aload C dL_law_445 rfl ?_
  refine lx_iload C dL_law_446 rfl ?_
  refine lx_iconst C dL_law_447 ?_
  refine lx_iadd C dL_law_448 ?_
  refine lx_sld C dL_law_449 (by omega) (by omega) ?_
  refine lx_callM C h2 kLM_crash rfl rfl rfl (by cases r <;> first | exact Nat.le_of_ble_eq_true rfl | (rename_i v; have := lv_cat v; simp [Option.toList]; omega)) dL_law_450 (by decide) (by decide) (fun r2 S2 hp2 => ?_)
  obtain ⟨z, rfl, rfl, hR2⟩ := h3 r S1 r2 S2 hp1 hp2
  dsimp only [Option.toList_some, Option.toList_none, List.cons_append, List.nil_append]
  refine lx_icmp_eq C 530 dL_law_453 (by decide) ?_
  exact kk S1 S2 hR2
theorem lc_collect {Γ : Lx} {b hX hM Ln : Nat} {xs : Nat → Int32} {S M : St} (C : lx_C Γ b hX hM Ln xs) {Rel : St → St → Prop} {i : Nat} (hi : i + 4 ≤ Ln) (ho : OpOK Rel yX0_collect cX0_collect 1 (some .int) 3 yX1_collect cX1_collect 1 (some .int) 2 []) (hR : Rel S M) (kk : ∀ S' M', Rel S' M' → lx_V Γ b hX hM S' M' 530 [.ref b, .ref hX, .ref hM, .int (iI (i : Int))] []) : lx_V Γ b hX hM S M 458 [.ref b, .ref hX, .ref hM, .int (iI (i : Int))] [] := by
  obtain ⟨PX, PM, h1, h2, h3⟩ := ho S M hR
  refine lx_aload C dL_law_458 rfl ?_
  refine lx_callX C h1 kLX_collect rfl rfl rfl (Nat.le_of_ble_eq_true rfl) dL_law_459 (by decide) (by decide) (fun r S1 hp1 => ?_)
  refine lx_aload C dL_law_462 rfl ?_
  refine lx_callM C h2 kLM_collect rfl rfl rfl (by cases r <;> first | exact Nat.le_of_ble_eq_true rfl | (rename_i v; have := lv_cat v; simp [Option.toList]; omega)) dL_law_463 (by decide) (by decide) (fun r2 S2 hp2 => ?_)
  obtain ⟨z, rfl, rfl, hR2⟩ := h3 r S1 r2 S2 hp1 hp2
  dsimp only [Option.toList_some, Option.toList_none, List.cons_append, List.nil_append]
  refine lx_icmp_eq C 530 dL_law_466 (by decide) ?_
  exact kk S1 S2 hR2
theorem lc_collectAndCrash {Γ : Lx} {b hX hM Ln : Nat} {xs : Nat → Int32} {S M : St} (C : lx_C Γ b hX hM Ln xs) {Rel : St → St → Prop} {i : Nat} (hi : i + 4 ≤ Ln) (ho : OpOK Rel yX0_collectAndCrash cX0_collectAndCrash 2 (some .int) 5 yX1_collectAndCrash cX1_collectAndCrash 2 (some .int) 4 [.int (xs ((i : Int) + 1).toNat)]) (hR : Rel S M) (kk : ∀ S' M', Rel S' M' → lx_V Γ b hX hM S' M' 530 [.ref b, .ref hX, .ref hM, .int (iI (i : Int))] []) : lx_V Γ b hX hM S M 471 [.ref b, .ref hX, .ref hM, .int (iI (i : Int))] [] := by
  obtain ⟨PX, PM, h1, h2, h3⟩ := ho S M hR
  refine lx_aload C dL_law_471 rfl ?_
  refine lx_aload C dL_law_472 rfl ?_
  refine lx_iload C dL_law_473 rfl ?_
  refine lx_iconst C dL_law_474 ?_
  refine lx_iadd C dL_law_475 ?_
  refine lx_sld C dL_law_476 (by omega) (by omega) ?_
  refine lx_callX C h1 kLX_collectAndCrash rfl rfl rfl (Nat.le_of_ble_eq_true rfl) dL_law_477 (by decide) (by decide) (fun r S1 hp1 => ?_)
  refine lx_aload C dL_law_480 rfl ?_
  refine lx_aload C dL_law_481 rfl ?_
  refine lx_iload C dL_law_482 rfl ?_
  refine lx_iconst C dL_law_483 ?_
  refine lx_iadd C dL_law_484 ?_
  refine lx_sld C dL_law_485 (by omega) (by omega) ?_
  refine lx_callM C h2 kLM_collectAndCrash rfl rfl rfl (by cases r <;> first | exact Nat.le_of_ble_eq_true rfl | (rename_i v; have := lv_cat v; simp [Option.toList]; omega)) dL_law_486 (by decide) (by decide) (fun r2 S2 hp2 => ?_)
  obtain ⟨z, rfl, rfl, hR2⟩ := h3 r S1 r2 S2 hp1 hp2
  dsimp only [Option.toList_some, Option.toList_none, List.cons_append, List.nil_append]
  refine lx_icmp_eq C 530 dL_law_489 (by decide) ?_
  exact kk S1 S2 hR2
theorem lc_needed {Γ : Lx} {b hX hM Ln : Nat} {xs : Nat → Int32} {S M : St} (C : lx_C Γ b hX hM Ln xs) {Rel : St → St → Prop} {i : Nat} (hi : i + 4 ≤ Ln) (ho : OpOK Rel yX0_needed cX0_needed 2 (some .int) 4 yX1_needed cX1_needed 1 (some .int) 2 []) (hR : Rel S M) (kk : ∀ S' M', Rel S' M' → lx_V Γ b hX hM S' M' 530 [.ref b, .ref hX, .ref hM, .int (iI (i : Int))] []) : lx_V Γ b hX hM S M 494 [.ref b, .ref hX, .ref hM, .int (iI (i : Int))] [] := by
  obtain ⟨PX, PM, h1, h2, h3⟩ := ho S M hR
  refine lx_aload C dL_law_494 rfl ?_
  refine lx_callX C h1 kLX_needed rfl rfl rfl (Nat.le_of_ble_eq_true rfl) dL_law_495 (by decide) (by decide) (fun r S1 hp1 => ?_)
  refine lx_aload C dL_law_498 rfl ?_
  refine lx_callM C h2 kLM_needed rfl rfl rfl (by cases r <;> first | exact Nat.le_of_ble_eq_true rfl | (rename_i v; have := lv_cat v; simp [Option.toList]; omega)) dL_law_499 (by decide) (by decide) (fun r2 S2 hp2 => ?_)
  obtain ⟨z, rfl, rfl, hR2⟩ := h3 r S1 r2 S2 hp1 hp2
  dsimp only [Option.toList_some, Option.toList_none, List.cons_append, List.nil_append]
  refine lx_icmp_eq C 530 dL_law_502 (by decide) ?_
  exact kk S1 S2 hR2
theorem lc_reach {Γ : Lx} {b hX hM Ln : Nat} {xs : Nat → Int32} {S M : St} (C : lx_C Γ b hX hM Ln xs) {Rel : St → St → Prop} {i : Nat} (hi : i + 4 ≤ Ln) (ho : OpOK Rel yX0_reach cX0_reach 4 (some .int) 3 yX1_reach cX1_reach 2 (some .int) 1 [.int (xs ((i : Int) + 1).toNat)]) (hR : Rel S M) (kk : ∀ S' M', Rel S' M' → lx_V Γ b hX hM S' M' 530 [.ref b, .ref hX, .ref hM, .int (iI (i : Int))] []) : lx_V Γ b hX hM S M 507 [.ref b, .ref hX, .ref hM, .int (iI (i : Int))] [] := by
  obtain ⟨PX, PM, h1, h2, h3⟩ := ho S M hR
  refine lx_aload C dL_law_507 rfl ?_
  refine lx_aload C dL_law_508 rfl ?_
  refine lx_iload C dL_law_509 rfl ?_
  refine lx_iconst C dL_law_510 ?_
  refine lx_iadd C dL_law_511 ?_
  refine lx_sld C dL_law_512 (by omega) (by omega) ?_
  refine lx_callX C h1 kLX_reach rfl rfl rfl (Nat.le_of_ble_eq_true rfl) dL_law_513 (by decide) (by decide) (fun r S1 hp1 => ?_)
  refine lx_aload C dL_law_516 rfl ?_
  refine lx_aload C dL_law_517 rfl ?_
  refine lx_iload C dL_law_518 rfl ?_
  refine lx_iconst C dL_law_519 ?_
  refine lx_iadd C dL_law_520 ?_
  refine lx_sld C dL_law_521 (by omega) (by omega) ?_
  refine lx_callM C h2 kLM_reach rfl rfl rfl (by cases r <;> first | exact Nat.le_of_ble_eq_true rfl | (rename_i v; have := lv_cat v; simp [Option.toList]; omega)) dL_law_522 (by decide) (by decide) (fun r2 S2 hp2 => ?_)
  obtain ⟨z, rfl, rfl, hR2⟩ := h3 r S1 r2 S2 hp1 hp2
  dsimp only [Option.toList_some, Option.toList_none, List.cons_append, List.nil_append]
  refine lx_icmp_eq C 530 dL_law_525 (by decide) ?_
  exact kk S1 S2 hR2
theorem lx_loop {Γ : Lx} {b hX hM Ln : Nat} {xs : Nat → Int32} (C : lx_C Γ b hX hM Ln xs) (hLn : Ln ≤ 256) {Rel : St → St → Prop} (ho : Ops Rel) : ∀ (n i : Nat) (S M : St), Rel S M → Ln + 4 ≤ i + n → i ≤ Ln + 4 → lx_V Γ b hX hM S M 18 [.ref b, .ref hX, .ref hM, .int (iI (i : Int))] [] := by
  obtain ⟨o0, o1, o2, o3, o4, o5, o6, o7, o8, o9, o10, o11, o12, o13, o14, o15⟩ := ho
  intro n
  induction n with
  | zero =>
    intro i S M hR hn hi
    refine lx_iload C dL_law_18 rfl ?_
    refine lx_aload C dL_law_19 rfl ?_
    refine lx_slen C dL_law_20 ?_
    refine lx_iconst C dL_law_21 ?_
    refine lx_isub C dL_law_22 ?_
    refine lx_icmp_gt C 536 dL_law_23 (by decide) ⟨by omega, by omega⟩ ⟨by omega, by omega⟩ (fun c_23 => ?_) (fun c_23 => ?_)
    · refine lx_iconst C dL_law_536 ?_
      exact lx_ret C dL_law_537
    · omega
  | succ n ih =>
    intro i S M hR hn hi
    refine lx_iload C dL_law_18 rfl ?_
    refine lx_aload C dL_law_19 rfl ?_
    refine lx_slen C dL_law_20 ?_
    refine lx_iconst C dL_law_21 ?_
    refine lx_isub C dL_law_22 ?_
    refine lx_icmp_gt C 536 dL_law_23 (by decide) ⟨by omega, by omega⟩ ⟨by omega, by omega⟩ (fun c_23 => ?_) (fun c_23 => ?_)
    · refine lx_iconst C dL_law_536 ?_
      exact lx_ret C dL_law_537
    · have hi4 : i + 4 ≤ Ln := by omega
      have nxt : ∀ S' M', Rel S' M' → lx_V Γ b hX hM S' M' 530 [.ref b, .ref hX, .ref hM, .int (iI (i : Int))] [] := by
        intro S' M' hR'
        refine lx_iinc (L' := [_, _, _, _]) C dL_law_530 rfl (by decide) rfl ?_
        refine lx_goto C 18 dL_law_533 (by decide) ?_
        exact ih (i + 4) S' M' hR' (by omega) (by omega)
      refine lx_aload C dL_law_26 rfl ?_
      refine lx_iload C dL_law_27 rfl ?_
      refine lx_sld C dL_law_28 (by omega) (by omega) ?_
      refine lx_bipush C dL_law_29 (by decide) ?_
      refine lx_iand C dL_law_31 ?_
      obtain ⟨j, hj, hje⟩ := pk_andE (xs (i : Int).toNat) (m := iI 15) 4 (by decide)
      rw [hje]
      have hj : j = 0 ∨ j = 1 ∨ j = 2 ∨ j = 3 ∨ j = 4 ∨ j = 5 ∨ j = 6 ∨ j = 7 ∨ j = 8 ∨ j = 9 ∨ j = 10 ∨ j = 11 ∨ j = 12 ∨ j = 13 ∨ j = 14 ∨ j = 15 := by omega
      rcases hj with rfl | rfl | rfl | rfl | rfl | rfl | rfl | rfl | rfl | rfl | rfl | rfl | rfl | rfl | rfl | rfl
      · exact lx_table C 112 dL_law_32 (by decide) (by decide) rfl (by decide) (lc_make C hi4 (o0 _ _) hR nxt)
      · exact lx_table C 145 dL_law_32 (by decide) (by decide) rfl (by decide) (lc_fromRoot C hi4 (o1 _ _) hR nxt)
      · exact lx_table C 178 dL_law_32 (by decide) (by decide) rfl (by decide) (lc_toRoot C hi4 (o2 _ _) hR nxt)
      · exact lx_table C 211 dL_law_32 (by decide) (by decide) rfl (by decide) (lc_fromField C hi4 (o3 _ _ _) hR nxt)
      · exact lx_table C 254 dL_law_32 (by decide) (by decide) rfl (by decide) (lc_toField C hi4 (o4 _ _ _) hR nxt)
      · exact lx_table C 297 dL_law_32 (by decide) (by decide) rfl (by decide) (lc_release C hi4 (o5 _) hR nxt)
      · exact lx_table C 320 dL_law_32 (by decide) (by decide) rfl (by decide) (lc_number C hi4 (o6 _) hR nxt)
      · exact lx_table C 343 dL_law_32 (by decide) (by decide) rfl (by decide) (lc_setNumber C hi4 (o7 _ _) hR nxt)
      · exact lx_table C 376 dL_law_32 (by decide) (by decide) rfl (by decide) (lc_same C hi4 (o8 _ _) hR nxt)
      · exact lx_table C 409 dL_law_32 (by decide) (by decide) rfl (by decide) (lc_save C hi4 (o9) hR nxt)
      · exact lx_table C 422 dL_law_32 (by decide) (by decide) rfl (by decide) (lc_back C hi4 (o10) hR nxt)
      · exact lx_table C 435 dL_law_32 (by decide) (by decide) rfl (by decide) (lc_crash C hi4 (o11 _) hR nxt)
      · exact lx_table C 458 dL_law_32 (by decide) (by decide) rfl (by decide) (lc_collect C hi4 (o12) hR nxt)
      · exact lx_table C 471 dL_law_32 (by decide) (by decide) rfl (by decide) (lc_collectAndCrash C hi4 (o13 _) hR nxt)
      · exact lx_table C 494 dL_law_32 (by decide) (by decide) rfl (by decide) (lc_needed C hi4 (o14) hR nxt)
      · exact lx_table C 507 dL_law_32 (by decide) (by decide) rfl (by decide) (lc_reach C hi4 (o15 _) hR nxt)
end
section
set_option maxRecDepth 100000
theorem vP_l {D : va_G} {cl : List vw_C} {w1 w2 : va_W} {H : Heap} (h : va_P D cl (w1 ++ w2) H) : va_P D cl w1 H := fun k q hk => h k q (by rw [List.getElem?_append_left (List.getElem?_eq_some_iff.mp hk).1]; exact hk)
theorem vP_r {D : va_G} {cl : List vw_C} {w1 w2 : va_W} {H : Heap} (h : va_P D cl (w1 ++ w2) H) : va_P D cl w2 H := fun k q hk => h (w1.length + k) q (by rw [List.getElem?_append_right (by omega), Nat.add_sub_cancel_left]; exact hk)
theorem vD_l {A : Nat → Prop} {w1 w2 : va_W} (h : va_D A (w1 ++ w2)) : va_D A w1 := by
  have key : ∀ (k : Nat) (q : Nat × va_E), w1[k]? = some q → (w1 ++ w2)[k]? = some q := fun k q hk => by rw [List.getElem?_append_left (List.getElem?_eq_some_iff.mp hk).1]; exact hk
  exact ⟨fun i j x y hi hj e => h.1 i j x y (key i x hi) (key j y hj) e, fun k q hk => h.2 k q (key k q hk)⟩
theorem vD_r {A : Nat → Prop} {w1 w2 : va_W} (h : va_D A (w1 ++ w2)) : va_D A w2 := by
  have key : ∀ (k : Nat) (q : Nat × va_E), w2[k]? = some q → (w1 ++ w2)[w1.length + k]? = some q := fun k q hk => by rw [List.getElem?_append_right (by omega), Nat.add_sub_cancel_left]; exact hk
  exact ⟨fun i j x y hi hj e => by have := h.1 _ _ x y (key i x hi) (key j y hj) e; omega, fun k q hk => h.2 _ q (key k q hk)⟩
theorem vD_x {A : Nat → Prop} {w1 w2 : va_W} (h : va_D A (w1 ++ w2)) {i j : Nat} {x y : Nat × va_E} (hi : w1[i]? = some x) (hj : w2[j]? = some y) : x.1 ≠ y.1 := by
  intro e
  have hl := (List.getElem?_eq_some_iff.mp hi).1
  have := h.1 i (w1.length + j) x y (by rw [List.getElem?_append_left hl]; exact hi) (by rw [List.getElem?_append_right (by omega), Nat.add_sub_cancel_left]; exact hj) e
  omega
theorem pw_ad {sh : Sh} {h : Nat} {ad : Nat → Nat} {cs : Nat → ClassId} {S S' : St} {k : Nat} {q : Nat × va_E} (hq : (pw sh h ad cs S')[k]? = some q) : ∃ q0, (pw sh h ad cs S)[k]? = some q0 ∧ q0.1 = q.1 := by
  cases k with
  | zero =>
    cases hq
    exact ⟨_, rfl, rfl⟩
  | succ k =>
    have hq : ((sh_al sh).map _)[k]? = some q := hq
    rw [List.getElem?_map] at hq
    cases ha : (sh_al sh)[k]? with
    | none => rw [ha] at hq; cases hq
    | some a =>
      rw [ha] at hq
      cases hq
      refine ⟨(ad a, .inl (cs a, sh_len sh a, .inl (pwr S a))), ?_, rfl⟩
      show ((sh_al sh).map _)[k]? = _
      rw [List.getElem?_map, ha]
      rfl
set_option maxHeartbeats 4000000 in
/-- the walk of the law's body, for any relation that the sixteen pairs keep -/
theorem start_of {Rel : St → St → Prop} (hO : Ops Rel) (h0 : Rel iniX iniM) {p : Program} {e : Env} {s : State} {m : MethodId} {below : List Frame} {meth : Method} {c : Code} (l : Launch) {b L : Nat} {xs : Nat → Int32} (hL : L ≤ 256) (C0 : lw_At p s m meth c b L xs) : W p l e room_1 s m #[Value.ref b] below meth c s.heap [] 0 0 (lw_Z below #[Value.ref b] s) (entryFrame m ([Value.ref b] : List Value).toArray 4) := by
  obtain ⟨hx, hb, hr, hml, hown, hts0, hX, hbl, hlk, hgv⟩ := C0
  have hts : ∀ w ∈ lw_all, w.before #[Value.ref b] s = true := fun w h => hts0 w (lw_all_tbl h)
  obtain ⟨c0_, iS0, hKn0⟩ := u_known (C := RX0) (T := TX0) (N := 16) (n := 16) hts0 (fun w h => lw_all_tbl (in_X0 w h)) (hts _ q28)
  obtain ⟨c1_, iS1, hKn1⟩ := u_known (C := RX1) (T := TX1) (N := 9) (n := 9) hts0 (fun w h => lw_all_tbl (in_X1 w h)) (hts _ q225)
  obtain ⟨D, hKc⟩ : ∃ D : va_G, ∀ (k : Nat) (q : vw_C), vwCl[k]? = some q → u_Kn s q.1 q.2.1 q.2.2 (D.1 k) (D.2 k) := by
    refine ⟨(fun k => if k = 0 then c0_ else c1_, fun k => if k = 0 then iS0 else iS1), ?_⟩
    intro k q hq
    match k, hq with
    | 0, hq => cases hq; exact hKn0
    | 1, hq => cases hq; exact hKn1
    | k + 2, hq => simp [vwCl] at hq
  have hK : va_K D vwCl [] s := ⟨hKc, fun k q hk => by simp at hk⟩
  obtain ⟨A, hAd⟩ : ∃ A : Nat → Prop, ∀ q, A q ↔ s.heap.size ≤ q := ⟨fun q => s.heap.size ≤ q, fun _ => Iff.rfl⟩
  have hA : ∀ q : Nat, s.heap.size ≤ q → A q := fun q h => (hAd q).mpr h
  have hP : va_P D vwCl [] s.heap := fun k q h => by simp at h
  have hD : va_D A [] := ⟨fun i j x y h => by simp at h, fun k q h => by simp at h⟩
  have hS : va_S A s.heap s.heap [] := va_S.rf
  have hcat : ∀ v ∈ ([Value.ref b] : List Value), v.category = 1 := fun v hv => by rw [List.mem_singleton] at hv; rw [hv]; rfl
  have hl := lh_entry [Value.ref b] (n := 4) hcat (Nat.le_of_ble_eq_true rfl)
  rw [entry_eq m [Value.ref b] hcat 4]
  generalize (([Value.ref b] : List Value).map Slot.val ++ List.replicate (4 - ([Value.ref b] : List Value).length) Slot.unset).toArray = ls at hl ⊢
  refine va_new (ci := 0) (fs := fsX) (C := RX0) (T := TX0) (N := 16) hx hb hts in_X0 tyX0 tyX0_ok hown (hts _ q27) (hts _ q28) (hts _ q25) hK hP hD hS hA rfl (fun j hj => by rcases (show j = 0 ∨ j = 1 ∨ j = 2 ∨ j = 3 ∨ j = 4 ∨ j = 5 ∨ j = 6 ∨ j = 7 ∨ j = 8 ∨ j = 9 ∨ j = 10 ∨ j = 11 ∨ j = 12 ∨ j = 13 ∨ j = 14 ∨ j = 15 by omega) with rfl | rfl | rfl | rfl | rfl | rfl | rfl | rfl | rfl | rfl | rfl | rfl | rfl | rfl | rfl | rfl <;> rfl) (Nat.le_of_ble_eq_true rfl) (Nat.le_of_ble_eq_true rfl) dL_law_0 (fun hX' H hP hD hS => ?_)
  have hP : va_P D vwCl [(hX', .inr (0, fsX))] H := hP
  have hD : va_D A [(hX', .inr (0, fsX))] := hD
  refine lv_dup hx hb dL_law_3 rfl ?_
  have hFc : ∀ q, va_A [(hX', .inr (0, fsX))] H.size q → A q := by
    rintro q (⟨k, e2, h2⟩ | h2)
    · exact hD.2 k (q, e2) h2
    · exact hA q (Nat.le_trans hS.1 h2)
  refine va_callv (va_runI (As := []) (rest := [.ref hX']) ⟨hx, hb, hml, hown, hts⟩ (cX_init l D hX' H.size) (cwI 0 hts (lw_meth q31) rfl rfl rfl (hts _ q25) (hts _ q29) (hts _ q30) rfl (by decide +kernel) ⟨Nat.le_of_ble_eq_true rfl, Nat.le_of_ble_eq_true rfl⟩) ⟨fun a U g mk q => by obtain ⟨q0, q1, qP, qK, qD⟩ := q; exact ⟨q0, q1, qP, va_K.moved (u := U) (U := U.calling g mk a) (Vm.Alike.refl U.vm) qK, qD⟩, fun U hU hW => ⟨rfl, by rw [hU], by rw [hU]; exact hP, va_K.moved hW.alike hK, hD.weaken (fun _ _ _ _ => trivial)⟩⟩ rfl rfl hl.1.1 rfl (lv_room (Nat.le_of_ble_eq_true rfl)) dL_law_4 ⟨Nat.le_of_ble_eq_true rfl, Nat.le_of_ble_eq_true rfl⟩) hS (fun q _ h => hFc q h) hFc (fun u t H1 locs1 ht hvm hw1 hB hz1 hk1 hS => ?_)
  obtain ⟨aX, cX⟩ := u
  obtain ⟨⟨hPX, hKX⟩, hDX0⟩ := hB
  have hPX : va_P D vwCl (pw shX hX' aX cX iniX) H1 := by rw [← ht]; exact hPX
  have hKX : va_K D vwCl (tyl shX cX) s := va_K.moved hvm.symm hKX
  have hDX : va_D A (pw shX hX' aX cX iniX) := hDX0.weaken (fun _ q _ h => hFc q.1 h)
  refine lv_astore_n (i := 1) hx hb dL_law_7 rfl hl.1 (by decide) rfl (fun ls1 hl1 => ?_)
  have hl1 : lh ls1 4 [.ref b, .ref hX'] := lh_st hl (Nat.le_of_ble_eq_true rfl) rfl rfl hl1
  refine va_new (ci := 1) (fs := fsM) (C := RX1) (T := TX1) (N := 9) hx hb hts in_X1 tyX1 tyX1_ok hown (hts _ q224) (hts _ q225) (hts _ q26) hK hPX hDX hS hA rfl (fun j hj => by rcases (show j = 0 ∨ j = 1 ∨ j = 2 ∨ j = 3 ∨ j = 4 ∨ j = 5 ∨ j = 6 ∨ j = 7 ∨ j = 8 by omega) with rfl | rfl | rfl | rfl | rfl | rfl | rfl | rfl | rfl <;> rfl) (Nat.le_of_ble_eq_true rfl) (Nat.le_of_ble_eq_true rfl) dL_law_8 (fun hM' H2 hP2 hD2 hS => ?_)
  have hPX := vP_l hP2
  have hPM := vP_r hP2
  have hDX := vD_l hD2
  have hDM := vD_r hD2
  have hx1 : ∀ (i : Nat) (q : Nat × va_E), (pw shX hX' aX cX iniX)[i]? = some q → q.1 ≠ hM' := fun i q hq => vD_x hD2 hq (j := 0) (y := (hM', .inr (1, fsM))) rfl
  refine lv_dup hx hb dL_law_11 rfl ?_
  have hFc : ∀ q, va_A [(hM', .inr (1, fsM))] H2.size q → A q := by
    rintro q (⟨k, e2, h2⟩ | h2)
    · exact hDM.2 k (q, e2) h2
    · exact hA q (Nat.le_trans hS.1 h2)
  refine va_callv (va_runI (As := []) (rest := [.ref hM']) ⟨hx, hb, hml, hown, hts⟩ (cM_init l D hM' H2.size) (cwI 0 hts (lw_meth q228) rfl rfl rfl (hts _ q26) (hts _ q226) (hts _ q227) rfl (by decide +kernel) ⟨Nat.le_of_ble_eq_true rfl, Nat.le_of_ble_eq_true rfl⟩) ⟨fun a U g mk q => by obtain ⟨q0, q1, qP, qK, qD⟩ := q; exact ⟨q0, q1, qP, va_K.moved (u := U) (U := U.calling g mk a) (Vm.Alike.refl U.vm) qK, qD⟩, fun U hU hW => ⟨rfl, by rw [hU], by rw [hU]; exact hPM, va_K.moved hW.alike hK, hDM.weaken (fun _ _ _ _ => trivial)⟩⟩ rfl rfl hl1.1.1 rfl (lv_room (Nat.le_of_ble_eq_true rfl)) dL_law_12 ⟨Nat.le_of_ble_eq_true rfl, Nat.le_of_ble_eq_true rfl⟩) hS (fun q _ h => hFc q h) hFc (fun u t H3 locs2 ht hvm hw1 hB hz1 hk1 hS => ?_)
  obtain ⟨aM, cM⟩ := u
  obtain ⟨⟨hPM, hKM⟩, hDM0⟩ := hB
  have hPM : va_P D vwCl (pw shM hM' aM cM iniM) H3 := by rw [← ht]; exact hPM
  have hKM : va_K D vwCl (tyl shM cM) s := va_K.moved hvm.symm hKM
  have hDM : va_D A (pw shM hM' aM cM iniM) := hDM0.weaken (fun _ q _ h => hFc q.1 h)
  have hnot : ∀ (i : Nat) (q : Nat × va_E), (pw shX hX' aX cX iniX)[i]? = some q → ¬ va_A [(hM', .inr (1, fsM))] H2.size q.1 := by
    intro i q hq h2
    have hlt := (hPX i q hq).lt
    rcases h2 with ⟨k, e2, h2⟩ | h2
    · have h3 : k < 1 := (List.getElem?_eq_some_iff.mp h2).1
      obtain rfl : k = 0 := by omega
      cases h2
      exact hx1 i q hq rfl
    · omega
  have hPX3 : va_P D vwCl (pw shX hX' aX cX iniX) H3 := hPX.kept (fun k q hq => hk1 q.1 (hPX k q hq).lt (hnot k q hq))
  have hap : ∀ (S M : St) (i j : Nat) (p q : Nat × va_E), (pw shX hX' aX cX S)[i]? = some p → (pw shM hM' aM cM M)[j]? = some q → p.1 ≠ q.1 := by
    intro S M i j x y hi hj e2
    obtain ⟨x0, h1, h2⟩ := pw_ad (S := iniX) hi
    obtain ⟨y0, h3, h4⟩ := pw_ad (S := iniM) hj
    refine hnot i x0 h1 ?_
    rw [h2, e2, ← h4]
    exact hDM0.2 j y0 h3
  refine lv_astore_n (i := 2) hx hb dL_law_15 rfl hl1.1 (by decide) rfl (fun ls2 hl2 => ?_)
  have hl2 : lh ls2 4 [.ref b, .ref hX', .ref hM'] := lh_st hl1 (Nat.le_of_ble_eq_true rfl) rfl rfl hl2
  have C : lx_C (p, l, e, s, m, below, meth, c, D, A, aX, cX, aM, cM) b hX' hM' L xs := ⟨hx, hb, hml, hr, hlk, hown, hts, hKX, hKM, fun S => pw_D hDX, fun M => pw_D hDM, hap, hAd, hX, hbl, hL⟩
  have key : lx_V (p, l, e, s, m, below, meth, c, D, A, aX, cX, aM, cM) b hX' hM' iniX iniM 16 [.ref b, .ref hX', .ref hM'] [] := by
    refine lx_iconst C dL_law_16 ?_
    refine lx_istore (L' := [_, _, _, _]) C dL_law_17 (Nat.le_of_ble_eq_true rfl) rfl ?_
    exact lx_loop C hL hO (L + 4) 0 iniX iniM h0 (by omega) (by omega)
  exact key H3 locs2 ls2 hPX3 hPM hS hl2
end
section
/-! THE PLAIN LAW: what ties the class's table S to the reference's table M -/
def cur (S : St) (p : Int) : Int := if 96 ≤ p then S 3 (3 * S 0 0 + p - 96) else if p % 3 = 2 then S 2 (32 * S 0 0 + p / 3) else S 1 (2 * (32 * S 0 0 + p / 3) + p % 3)
theorem cur_r {S : St} {r : Int} (h : 0 ≤ r) : cur S (96 + r) = S 3 (3 * S 0 0 + r) := by
  unfold cur
  rw [if_pos (by omega)]
  congr 1
  omega
theorem cur_n {S : St} {s : Int} (h0 : 0 ≤ s) (h1 : s < 32) : cur S (3 * s + 2) = S 2 (32 * S 0 0 + s) := by
  unfold cur
  rw [if_neg (by omega), if_pos (by omega)]
  congr 1
  omega
theorem cur_f {S : St} {s f : Int} (h0 : 0 ≤ s) (h1 : s < 32) (f0 : 0 ≤ f) (f1 : f ≤ 1) : cur S (3 * s + f) = S 1 (2 * (32 * S 0 0 + s) + f) := by
  unfold cur
  rw [if_neg (by omega), if_neg (by omega)]
  congr 1
  omega
/-- the value of a place in the saved state -/
def OV (S : St) (p v : Int) : Prop := (∃ k, LK S k ∧ S 5 k = p ∧ S 6 k = v) ∨ ((∀ k, LK S k → S 5 k ≠ p) ∧ cur S p = v)
theorem OV_ex (S : St) (p : Int) : ∃ v, OV S p v := by
  rcases Classical.em (∃ k, LK S k ∧ S 5 k = p) with ⟨k, h1, h2⟩ | h
  · exact ⟨S 6 k, Or.inl ⟨k, h1, h2, rfl⟩⟩
  · exact ⟨cur S p, Or.inr ⟨fun k h1 h2 => h ⟨k, h1, h2⟩, rfl⟩⟩
def hasL (S : St) (s : Int) : Prop := ∃ k, LK S k ∧ S 5 k < 96 ∧ S 5 k / 3 = s
/-- the list: its places are apart, 'listed' says which, its objects are in use -/
def LA (S : St) : Prop := ∀ k k', LK S k → LK S k' → S 5 k = S 5 k' → k = k'
def LO (S : St) : Prop := LA S ∧ (∀ p, 0 ≤ p → p < 99 → (S 10 p = 1 ↔ ∃ k, LK S k ∧ S 5 k = p)) ∧ ∀ s, hasL S s → s < S 8 0
def BI (B : Int → Int → Prop) (U : Int) : Prop := B (-1) 24 ∧ (∀ v w, B v w → (v = -1 ∧ w = 24) ∨ (0 ≤ v ∧ v < U ∧ 0 ≤ w ∧ w < 24)) ∧ (∀ v w w', B v w → B v w' → w = w') ∧ (∀ v v' w, B v w → B v' w → v = v')
/-- nothing, or an object that was there at the latest saving -/
def old (S : St) (v : Int) : Prop := v = -1 ∨ S 9 v = 0
def BO (B : Int → Int → Prop) (S M : St) (s w : Int) : Prop := (∀ f, 0 ≤ f → f ≤ 1 → B (cur S (3 * s + f)) (M 2 (2 * w + f))) ∧ cur S (3 * s + 2) = M 0 w ∧ ((S 9 s = 0 ∧ M 4 w = 1 ∧ (∀ f, 0 ≤ f → f ≤ 1 → ∀ v, OV S (3 * s + f) v → B v (M 3 (2 * w + f)) ∧ old S v) ∧ (∀ v, OV S (3 * s + 2) v → v = M 1 w)) ∨ (S 9 s = 1 ∧ M 4 w = 0 ∧ ¬ hasL S s))
def BR (B : Int → Int → Prop) (S M : St) : Prop := BI B (S 8 0) ∧ (∀ r, 0 ≤ r → r < 3 → B (cur S (96 + r)) (M 5 r)) ∧ (∀ r, 0 ≤ r → r < 3 → ∀ v, OV S (96 + r) v → B v (M 6 r) ∧ old S v) ∧ (∀ g, 0 ≤ g → g < 4 → B (S 7 g) (M 7 g)) ∧ ∀ s w, B s w → 0 ≤ s → BO B S M s w
def Rel (S M : St) : Prop := Rg S ∧ Rf S ∧ LO S ∧ RgM M ∧ ∃ B, BR B S M
/-! counting -/
theorem cP_none {P : Int → Prop} {n : Nat} (h : ∀ j : Int, 0 ≤ j → j < (n : Int) → ¬ P j) : cP P n = 0 := by
  induction n with
  | zero => rfl
  | succ n ih => rw [cP_n (h _ (by omega) (by omega))]; exact ih (fun j h0 h1 => h j h0 (by omega))
theorem cP_flip {P Q : Int → Prop} {n : Nat} {k : Int} (h0 : 0 ≤ k) (h1 : k < (n : Int)) (hk : ¬ P k) (h : ∀ j : Int, 0 ≤ j → j < (n : Int) → (Q j ↔ (P j ∨ j = k))) : cP Q n = cP P n + 1 := by
  induction n with
  | zero => omega
  | succ n ih =>
    have hn := h (n : Int) (by omega) (by omega)
    by_cases e : k = (n : Int)
    · have h2 : cP Q n = cP P n := cP_congr (fun j j0 j1 => (h j j0 (by omega)).trans ⟨fun w => w.elim id (fun w => by omega), Or.inl⟩)
      rw [cP_y (hn.mpr (Or.inr e.symm)), cP_n (by rw [← e]; exact hk), h2]
    · have h2 := ih (by omega) (fun j j0 j1 => h j j0 (by omega))
      rcases Classical.em (P (n : Int)) with hp | hp
      · rw [cP_y hp, cP_y (hn.mpr (Or.inl hp)), h2]
      · rw [cP_n hp, cP_n (fun q => by rcases hn.mp q with w | w; exact hp w; omega), h2]
theorem cP_bij {B : Int → Int → Prop} {m : Nat} : ∀ (n : Nat) (P Q : Int → Prop), (∀ s, 0 ≤ s → s < (n : Int) → P s → ∃ w, 0 ≤ w ∧ w < (m : Int) ∧ Q w ∧ B s w) → (∀ w, 0 ≤ w → w < (m : Int) → Q w → ∃ s, 0 ≤ s ∧ s < (n : Int) ∧ P s ∧ B s w) → (∀ v w w', B v w → B v w' → w = w') → (∀ v v' w, B v w → B v' w → v = v') → cP P n = cP Q m
  | 0, P, Q, _, h2, _, _ => by
    rw [cP_none (n := m) (fun j h0 h1 hq => by obtain ⟨s, s0, s1, -⟩ := h2 j h0 h1 hq; omega)]
    rfl
  | n + 1, P, Q, h1, h2, f1, f2 => by
    rcases Classical.em (P (n : Int)) with hp | hp
    · obtain ⟨w, w0, w1, wq, wb⟩ := h1 (n : Int) (by omega) (by omega) hp
      have ih := cP_bij (B := B) (m := m) n P (fun j => Q j ∧ j ≠ w)
        (fun s s0 s1 hs => by
          obtain ⟨w', a, b, c, d⟩ := h1 s s0 (by omega) hs
          exact ⟨w', a, b, ⟨c, fun e => by have := f2 s (n : Int) w (e ▸ d) wb; omega⟩, d⟩)
        (fun w' a b c => by
          obtain ⟨s, s0, s1, s2, s3⟩ := h2 w' a b c.1
          have : s ≠ (n : Int) := fun e => c.2 (f1 s w' w s3 (e ▸ wb))
          exact ⟨s, s0, by omega, s2, s3⟩) f1 f2
      rw [cP_y hp, ih]
      refine (cP_flip (P := fun j => Q j ∧ j ≠ w) w0 w1 (fun z => z.2 rfl) (fun j _ _ => ⟨fun z => ?_, fun z => ?_⟩)).symm
      · by_cases e : j = w
        · exact Or.inr e
        · exact Or.inl ⟨z, e⟩
      · rcases z with z | z
        · exact z.1
        · rw [z]; exact wq
    · rw [cP_n hp]
      exact cP_bij (B := B) (m := m) n P Q (fun s s0 s1 => h1 s s0 (by omega)) (fun w a b c => by
          obtain ⟨s, s0, s1, s2, s3⟩ := h2 w a b c
          have : s ≠ (n : Int) := fun e => hp (e ▸ s2)
          exact ⟨s, s0, by omega, s2, s3⟩) f1 f2
/-- different places of a list are no more than there are -/
theorem cP_img {f : Int → Int} {a : Int} {m : Nat} : ∀ (n : Nat), (∀ k, a ≤ k → k < a + n → 0 ≤ f k ∧ f k < (m : Int)) → (∀ k k', a ≤ k → k < a + n → a ≤ k' → k' < a + n → f k = f k' → k = k') → cP (fun p => ∃ k, a ≤ k ∧ k < a + n ∧ f k = p) m = (n : Int)
  | 0, _, _ => cP_none (fun j _ _ ⟨k, k0, k1, _⟩ => by omega)
  | n + 1, h1, h2 => by
    have ih := cP_img (f := f) (a := a) (m := m) n (fun k k0 k1 => h1 k k0 (by omega)) (fun k k' a1 a2 a3 a4 => h2 k k' a1 (by omega) a3 (by omega))
    have hb := h1 (a + n) (by omega) (by omega)
    have hfl := cP_flip (P := fun p => ∃ k, a ≤ k ∧ k < a + n ∧ f k = p) (Q := fun p => ∃ k, a ≤ k ∧ k < a + ((n + 1 : Nat) : Int) ∧ f k = p) (k := f (a + n)) (n := m) hb.1 hb.2 (fun ⟨k, k0, k1, k2⟩ => by have := h2 k (a + n) k0 (by omega) (by omega) (by omega) k2; omega) (fun j _ _ => ⟨fun ⟨k, k0, k1, k2⟩ => by
      by_cases e : k = a + n
      · exact Or.inr (by rw [← k2, e])
      · exact Or.inl ⟨k, k0, by omega, k2⟩, fun w => by
      rcases w with ⟨k, k0, k1, k2⟩ | w
      · exact ⟨k, k0, by omega, k2⟩
      · exact ⟨a + n, by omega, by omega, w.symm⟩⟩)
    rw [hfl, ih]
    omega
theorem LO.room {S : St} (hR : Rg S) (h : LO S) : NR S := by
  have b0 := hR.r0
  have b4 := hR.r4 (i := S 0 0) (by omega) (by omega)
  intro p p0 p1 hp
  have hn : ((S 4 (S 0 0)).toNat : Int) = S 4 (S 0 0) := by omega
  have hi := cP_img (f := S 5) (a := 99 * S 0 0) (m := 99) (S 4 (S 0 0)).toNat (fun k k0 k1 => by have := hR.r5 (i := k) (by omega) (by omega); omega) (fun k k' a1 a2 a3 a4 e => h.1 k k' ⟨a1, by omega⟩ ⟨a3, by omega⟩ e)
  have hlt := cP_lt (P := fun p => ∃ k, 99 * S 0 0 ≤ k ∧ k < 99 * S 0 0 + ((S 4 (S 0 0)).toNat : Int) ∧ S 5 k = p) (Q := fun _ => True) (n := 99) (fun _ _ _ _ => trivial) p0 (by omega) trivial (fun ⟨k, k0, k1, k2⟩ => by
    have := (h.2.1 p p0 p1).mpr ⟨k, ⟨k0, by omega⟩, k2⟩
    omega)
  have h99 := (cP_le (fun _ => True) 99).2
  omega
/-! closures on both sides -/
theorem Cl_tr {B : Int → Int → Prop} {E E' : Int → Int → Prop} {P P' : Int → Prop} (h1 : ∀ j, P j → ∃ w, B j w ∧ P' w) (h2 : ∀ s w t, B s w → E s t → ∃ w', B t w' ∧ E' w w') {s : Int} (h : Cl E P s) : ∃ w, B s w ∧ Cl E' P' w := by
  refine h (fun s => ∃ w, B s w ∧ Cl E' P' w) (fun y hy => ?_) (fun y z hy e => ?_)
  · obtain ⟨w, w1, w2⟩ := h1 y hy
    exact ⟨w, w1, Cl.base w2⟩
  · obtain ⟨w, w1, w2⟩ := hy
    obtain ⟨w', w3, w4⟩ := h2 y w z w1 e
    exact ⟨w', w3, w2.step w4⟩
theorem Eg_pos {S : St} {o s t : Int} (h : Eg S o s t) : 0 ≤ t := by
  rcases h with ⟨-, -, h, -⟩ | ⟨-, k, -, -, -, -, -, h⟩
  · exact h
  · exact h
section REL1
variable {B : Int → Int → Prop} {S M : St}
theorem BR.obj (h : BR B S M) {v w : Int} (hb : B v w) (h0 : 0 ≤ v) : v < S 8 0 ∧ 0 ≤ w ∧ w < 24 ∧ BO B S M v w := by
  rcases h.1.2.1 v w hb with ⟨a, b⟩ | ⟨a, b, c, d⟩
  · omega
  · exact ⟨b, c, d, h.2.2.2.2 v w hb h0⟩
theorem BR.pos (h : BR B S M) {v w : Int} (hb : B v w) (h1 : w < 24) : 0 ≤ v := by
  rcases h.1.2.1 v w hb with ⟨a, b⟩ | ⟨a, b, c, d⟩
  · omega
  · exact a
/-- an edge of the class is an edge of the reference -/
theorem BR.fwd (hR : Rg S) (h : BR B S M) {o s w t : Int} (hb : B s w) (e : Eg S o s t) : ∃ w', B t w' ∧ EgM M o w w' := by
  have b0 := hR.r0
  have b8 := hR.r8
  have ht := Eg_pos e
  rcases e with ⟨s0, s1, t0, t1⟩ | ⟨rfl, k, hk, k1, k2, k3, k4, k5⟩
  · obtain ⟨a1, a2, a3, ⟨a4, -, -⟩⟩ := h.obj hb s0
    rcases t1 with t1 | t1
    · have c := a4 0 (by decide) (by decide)
      rw [cur_f s0 (by omega) (by decide) (by decide)] at c
      rw [Int.add_zero, Int.add_zero, ← t1] at c
      have d := h.obj c t0
      exact ⟨_, c, d.2.1, d.2.2.1, 2 * w, by omega, by omega, by omega, Or.inl rfl⟩
    · have c := a4 1 (by decide) (by decide)
      rw [cur_f s0 (by omega) (by decide) (by decide)] at c
      rw [← t1] at c
      have d := h.obj c t0
      exact ⟨_, c, d.2.1, d.2.2.1, 2 * w + 1, by omega, by omega, by omega, Or.inl rfl⟩
  · have hk0 := hk
    unfold LK at hk0
    have b4 := hR.r4 (i := S 0 0) (by omega) (by omega)
    have b5 := hR.r5 (i := k) (by omega) (by omega)
    obtain ⟨a1, a2, a3, ⟨-, -, a6⟩⟩ := h.obj hb (by omega)
    rcases a6 with ⟨-, c2, c3, -⟩ | ⟨-, -, c3⟩
    · have c := (c3 (S 5 k % 3) (by omega) (by omega) t (Or.inl ⟨k, hk, by omega, k4⟩)).1
      have d := h.obj c k5
      exact ⟨_, c, d.2.1, d.2.2.1, 2 * w + S 5 k % 3, by omega, by omega, by omega, Or.inr ⟨rfl, c2, rfl⟩⟩
    · exact absurd ⟨k, hk, k1, k3⟩ c3
/-- and back -/
theorem BR.bwd (hR : Rg S) (h : BR B S M) {o s w w' : Int} (hb : B s w) (hs : 0 ≤ s) (e : EgM M o w w') : ∃ t, B t w' ∧ Eg S o s t := by
  have b0 := hR.r0
  have b8 := hR.r8
  obtain ⟨e0, e1, k, k0, k1, k2, k3⟩ := e
  obtain ⟨a1, a2, a3, ⟨a4, -, a6⟩⟩ := h.obj hb hs
  have hk : k = 2 * w + k % 2 := by omega
  rcases k3 with k3 | ⟨rfl, k4, k3⟩
  · have c := a4 (k % 2) (by omega) (by omega)
    rw [cur_f hs (by omega) (by omega) (by omega), ← hk, k3] at c
    refine ⟨_, c, Or.inl ⟨hs, a1, h.pos c e1, ?_⟩⟩
    rcases (show k % 2 = 0 ∨ k % 2 = 1 by omega) with q | q
    · rw [q, Int.add_zero]; exact Or.inl rfl
    · rw [q]; exact Or.inr rfl
  · rcases a6 with ⟨-, -, c3, -⟩ | ⟨-, c2, -⟩
    · obtain ⟨v, hv⟩ := OV_ex S (3 * s + k % 2)
      have c := (c3 (k % 2) (by omega) (by omega) v hv).1
      rw [← hk, k3] at c
      have v0 := h.pos c e1
      rcases hv with ⟨j, j1, j2, j3⟩ | ⟨-, j2⟩
      · exact ⟨v, c, Or.inr ⟨rfl, j, j1, by omega, by omega, by omega, j3, v0⟩⟩
      · rw [cur_f hs (by omega) (by omega) (by omega)] at j2
        refine ⟨v, c, Or.inl ⟨hs, a1, v0, ?_⟩⟩
        rcases (show k % 2 = 0 ∨ k % 2 = 1 by omega) with q | q
        · rw [q, Int.add_zero] at j2; exact Or.inl j2.symm
        · rw [q] at j2; exact Or.inr j2.symm
    · omega
theorem Nd_pos {s : Int} (h : Nd S s) : 0 ≤ s := h (fun s => 0 ≤ s) (fun y hy => hy.1) (fun y z _ e => Eg_pos e)
theorem Rd_pos {s : Int} (h : Rd S s) : 0 ≤ s := h (fun s => 0 ≤ s) (fun y hy => hy.1) (fun y z _ e => Eg_pos e)
theorem NdM_in {s : Int} (h : NdM M s) : 0 ≤ s ∧ s < 24 := h (fun s => 0 ≤ s ∧ s < 24) (fun y hy => ⟨hy.1, hy.2.1⟩) (fun y z _ e => ⟨e.1, e.2.1⟩)
theorem RdM_in {s : Int} (h : RdM M s) : 0 ≤ s ∧ s < 24 := h (fun s => 0 ≤ s ∧ s < 24) (fun y hy => ⟨hy.1, hy.2.1⟩) (fun y z _ e => ⟨e.1, e.2.1⟩)
theorem BR.rt (h : BR B S M) {j : Int} (hj : Rt S j) (hR : Rg S) : ∃ w, B j w ∧ RtM M w := by
  have b0 := hR.r0
  have b4 := hR.r4 (i := S 0 0) (by omega) (by omega)
  obtain ⟨j0, ⟨r, r0, r1, r2⟩ | ⟨g, g0, g1, g2⟩ | ⟨k, k1, k2, k3⟩⟩ := hj
  · have c := h.2.1 r r0 r1
    rw [cur_r r0, r2] at c
    have d := h.obj c j0
    exact ⟨_, c, d.2.1, d.2.2.1, Or.inl ⟨r, r0, r1, rfl⟩⟩
  · have c := h.2.2.2.1 g g0 g1
    rw [g2] at c
    have d := h.obj c j0
    exact ⟨_, c, d.2.1, d.2.2.1, Or.inr (Or.inr ⟨g, g0, g1, rfl⟩)⟩
  · have hk0 := k1
    unfold LK at hk0
    have b5 := hR.r5 (i := k) (by omega) (by omega)
    have c := (h.2.2.1 (S 5 k - 96) (by omega) (by omega) j (Or.inl ⟨k, k1, by omega, k3⟩)).1
    have d := h.obj c j0
    exact ⟨_, c, d.2.1, d.2.2.1, Or.inr (Or.inl ⟨S 5 k - 96, by omega, by omega, rfl⟩)⟩
theorem BR.rtb (h : BR B S M) {w : Int} (hw : RtM M w) : ∃ j, B j w ∧ Rt S j := by
  obtain ⟨w0, w1, ⟨r, r0, r1, rfl⟩ | ⟨r, r0, r1, rfl⟩ | ⟨g, g0, g1, rfl⟩⟩ := hw
  · have c := h.2.1 r r0 r1
    refine ⟨_, c, h.pos c w1, Or.inl ⟨r, r0, r1, ?_⟩⟩
    rw [cur_r r0]
  · obtain ⟨v, hv⟩ := OV_ex S (96 + r)
    have c := (h.2.2.1 r r0 r1 v hv).1
    refine ⟨v, c, h.pos c w1, ?_⟩
    rcases hv with ⟨k, k1, k2, k3⟩ | ⟨-, k2⟩
    · exact Or.inr (Or.inr ⟨k, k1, by omega, k3⟩)
    · rw [cur_r r0] at k2
      exact Or.inl ⟨r, r0, r1, k2⟩
  · have c := h.2.2.2.1 g g0 g1
    exact ⟨_, c, h.pos c w1, Or.inr (Or.inl ⟨g, g0, g1, rfl⟩)⟩
theorem BR.nd (hR : Rg S) (h : BR B S M) {s : Int} (hs : Nd S s) : ∃ w, B s w ∧ NdM M w := Cl_tr (B := B) (E := Eg S 1) (E' := EgM M 1) (P := Rt S) (P' := RtM M) (fun j hj => h.rt hj hR) (fun _ _ _ hb e => h.fwd hR hb e) hs
theorem BR.ndb (hR : Rg S) (h : BR B S M) {w : Int} (hw : NdM M w) : ∃ s, B s w ∧ Nd S s := Cl_tr (B := fun w s => B s w) (fun _ hj => h.rtb hj) (fun s w t hb e => by
  have e0 := e.2.2
  obtain ⟨k, k0, k1, k2, -⟩ := e0
  exact h.bwd hR hb (h.pos hb (by omega)) e) hw
/-- as many are needed here as there -/
theorem BR.cnt (hR : Rg S) (h : BR B S M) : cP (Nd S) 32 = cP (NdM M) 24 := by
  have b8 := hR.r8
  refine cP_bij (B := B) (m := 24) 32 (Nd S) (NdM M) (fun s s0 s1 hs => ?_) (fun w w0 w1 hw => ?_) h.1.2.2.1 h.1.2.2.2
  · obtain ⟨w, w1, w2⟩ := h.nd hR hs
    exact ⟨w, (NdM_in w2).1, (NdM_in w2).2, w2, w1⟩
  · obtain ⟨s, s1, s2⟩ := h.ndb hR hw
    have := (h.obj s1 (Nd_pos s2)).1
    exact ⟨s, Nd_pos s2, by omega, s2, s1⟩
/-- what some roots lead to, here and there -/
theorem BR.cnt0 (hR : Rg S) (h : BR B S M) {P P' : Int → Prop} (hP : ∀ j, P j → 0 ≤ j) (hP' : ∀ j, P' j → 0 ≤ j ∧ j < 24) (h1 : ∀ j, P j → ∃ w, B j w ∧ P' w) (h2 : ∀ w, P' w → ∃ j, B j w ∧ P j) : cP (Cl (Eg S 0) P) 32 = cP (Cl (EgM M 0) P') 24 := by
  have b8 := hR.r8
  have p1 : ∀ s, Cl (Eg S 0) P s → 0 ≤ s := fun s hs => hs (fun s => 0 ≤ s) hP (fun y z _ e => Eg_pos e)
  have p2 : ∀ s, Cl (EgM M 0) P' s → 0 ≤ s ∧ s < 24 := fun s hs => hs (fun s => 0 ≤ s ∧ s < 24) hP' (fun y z _ e => ⟨e.1, e.2.1⟩)
  refine cP_bij (B := B) (m := 24) 32 _ _ (fun s s0 s1 hs => ?_) (fun w w0 w1 hw => ?_) h.1.2.2.1 h.1.2.2.2
  · obtain ⟨w, w1, w2⟩ := Cl_tr h1 (fun _ _ _ hb e => h.fwd hR hb e) hs
    exact ⟨w, (p2 w w2).1, (p2 w w2).2, w2, w1⟩
  · obtain ⟨s, s1, s2⟩ := Cl_tr (B := fun w s => B s w) h2 (fun s w t hb e => by
      have e0 := e.2.2
      obtain ⟨k, k0, k1, k2, -⟩ := e0
      exact h.bwd hR hb (h.pos hb (by omega)) e) hw
    have := (h.obj s1 (p1 s s2)).1
    exact ⟨s, p1 s s2, by omega, s2, s1⟩
theorem BR.rd (hR : Rg S) (h : BR B S M) : cP (Rd S) 32 = cP (RdM M) 24 := by
  refine h.cnt0 hR (fun j hj => hj.1) (fun j hj => ⟨hj.1, hj.2.1⟩) ?_ ?_
  · rintro j ⟨j0, r, r0, r1, r2⟩
    have c := h.2.1 r r0 r1
    rw [cur_r r0, r2] at c
    have d := h.obj c j0
    exact ⟨_, c, d.2.1, d.2.2.1, r, r0, r1, rfl⟩
  · rintro w ⟨w0, w1, r, r0, r1, rfl⟩
    have c := h.2.1 r r0 r1
    exact ⟨_, c, h.pos c w1, r, r0, r1, by rw [cur_r r0]⟩
/-- less is related: only what is needed -/
theorem BR.shrink (hR : Rg S) (h : BR B S M) : BR (fun v w => B v w ∧ (v = -1 ∨ Nd S v)) S M := by
  have b0 := hR.r0
  have b8 := hR.r8
  have sub : ∀ {v w : Int}, B v w → (0 ≤ v → Nd S v) → (B v w ∧ (v = -1 ∨ Nd S v)) := fun {v w} hb hn => ⟨hb, by
    rcases h.1.2.1 v w hb with ⟨a, -⟩ | ⟨a, -⟩
    · exact Or.inl a
    · exact Or.inr (hn a)⟩
  refine ⟨⟨⟨h.1.1, Or.inl rfl⟩, fun v w q => h.1.2.1 v w q.1, fun v w w' q q' => h.1.2.2.1 v w w' q.1 q'.1, fun v v' w q q' => h.1.2.2.2 v v' w q.1 q'.1⟩, fun r r0 r1 => sub (h.2.1 r r0 r1) (fun q => Cl.base ⟨q, Or.inl ⟨r, r0, r1, by rw [cur_r r0]⟩⟩), fun r r0 r1 v hv => ⟨sub (h.2.2.1 r r0 r1 v hv).1 (fun q => ?_), (h.2.2.1 r r0 r1 v hv).2⟩, fun g g0 g1 => sub (h.2.2.2.1 g g0 g1) (fun q => Cl.base ⟨q, Or.inr (Or.inl ⟨g, g0, g1, rfl⟩)⟩), fun s w q s0 => ?_⟩
  · rcases hv with ⟨k, k1, k2, k3⟩ | ⟨-, k2⟩
    · exact Cl.base ⟨q, Or.inr (Or.inr ⟨k, k1, by omega, k3⟩)⟩
    · rw [cur_r r0] at k2
      exact Cl.base ⟨q, Or.inl ⟨r, r0, r1, k2⟩⟩
  · obtain ⟨a1, a2, a3, ⟨a4, a5, a6⟩⟩ := h.obj q.1 s0
    have hs : Nd S s := by
      rcases q.2 with e | e
      · omega
      · exact e
    have fe : ∀ f, 0 ≤ f → f ≤ 1 → 0 ≤ cur S (3 * s + f) → Nd S (cur S (3 * s + f)) := by
      intro f f0 f1 c0
      refine hs.step (Or.inl ⟨s0, a1, c0, ?_⟩)
      rw [cur_f s0 (by omega) f0 f1]
      rcases (show f = 0 ∨ f = 1 by omega) with rfl | rfl
      · rw [Int.add_zero]; exact Or.inl rfl
      · exact Or.inr rfl
    refine ⟨fun f f0 f1 => sub (a4 f f0 f1) (fe f f0 f1), a5, ?_⟩
    rcases a6 with ⟨c1, c2, c3, c4⟩ | c
    · refine Or.inl ⟨c1, c2, fun f f0 f1 v hv => ⟨sub (c3 f f0 f1 v hv).1 (fun v0 => ?_), (c3 f f0 f1 v hv).2⟩, c4⟩
      rcases hv with ⟨k, k1, k2, k3⟩ | ⟨-, k2⟩
      · exact hs.step (Or.inr ⟨rfl, k, k1, by omega, by omega, by omega, k3, v0⟩)
      · rw [← k2] at v0 ⊢
        exact fe f f0 f1 v0
    · exact Or.inr c
/-- the reference's 'seen' doesn't matter -/
theorem BR.eqM {M' : St} (h : BR B S M) (e : EqM M M') : BR B S M' := by
  have e0 : M' 0 = M 0 := funext fun i => e 0 i (by decide)
  have e1 : M' 1 = M 1 := funext fun i => e 1 i (by decide)
  have e2 : M' 2 = M 2 := funext fun i => e 2 i (by decide)
  have e3 : M' 3 = M 3 := funext fun i => e 3 i (by decide)
  have e4 : M' 4 = M 4 := funext fun i => e 4 i (by decide)
  have e5 : M' 5 = M 5 := funext fun i => e 5 i (by decide)
  have e6 : M' 6 = M 6 := funext fun i => e 6 i (by decide)
  have e7 : M' 7 = M 7 := funext fun i => e 7 i (by decide)
  unfold BR BO at h ⊢
  rw [e0, e1, e2, e3, e4, e5, e6, e7]
  exact h
end REL1
end
section
section REL2
variable {B : Int → Int → Prop} {S S' M M' : St}
/-- only registers change -/
theorem BR.reg (h : BR B S M) (hS : ∀ k, k ≠ 7 → S' k = S k) (hM : ∀ k, k ≠ 7 → M' k = M k) (hg : ∀ g, 0 ≤ g → g < 4 → B (S' 7 g) (M' 7 g)) : BR B S' M' := by
  have e0 := hS 0 (by decide)
  have e1 := hS 1 (by decide)
  have e2 := hS 2 (by decide)
  have e3 := hS 3 (by decide)
  have e4 := hS 4 (by decide)
  have e5 := hS 5 (by decide)
  have e6 := hS 6 (by decide)
  have e8 := hS 8 (by decide)
  have e9 := hS 9 (by decide)
  have m0 := hM 0 (by decide)
  have m1 := hM 1 (by decide)
  have m2 := hM 2 (by decide)
  have m3 := hM 3 (by decide)
  have m4 := hM 4 (by decide)
  have m5 := hM 5 (by decide)
  have m6 := hM 6 (by decide)
  obtain ⟨h1, h2, h3, -, h5⟩ := h
  have hc : cur S' = cur S := by
    funext p
    unfold cur
    rw [e0, e1, e2, e3]
  have hk : LK S' = LK S := by
    funext k
    unfold LK
    rw [e0, e4]
  have ho : OV S' = OV S := by
    funext p v
    unfold OV
    rw [hc, hk, e5, e6]
  have hl : hasL S' = hasL S := by
    funext s
    unfold hasL
    rw [hk, e5]
  refine ⟨by rw [e8]; exact h1, by rw [hc, m5]; exact h2, by rw [ho, m6]; unfold old at h3 ⊢; rw [e9]; exact h3, hg, ?_⟩
  unfold BO old at h5 ⊢
  rw [hc, ho, hl, e9, m0, m1, m2, m3, m4]
  exact h5
theorem LO.reg (h : LO S) (hS : ∀ k, k ≠ 7 → S' k = S k) : LO S' := by
  have e0 := hS 0 (by decide)
  have e4 := hS 4 (by decide)
  have e5 := hS 5 (by decide)
  have e8 := hS 8 (by decide)
  have e10 := hS 10 (by decide)
  have hk : LK S' = LK S := by
    funext k
    unfold LK
    rw [e0, e4]
  unfold LO LA hasL at h ⊢
  rw [hk, e5, e8, e10]
  exact h
theorem Rf.reg (h : Rf S) (hS : ∀ k, k ≠ 7 → S' k = S k) : Rf S' := by
  unfold Rf at h ⊢
  rw [hS 5 (by decide), hS 6 (by decide)]
  exact h
theorem wr_f {S : St} {k k' : Nat} {i z : Int} (h : k' ≠ k) : wr S k i z k' = S k' := funext fun _ => wr_k h
/-- a register gets what something else holds -/
theorem Rel.reg (hR : Rg S) (hF : Rf S) (hL : LO S) (hRM : RgM M) (hB : BR B S M) {g v w : Int} (hv : B v w) (h31 : v ≤ 31) : Rel (wr S 7 g v) (wr M 7 g w) := by
  have hi := hB.1.2.1 v w hv
  refine ⟨hR.put (k := 7) (show -1 ≤ v by omega) h31, hF.reg (fun k hk => wr_f hk), hL.reg (fun k hk => wr_f hk), hRM.put (k := 7) (show 0 ≤ w by omega) (show w ≤ 24 by omega), B, hB.reg (fun k hk => wr_f hk) (fun k hk => wr_f hk) (fun g' g0 g1 => ?_)⟩
  by_cases e : g' = g
  · subst e; rw [wr_s, wr_s]; exact hv
  · rw [wr_i e, wr_i e]; exact hB.2.2.2.1 g' g0 g1
theorem BR.nil (h : BR B S M) {v w : Int} (hv : B v w) : v < 0 ↔ w = 24 := by
  have hi := h.1.2.1 v w hv
  omega
end REL2
theorem op_fromRoot (xg xq : Int32) : OpOK Rel yX0_fromRoot cX0_fromRoot 3 (some .int) 1 yX1_fromRoot cX1_fromRoot 3 (some .int) 1 [.int xg, .int xq] := by
  intro S M hRel
  have hRel0 := hRel
  obtain ⟨hR, hF, hL, hRM, B, hB⟩ := hRel
  obtain ⟨g, hg, rfl⟩ := iI_ex xg
  obtain ⟨q, hq, rfl⟩ := iI_ex xq
  have b0 := hR.r0
  have b8 := hR.r8
  refine ⟨_, _, cX_fromRoot hR hg hq, cM_fromRoot hRM hg hq, ?_⟩
  rintro r u r' u' ⟨z, rfl, h1⟩ ⟨z', rfl, h2⟩
  rcases h1 with ⟨a1, rfl, rfl⟩ | ⟨a1, rfl, rfl⟩ <;> rcases h2 with ⟨a2, rfl, rfl⟩ | ⟨a2, rfl, rfl⟩
  · exact ⟨_, rfl, rfl, hRel0⟩
  · omega
  · omega
  · have c := hB.2.1 q (by omega) (by omega)
    rw [cur_r (by omega)] at c
    exact ⟨_, rfl, rfl, Rel.reg hR hF hL hRM hB c (hR.r3 (by omega) (by omega)).2⟩
theorem op_release (xg : Int32) : OpOK Rel yX0_release cX0_release 2 (some .int) 1 yX1_release cX1_release 2 (some .int) 1 [.int xg] := by
  intro S M hRel
  have hRel0 := hRel
  obtain ⟨hR, hF, hL, hRM, B, hB⟩ := hRel
  obtain ⟨g, hg, rfl⟩ := iI_ex xg
  have b0 := hR.r0
  have b8 := hR.r8
  refine ⟨_, _, cX_release hg, cM_release hg, ?_⟩
  rintro r u r' u' ⟨z, rfl, h1⟩ ⟨z', rfl, h2⟩
  rcases h1 with ⟨a1, rfl, rfl⟩ | ⟨a1, rfl, rfl⟩ <;> rcases h2 with ⟨a2, rfl, rfl⟩ | ⟨a2, rfl, rfl⟩
  · exact ⟨_, rfl, rfl, hRel0⟩
  · omega
  · omega
  · exact ⟨_, rfl, rfl, Rel.reg hR hF hL hRM hB hB.1.1 (by decide)⟩
theorem op_fromField (xg xs xf : Int32) : OpOK Rel yX0_fromField cX0_fromField 4 (some .int) 1 yX1_fromField cX1_fromField 4 (some .int) 1 [.int xg, .int xs, .int xf] := by
  intro S M hRel
  have hRel0 := hRel
  obtain ⟨hR, hF, hL, hRM, B, hB⟩ := hRel
  obtain ⟨g, hg, rfl⟩ := iI_ex xg
  obtain ⟨s, hs, rfl⟩ := iI_ex xs
  obtain ⟨f, hf, rfl⟩ := iI_ex xf
  have b0 := hR.r0
  have b8 := hR.r8
  refine ⟨_, _, cX_fromField hR hg hs hf, cM_fromField hRM hg hs hf, ?_⟩
  rintro r u r' u' ⟨z, rfl, h1⟩ ⟨z', rfl, h2⟩
  rcases h1 with ⟨a1, rfl, rfl⟩ | ⟨a1, b1, rfl, rfl⟩ | ⟨a1, b1, rfl, rfl⟩ <;> rcases h2 with ⟨a2, rfl, rfl⟩ | ⟨a2, b2, rfl, rfl⟩ | ⟨a2, b2, rfl, rfl⟩
  · exact ⟨_, rfl, rfl, hRel0⟩
  · omega
  · omega
  · omega
  · exact ⟨_, rfl, rfl, hRel0⟩
  · exact absurd ((hB.nil (hB.2.2.2.1 s (by omega) (by omega))).mp b1) b2
  · omega
  · have := (hB.nil (hB.2.2.2.1 s (by omega) (by omega))).mpr b2
    omega
  · have c := hB.2.2.2.1 s (by omega) (by omega)
    obtain ⟨d1, d2, d3, ⟨d4, -⟩⟩ := hB.obj c b1
    have d5 := d4 f (by omega) (by omega)
    rw [cur_f b1 (by omega) (by omega) (by omega)] at d5
    exact ⟨_, rfl, rfl, Rel.reg hR hF hL hRM hB d5 (hR.r1 (by omega) (by omega)).2⟩
theorem op_number (xg : Int32) : OpOK Rel yX0_number cX0_number 2 (some .int) 1 yX1_number cX1_number 2 (some .int) 1 [.int xg] := by
  intro S M hRel
  have hRel0 := hRel
  obtain ⟨hR, hF, hL, hRM, B, hB⟩ := hRel
  obtain ⟨g, hg, rfl⟩ := iI_ex xg
  have b0 := hR.r0
  have b8 := hR.r8
  refine ⟨_, _, cX_number hR hg, cM_number hRM hg, ?_⟩
  rintro r u r' u' ⟨z, rfl, rfl, h1⟩ ⟨z', rfl, rfl, h2⟩
  have e : z = z' := by
    rcases h1 with ⟨a1, rfl⟩ | ⟨a1, b1, rfl⟩ | ⟨a1, b1, rfl⟩ <;> rcases h2 with ⟨a2, rfl⟩ | ⟨a2, b2, rfl⟩ | ⟨a2, b2, rfl⟩
    · rfl
    · rfl
    · omega
    · rfl
    · rfl
    · have := (hB.nil (hB.2.2.2.1 g (by omega) (by omega))).mp b1
      omega
    · omega
    · have := (hB.nil (hB.2.2.2.1 g (by omega) (by omega))).mpr b2
      omega
    · have c := hB.2.2.2.1 g (by omega) (by omega)
      obtain ⟨d1, d2, d3, ⟨-, d5, -⟩⟩ := hB.obj c b1
      rw [cur_n b1 (by omega)] at d5
      exact d5
  exact ⟨_, rfl, by rw [e], hRel0⟩
theorem op_same (xg xq : Int32) : OpOK Rel yX0_same cX0_same 3 (some .boolean) 1 yX1_same cX1_same 3 (some .boolean) 1 [.int xg, .int xq] := by
  intro S M hRel
  have hRel0 := hRel
  obtain ⟨hR, hF, hL, hRM, B, hB⟩ := hRel
  obtain ⟨g, hg, rfl⟩ := iI_ex xg
  obtain ⟨q, hq, rfl⟩ := iI_ex xq
  have b0 := hR.r0
  have b8 := hR.r8
  refine ⟨_, _, cX_same hR hg hq, cM_same hRM hg hq, ?_⟩
  rintro r u r' u' ⟨z, rfl, rfl, h1⟩ ⟨z', rfl, rfl, h2⟩
  have e : z = z' := by
    rcases h1 with ⟨a1, rfl⟩ | ⟨a1, h1⟩ <;> rcases h2 with ⟨a2, rfl⟩ | ⟨a2, h2⟩
    · rfl
    · omega
    · omega
    · have c1 := hB.2.2.2.1 g (by omega) (by omega)
      have c2 := hB.2.2.2.1 q (by omega) (by omega)
      have hiff : S 7 g = S 7 q ↔ M 7 g = M 7 q := ⟨fun w => hB.1.2.2.1 _ _ _ c1 (by rw [w]; exact c2), fun w => hB.1.2.2.2 _ _ _ c1 (by rw [w]; exact c2)⟩
      rcases h1 with ⟨rfl, h1⟩ | ⟨rfl, h1⟩ <;> rcases h2 with ⟨rfl, h2⟩ | ⟨rfl, h2⟩
      · rfl
      · exact absurd (hiff.mp h1) h2
      · exact absurd (hiff.mpr h2) h1
      · rfl
  exact ⟨_, rfl, by rw [e], hRel0⟩
theorem op_needed : OpOK Rel yX0_needed cX0_needed 2 (some .int) 4 yX1_needed cX1_needed 1 (some .int) 2 [] := by
  intro S M hRel
  have hRel0 := hRel
  obtain ⟨hR, hF, hL, hRM, B, hB⟩ := hRel
  have b0 := hR.r0
  have b8 := hR.r8
  refine ⟨_, _, cX_needed hR hF, cM_needed hRM, ?_⟩
  rintro r u r' u' ⟨z, rfl, rfl, h1⟩ ⟨z', rfl, h2, h3, h4⟩
  exact ⟨_, rfl, by rw [h1, h4, hB.cnt hR], hR, hF, hL, h3, B, hB.eqM h2⟩
theorem op_reach (xg : Int32) : OpOK Rel yX0_reach cX0_reach 4 (some .int) 3 yX1_reach cX1_reach 2 (some .int) 1 [.int xg] := by
  intro S M hRel
  have hRel0 := hRel
  obtain ⟨hR, hF, hL, hRM, B, hB⟩ := hRel
  obtain ⟨g, hg, rfl⟩ := iI_ex xg
  have b0 := hR.r0
  have b8 := hR.r8
  refine ⟨_, _, cX_reach hR hF hg, cM_reach hRM hg, ?_⟩
  rintro r u r' u' ⟨z, rfl, rfl, h1⟩ ⟨z', rfl, h2⟩
  rcases h1 with ⟨a1, rfl⟩ | ⟨a1, b1, rfl⟩ <;> rcases h2 with ⟨a2, rfl, rfl⟩ | ⟨a2, h2, h3, rfl⟩
  · exact ⟨_, rfl, rfl, hRel0⟩
  · omega
  · omega
  · have c := hB.2.1 g (by omega) (by omega)
    rw [cur_r (by omega)] at c
    have e := hB.cnt0 hR (P := fun j => 0 ≤ j ∧ S 3 (3 * S 0 0 + g) = j) (P' := fun j => 0 ≤ j ∧ j < 24 ∧ M 5 g = j) (fun j hj => hj.1) (fun j hj => ⟨hj.1, hj.2.1⟩) (fun j hj => by
      rw [hj.2] at c
      have d := hB.obj c hj.1
      exact ⟨_, c, d.2.1, d.2.2.1, rfl⟩) (fun w hw => by
      rw [hw.2.2] at c
      exact ⟨_, c, hB.pos c hw.2.1, rfl⟩)
    exact ⟨_, rfl, by rw [e], hR, hF, hL, h3, B, hB.eqM h2⟩
end
section
/-- a place gets a content -/
def wrP (S : St) (p v : Int) : St := if 96 ≤ p then wr S 3 (3 * S 0 0 + p - 96) v else if p % 3 = 2 then wr S 2 (32 * S 0 0 + p / 3) v else wr S 1 (2 * (32 * S 0 0 + p / 3) + p % 3) v
theorem wrP_k {S : St} {p v : Int} {k : Nat} (h : k ≠ 1 ∧ k ≠ 2 ∧ k ≠ 3) : wrP S p v k = S k := by
  unfold wrP
  split
  · exact wr_f h.2.2
  · split
    · exact wr_f h.2.1
    · exact wr_f h.1
theorem cur_wrP {S : St} {p v q : Int} (h0 : 0 ≤ S 0 0 ∧ S 0 0 ≤ 1) (p0 : 0 ≤ p) (p1 : p < 99) (q0 : 0 ≤ q) (q1 : q < 99) : cur (wrP S p v) q = if q = p then v else cur S q := by
  have e0 : wrP S p v 0 0 = S 0 0 := by rw [wrP_k (by decide)]
  unfold cur
  rw [e0]
  unfold wrP
  by_cases hp : 96 ≤ p
  · rw [if_pos hp]
    by_cases hq : 96 ≤ q
    · rw [if_pos hq, if_pos hq, wr_eq]
      by_cases e : q = p
      · rw [if_pos e, if_pos (by omega)]
      · rw [if_neg e, if_neg (by omega)]
    · rw [if_neg hq, if_neg hq, if_neg (show ¬ q = p by omega), wr_k (by decide), wr_k (by decide)]
  · rw [if_neg hp]
    by_cases hp2 : p % 3 = 2
    · rw [if_pos hp2]
      by_cases hq : 96 ≤ q
      · rw [if_pos hq, if_pos hq, if_neg (show ¬ q = p by omega), wr_k (by decide)]
      · rw [if_neg hq, if_neg hq]
        by_cases hq2 : q % 3 = 2
        · rw [if_pos hq2, if_pos hq2, wr_eq]
          by_cases e : q = p
          · rw [if_pos e, if_pos (by omega)]
          · rw [if_neg e, if_neg (by omega)]
        · rw [if_neg hq2, if_neg hq2, if_neg (show ¬ q = p by omega), wr_k (by decide)]
    · rw [if_neg hp2]
      by_cases hq : 96 ≤ q
      · rw [if_pos hq, if_pos hq, if_neg (show ¬ q = p by omega), wr_k (by decide)]
      · rw [if_neg hq, if_neg hq]
        by_cases hq2 : q % 3 = 2
        · rw [if_pos hq2, if_pos hq2, if_neg (show ¬ q = p by omega), wr_k (by decide)]
        · rw [if_neg hq2, if_neg hq2, wr_eq]
          by_cases e : q = p
          · rw [if_pos e, if_pos (by omega)]
          · rw [if_neg e, if_neg (by omega)]
/-- is it a place for an object? -/
def refP (p : Int) : Prop := 96 ≤ p ∨ ¬ p % 3 = 2
theorem cur_le {S : St} (hR : Rg S) {p : Int} (p0 : 0 ≤ p) (p1 : p < 99) : inI (cur S p) ∧ (refP p → -1 ≤ cur S p ∧ cur S p ≤ 31) := by
  have b0 := hR.r0
  unfold cur
  by_cases hp : 96 ≤ p
  · have := hR.r3 (i := 3 * S 0 0 + p - 96) (by omega) (by omega)
    rw [if_pos hp]
    exact ⟨⟨by omega, by omega⟩, fun _ => this⟩
  · rw [if_neg hp]
    by_cases hp2 : p % 3 = 2
    · rw [if_pos hp2]
      refine ⟨hR.r2 (by omega) (by omega), fun h => ?_⟩
      rcases h with h | h <;> omega
    · have := hR.r1 (i := 2 * (32 * S 0 0 + p / 3) + p % 3) (by omega) (by omega)
      rw [if_neg hp2]
      exact ⟨⟨by omega, by omega⟩, fun _ => this⟩
theorem wrP_Rg {S : St} (hR : Rg S) {p v : Int} (hv : inI v) (hr : refP p → -1 ≤ v ∧ v ≤ 31) : Rg (wrP S p v) := by
  unfold wrP
  by_cases hp : 96 ≤ p
  · rw [if_pos hp]
    have := hr (Or.inl hp)
    exact hR.put (k := 3) this.1 this.2
  · rw [if_neg hp]
    by_cases hp2 : p % 3 = 2
    · rw [if_pos hp2]
      exact hR.put (k := 2) hv.1 hv.2
    · rw [if_neg hp2]
      have := hr (Or.inr hp2)
      exact hR.put (k := 1) this.1 this.2
section REL3
variable {S : St} {p v : Int}
theorem LK_rows {S S' : St} (e0 : S' 0 = S 0) (e4 : S' 4 = S 4) : LK S' = LK S := by
  funext k
  unfold LK
  rw [e0, e4]
theorem cur_rows {S S' : St} (e0 : S' 0 = S 0) (e1 : S' 1 = S 1) (e2 : S' 2 = S 2) (e3 : S' 3 = S 3) : cur S' = cur S := by
  funext q
  unfold cur
  rw [e0, e1, e2, e3]
/-- a place is written, and its object is new (or it is on the list already) -/
theorem WM (hR : Rg S) (hF : Rf S) (hL : LO S) (p0 : 0 ≤ p) (p1 : p < 99) (hv : inI v) (hr : refP p → -1 ≤ v ∧ v ≤ 31) :
    Rg (wrP S p v) ∧ Rf (wrP S p v) ∧ LO (wrP S p v) ∧ (∀ q, 0 ≤ q → q < 99 → cur (wrP S p v) q = if q = p then v else cur S q) ∧ (∀ q x, 0 ≤ q → q < 99 → (q ≠ p ∨ ∃ k, LK S k ∧ S 5 k = p) → (OV (wrP S p v) q x ↔ OV S q x)) ∧ (∀ s, hasL (wrP S p v) s → hasL S s) := by
  have b0 := hR.r0
  have f : ∀ {k : Nat}, (k ≠ 1 ∧ k ≠ 2 ∧ k ≠ 3) → wrP S p v k = S k := fun h => wrP_k h
  have hk : LK (wrP S p v) = LK S := LK_rows (f (by decide)) (f (by decide))
  have f5 : wrP S p v 5 = S 5 := f (by decide)
  have f6 : wrP S p v 6 = S 6 := f (by decide)
  have hc : ∀ q, 0 ≤ q → q < 99 → cur (wrP S p v) q = if q = p then v else cur S q := fun q q0 q1 => cur_wrP b0 p0 p1 q0 q1
  refine ⟨wrP_Rg hR hv hr, by unfold Rf at hF ⊢; rw [f5, f6]; exact hF, ?_, hc, fun q x q0 q1 hq => ?_, fun s hs => by unfold hasL at hs ⊢; rw [hk, f5] at hs; exact hs⟩
  · unfold LO LA hasL at hL ⊢
    rw [hk, f5, f (k := 10) (by decide), f (k := 8) (by decide)]
    exact hL
  · unfold OV
    rw [hk, f5, f6, hc q q0 q1]
    by_cases e : q = p
    · obtain ⟨k, k1, k2⟩ : ∃ k, LK S k ∧ S 5 k = p := by
        rcases hq with hq | hq
        · exact absurd e hq
        · exact hq
      constructor
      · rintro (w | ⟨w, -⟩)
        · exact Or.inl w
        · exact absurd (k2.trans e.symm) (w k k1)
      · rintro (w | ⟨w, -⟩)
        · exact Or.inl w
        · exact absurd (k2.trans e.symm) (w k k1)
    · rw [if_neg e]
theorem noteF_f {S : St} {p v : Int} {k : Nat} (h : k ≠ 10 ∧ k ≠ 5 ∧ k ≠ 6 ∧ k ≠ 4) : noteF S p v k = S k := funext fun _ => noteF_k h
/-- a place's content goes on the list -/
theorem NM (hR : Rg S) (hF : Rf S) (hL : LO S) (p0 : 0 ≤ p) (p1 : p < 99) (hu : p < 96 → p / 3 < S 8 0) :
    Rg (noteF S p (cur S p)) ∧ Rf (noteF S p (cur S p)) ∧ LO (noteF S p (cur S p)) ∧ (∃ k, LK (noteF S p (cur S p)) k ∧ noteF S p (cur S p) 5 k = p) ∧ (∀ q x, 0 ≤ q → q < 99 → (OV (noteF S p (cur S p)) q x ↔ OV S q x)) ∧ (∀ s, hasL (noteF S p (cur S p)) s → hasL S s ∨ (p < 96 ∧ p / 3 = s)) := by
  have b0 := hR.r0
  have b4 := hR.r4 (i := S 0 0) (by omega) (by omega)
  have b10 := hR.r10 p0 p1
  have hcl := cur_le hR p0 p1
  have hcu : cur (noteF S p (cur S p)) = cur S := cur_rows (noteF_f (by decide)) (noteF_f (by decide)) (noteF_f (by decide)) (noteF_f (by decide))
  by_cases hp : S 10 p = 0
  · have hroom := hL.room hR p p0 p1 hp
    have hun : ∀ k, LK S k → S 5 k ≠ p := fun k k1 k2 => by
      have := (hL.2.1 p p0 p1).mpr ⟨k, k1, k2⟩
      omega
    obtain ⟨n, hn⟩ : ∃ n, n = 99 * S 0 0 + S 4 (S 0 0) := ⟨_, rfl⟩
    have hS : noteF S p (cur S p) = wr (wr (wr (wr S 10 p 1) 5 n p) 6 n (cur S p)) 4 (S 0 0) (S 4 (S 0 0) + 1) := by
      unfold noteF
      rw [if_pos hp, hn]
    have e0 : noteF S p (cur S p) 0 = S 0 := noteF_f (by decide)
    have e5 : ∀ k, noteF S p (cur S p) 5 k = if k = n then p else S 5 k := fun k => by
      rw [hS, wr_k (by decide), wr_k (by decide), wr_eq, wr_k (by decide)]
    have e6 : ∀ k, noteF S p (cur S p) 6 k = if k = n then cur S p else S 6 k := fun k => by
      rw [hS, wr_k (by decide), wr_eq, wr_k (by decide), wr_k (by decide)]
    have e4 : noteF S p (cur S p) 4 (S 0 0) = S 4 (S 0 0) + 1 := by rw [hS, wr_s]
    have e10 : ∀ q, noteF S p (cur S p) 10 q = if q = p then 1 else S 10 q := fun q => by
      rw [hS, wr_k (by decide), wr_k (by decide), wr_k (by decide), wr_eq]
    have hk : ∀ k, LK (noteF S p (cur S p)) k ↔ (LK S k ∨ k = n) := fun k => by
      unfold LK
      rw [e0, e4]
      omega
    have hkn : ∀ k, LK S k → k ≠ n := fun k k1 => by
      unfold LK at k1
      omega
    refine ⟨?_, ?_, ⟨?_, ?_, ?_⟩, ⟨n, (hk n).mpr (Or.inr rfl), by rw [e5, if_pos rfl]⟩, ?_, ?_⟩
    · rw [hS]
      exact (((hR.put (by decide) (by decide)).put (k := 5) p0 (show p ≤ 98 by omega)).put (k := 6) hcl.1.1 hcl.1.2).put (k := 4) (show 0 ≤ S 4 (S 0 0) + 1 by omega) (show S 4 (S 0 0) + 1 ≤ 99 by omega)
    · intro i i0 i1 hi
      rw [e5] at hi
      rw [e6]
      by_cases e : i = n
      · rw [if_pos e] at hi ⊢
        exact hcl.2 hi
      · rw [if_neg e] at hi ⊢
        exact hF i i0 i1 hi
    · intro k k' h1 h2 e
      rw [e5, e5] at e
      rcases (hk k).mp h1 with h1 | h1 <;> rcases (hk k').mp h2 with h2 | h2
      · rw [if_neg (hkn k h1), if_neg (hkn k' h2)] at e
        exact hL.1 k k' h1 h2 e
      · rw [if_neg (hkn k h1), if_pos h2] at e
        exact absurd e (hun k h1)
      · rw [if_pos h1, if_neg (hkn k' h2)] at e
        exact absurd e.symm (hun k' h2)
      · rw [h1, h2]
    · intro q q0 q1
      rw [e10]
      by_cases e : q = p
      · rw [if_pos e]
        exact ⟨fun _ => ⟨n, (hk n).mpr (Or.inr rfl), by rw [e5, if_pos rfl, e]⟩, fun _ => rfl⟩
      · rw [if_neg e, hL.2.1 q q0 q1]
        constructor
        · rintro ⟨k, k1, k2⟩
          exact ⟨k, (hk k).mpr (Or.inl k1), by rw [e5, if_neg (hkn k k1)]; exact k2⟩
        · rintro ⟨k, k1, k2⟩
          rw [e5] at k2
          rcases (hk k).mp k1 with k1 | k1
          · rw [if_neg (hkn k k1)] at k2
            exact ⟨k, k1, k2⟩
          · rw [if_pos k1] at k2
            exact absurd k2.symm e
    · rintro s ⟨k, k1, k2, k3⟩
      rw [noteF_f (by decide)]
      rw [e5] at k2 k3
      rcases (hk k).mp k1 with k1 | k1
      · rw [if_neg (hkn k k1)] at k2 k3
        exact hL.2.2 s ⟨k, k1, k2, k3⟩
      · rw [if_pos k1] at k2 k3
        have := hu k2
        omega
    · intro q x q0 q1
      unfold OV
      rw [hcu]
      by_cases e : q = p
      · constructor
        · rintro (⟨k, k1, k2, k3⟩ | ⟨w, -⟩)
          · rw [e5] at k2
            rw [e6] at k3
            rcases (hk k).mp k1 with k1 | k1
            · rw [if_neg (hkn k k1)] at k2
              exact absurd (k2.trans e) (hun k k1)
            · rw [if_pos k1] at k3
              exact Or.inr ⟨fun k' k1' => by rw [e]; exact hun k' k1', by rw [e]; exact k3⟩
          · exact absurd (by rw [e5, if_pos rfl, e]) (w n ((hk n).mpr (Or.inr rfl)))
        · rintro (⟨k, k1, k2, k3⟩ | ⟨-, w⟩)
          · exact absurd (k2.trans e) (hun k k1)
          · exact Or.inl ⟨n, (hk n).mpr (Or.inr rfl), by rw [e5, if_pos rfl, e], by rw [e6, if_pos rfl, ← e]; exact w⟩
      · constructor
        · rintro (⟨k, k1, k2, k3⟩ | ⟨w, w2⟩)
          · rw [e5] at k2
            rw [e6] at k3
            rcases (hk k).mp k1 with k1 | k1
            · rw [if_neg (hkn k k1)] at k2 k3
              exact Or.inl ⟨k, k1, k2, k3⟩
            · rw [if_pos k1] at k2
              exact absurd k2.symm e
          · refine Or.inr ⟨fun k k1 => ?_, w2⟩
            have := w k ((hk k).mpr (Or.inl k1))
            rw [e5, if_neg (hkn k k1)] at this
            exact this
        · rintro (⟨k, k1, k2, k3⟩ | ⟨w, w2⟩)
          · exact Or.inl ⟨k, (hk k).mpr (Or.inl k1), by rw [e5, if_neg (hkn k k1)]; exact k2, by rw [e6, if_neg (hkn k k1)]; exact k3⟩
          · refine Or.inr ⟨fun k k1 => ?_, w2⟩
            rw [e5]
            rcases (hk k).mp k1 with k1 | k1
            · rw [if_neg (hkn k k1)]
              exact w k k1
            · rw [if_pos k1]
              exact fun z => e z.symm
    · rintro s ⟨k, k1, k2, k3⟩
      rw [e5] at k2 k3
      rcases (hk k).mp k1 with k1 | k1
      · rw [if_neg (hkn k k1)] at k2 k3
        exact Or.inl ⟨k, k1, k2, k3⟩
      · rw [if_pos k1] at k2 k3
        exact Or.inr ⟨k2, k3⟩
  · have hS : noteF S p (cur S p) = S := by
      unfold noteF
      rw [if_neg hp]
    rw [hS]
    exact ⟨hR, hF, hL, (hL.2.1 p p0 p1).mp (by omega), fun _ _ _ _ => Iff.rfl, fun s hs => Or.inl hs⟩
end REL3
/-- what a write of a place leaves, as the relation sees it -/
def MU (o : Prop) (S S2 : St) (p v : Int) : Prop := S2 7 = S 7 ∧ S2 8 = S 8 ∧ S2 9 = S 9 ∧ (∀ q, 0 ≤ q → q < 99 → cur S2 q = if q = p then v else cur S q) ∧ (∀ q x, 0 ≤ q → q < 99 → (q ≠ p ∨ o) → (OV S2 q x ↔ OV S q x)) ∧ (∀ s, hasL S2 s → hasL S s ∨ (o ∧ p < 96 ∧ p / 3 = s))
theorem MU_note {S : St} (hR : Rg S) (hF : Rf S) (hL : LO S) {p v : Int} (p0 : 0 ≤ p) (p1 : p < 99) (hu : p < 96 → p / 3 < S 8 0) (hv : inI v) (hr : refP p → -1 ≤ v ∧ v ≤ 31) : Rg (wrP (noteF S p (cur S p)) p v) ∧ Rf (wrP (noteF S p (cur S p)) p v) ∧ LO (wrP (noteF S p (cur S p)) p v) ∧ MU True S (wrP (noteF S p (cur S p)) p v) p v := by
  obtain ⟨n1, n2, n3, n4, n5, n6⟩ := NM hR hF hL p0 p1 hu
  obtain ⟨w1, w2, w3, w4, w5, w6⟩ := WM (v := v) n1 n2 n3 p0 p1 hv hr
  have hcu : cur (noteF S p (cur S p)) = cur S := cur_rows (noteF_f (by decide)) (noteF_f (by decide)) (noteF_f (by decide)) (noteF_f (by decide))
  rw [hcu] at w4
  refine ⟨w1, w2, w3, ?_, ?_, ?_, w4, fun q x q0 q1 _ => (w5 q x q0 q1 (Or.inr n4)).trans (n5 q x q0 q1), fun s hs => ?_⟩
  · rw [wrP_k (by decide), noteF_f (by decide)]
  · rw [wrP_k (by decide), noteF_f (by decide)]
  · rw [wrP_k (by decide), noteF_f (by decide)]
  · rcases n6 s (w6 s hs) with h | h
    · exact Or.inl h
    · exact Or.inr ⟨trivial, h⟩
theorem MU_new {S : St} (hR : Rg S) (hF : Rf S) (hL : LO S) {p v : Int} (p0 : 0 ≤ p) (p1 : p < 99) (hv : inI v) (hr : refP p → -1 ≤ v ∧ v ≤ 31) : Rg (wrP S p v) ∧ Rf (wrP S p v) ∧ LO (wrP S p v) ∧ MU False S (wrP S p v) p v := by
  obtain ⟨w1, w2, w3, w4, w5, w6⟩ := WM (v := v) hR hF hL p0 p1 hv hr
  exact ⟨w1, w2, w3, wrP_k (by decide), wrP_k (by decide), wrP_k (by decide), w4, fun q x q0 q1 h => w5 q x q0 q1 (h.elim Or.inl (fun w => absurd w id)), fun s hs => Or.inl (w6 s hs)⟩
section REL4
variable {B : Int → Int → Prop} {S S2 M : St}
theorem BR.root (hR : Rg S) (h : BR B S M) {q v w : Int} (q0 : 0 ≤ q) (q1 : q ≤ 2) (hv : B v w) (hm : MU True S S2 (96 + q) v) : BR B S2 (wr M 5 q w) := by
  obtain ⟨e7, e8, e9, hc, ho, hl⟩ := hm
  have b8 := hR.r8
  refine ⟨by rw [e8]; exact h.1, fun r r0 r1 => ?_, fun r r0 r1 x hx => ?_, fun g g0 g1 => ?_, fun s w' hb s0 => ?_⟩
  · rw [hc _ (by omega) (by omega)]
    by_cases e : r = q
    · subst e; rw [if_pos rfl, wr_s]; exact hv
    · rw [if_neg (by omega), wr_i e]; exact h.2.1 r r0 r1
  · rw [wr_k (by decide)]
    unfold old
    rw [e9]
    exact h.2.2.1 r r0 r1 x ((ho _ x (by omega) (by omega) (Or.inr trivial)).mp hx)
  · rw [e7, wr_k (by decide)]; exact h.2.2.2.1 g g0 g1
  · obtain ⟨a1, a2, a3, ⟨a4, a5, a6⟩⟩ := h.obj hb s0
    refine ⟨fun f f0 f1 => ?_, ?_, ?_⟩
    · rw [hc _ (by omega) (by omega), if_neg (by omega), wr_k (by decide)]; exact a4 f f0 f1
    · rw [hc _ (by omega) (by omega), if_neg (by omega), wr_k (by decide)]; exact a5
    · rw [e9, wr_k (by decide), wr_k (by decide)]
      rcases a6 with ⟨c1, c2, c3, c4⟩ | ⟨c1, c2, c3⟩
      · refine Or.inl ⟨c1, c2, fun f f0 f1 x hx => ?_, fun x hx => c4 x ((ho _ x (by omega) (by omega) (Or.inr trivial)).mp hx)⟩
        rw [wr_k (by decide)]
        unfold old
        rw [e9]
        exact c3 f f0 f1 x ((ho _ x (by omega) (by omega) (Or.inr trivial)).mp hx)
      · refine Or.inr ⟨c1, c2, fun z => ?_⟩
        rcases hl s z with z | ⟨-, z, -⟩
        · exact c3 z
        · omega
theorem BR.field (hR : Rg S) (h : BR B S M) {a wa f v w : Int} {o : Prop} (ha : B a wa) (a0 : 0 ≤ a) (f0 : 0 ≤ f) (f1 : f ≤ 1) (hv : B v w) (ho1 : S 9 a = 0 → o) (ho2 : S 9 a = 1 → ¬ o) (hm : MU o S S2 (3 * a + f) v) : BR B S2 (wr M 2 (2 * wa + f) w) := by
  obtain ⟨e7, e8, e9, hc, ho, hl⟩ := hm
  have b8 := hR.r8
  obtain ⟨A1, A2, A3, -⟩ := h.obj ha a0
  refine ⟨by rw [e8]; exact h.1, fun r r0 r1 => ?_, fun r r0 r1 x hx => ?_, fun g g0 g1 => ?_, fun s w' hb s0 => ?_⟩
  · rw [hc _ (by omega) (by omega), if_neg (by omega), wr_k (by decide)]; exact h.2.1 r r0 r1
  · rw [wr_k (by decide)]
    unfold old
    rw [e9]
    exact h.2.2.1 r r0 r1 x ((ho _ x (by omega) (by omega) (Or.inl (by omega))).mp hx)
  · rw [e7, wr_k (by decide)]; exact h.2.2.2.1 g g0 g1
  · obtain ⟨a1, a2, a3, ⟨a4, a5, a6⟩⟩ := h.obj hb s0
    have hw : s = a ↔ w' = wa := ⟨fun e => h.1.2.2.1 _ _ _ hb (by rw [e]; exact ha), fun e => h.1.2.2.2 _ _ _ hb (by rw [e]; exact ha)⟩
    refine ⟨fun f' f0' f1' => ?_, ?_, ?_⟩
    · rw [hc _ (by omega) (by omega), wr_eq]
      by_cases e : s = a
      · have e2 := hw.mp e
        by_cases ef : f' = f
        · rw [if_pos (by omega), if_pos (by omega)]; exact hv
        · rw [if_neg (by omega), if_neg (by omega)]; exact a4 f' f0' f1'
      · have e2 : w' ≠ wa := fun z => e (hw.mpr z)
        rw [if_neg (by omega), if_neg (by omega)]; exact a4 f' f0' f1'
    · rw [hc _ (by omega) (by omega), if_neg (by omega), wr_k (by decide)]; exact a5
    · rw [e9, wr_k (by decide), wr_k (by decide)]
      have hoo : ∀ p' x, S 9 s = 0 → 3 * s ≤ p' → p' ≤ 3 * s + 2 → (OV S2 p' x ↔ OV S p' x) := by
        intro p' x hs p0 p1
        refine ho p' x (by omega) (by omega) ?_
        by_cases e : s = a
        · exact Or.inr (ho1 (by rw [← e]; exact hs))
        · exact Or.inl (by omega)
      rcases a6 with ⟨c1, c2, c3, c4⟩ | ⟨c1, c2, c3⟩
      · refine Or.inl ⟨c1, c2, fun f' f0' f1' x hx => ?_, fun x hx => c4 x ((hoo _ x c1 (by omega) (by omega)).mp hx)⟩
        rw [wr_k (by decide)]
        unfold old
        rw [e9]
        exact c3 f' f0' f1' x ((hoo _ x c1 (by omega) (by omega)).mp hx)
      · refine Or.inr ⟨c1, c2, fun z => ?_⟩
        rcases hl s z with z | ⟨z1, z2, z3⟩
        · exact c3 z
        · have : s = a := by omega
          exact ho2 (by rw [← this]; exact c1) z1
theorem BR.num (hR : Rg S) (h : BR B S M) {a wa v : Int} {o : Prop} (ha : B a wa) (a0 : 0 ≤ a) (ho1 : S 9 a = 0 → o) (ho2 : S 9 a = 1 → ¬ o) (hm : MU o S S2 (3 * a + 2) v) : BR B S2 (wr M 0 wa v) := by
  obtain ⟨e7, e8, e9, hc, ho, hl⟩ := hm
  have b8 := hR.r8
  obtain ⟨A1, A2, A3, -⟩ := h.obj ha a0
  refine ⟨by rw [e8]; exact h.1, fun r r0 r1 => ?_, fun r r0 r1 x hx => ?_, fun g g0 g1 => ?_, fun s w' hb s0 => ?_⟩
  · rw [hc _ (by omega) (by omega), if_neg (by omega), wr_k (by decide)]; exact h.2.1 r r0 r1
  · rw [wr_k (by decide)]
    unfold old
    rw [e9]
    exact h.2.2.1 r r0 r1 x ((ho _ x (by omega) (by omega) (Or.inl (by omega))).mp hx)
  · rw [e7, wr_k (by decide)]; exact h.2.2.2.1 g g0 g1
  · obtain ⟨a1, a2, a3, ⟨a4, a5, a6⟩⟩ := h.obj hb s0
    have hw : s = a ↔ w' = wa := ⟨fun e => h.1.2.2.1 _ _ _ hb (by rw [e]; exact ha), fun e => h.1.2.2.2 _ _ _ hb (by rw [e]; exact ha)⟩
    refine ⟨fun f' f0' f1' => ?_, ?_, ?_⟩
    · rw [hc _ (by omega) (by omega), if_neg (by omega), wr_k (by decide)]; exact a4 f' f0' f1'
    · rw [hc _ (by omega) (by omega), wr_eq]
      by_cases e : s = a
      · rw [if_pos (by omega), if_pos (hw.mp e)]
      · rw [if_neg (by omega), if_neg (fun z => e (hw.mpr z))]; exact a5
    · rw [e9, wr_k (by decide), wr_k (by decide)]
      have hoo : ∀ p' x, S 9 s = 0 → 3 * s ≤ p' → p' ≤ 3 * s + 2 → (OV S2 p' x ↔ OV S p' x) := by
        intro p' x hs p0 p1
        refine ho p' x (by omega) (by omega) ?_
        by_cases e : s = a
        · exact Or.inr (ho1 (by rw [← e]; exact hs))
        · exact Or.inl (by omega)
      rcases a6 with ⟨c1, c2, c3, c4⟩ | ⟨c1, c2, c3⟩
      · refine Or.inl ⟨c1, c2, fun f' f0' f1' x hx => ?_, fun x hx => ?_⟩
        · rw [wr_k (by decide)]
          unfold old
          rw [e9]
          exact c3 f' f0' f1' x ((hoo _ x c1 (by omega) (by omega)).mp hx)
        · exact c4 x ((hoo _ x c1 (by omega) (by omega)).mp hx)
      · refine Or.inr ⟨c1, c2, fun z => ?_⟩
        rcases hl s z with z | ⟨z1, z2, z3⟩
        · exact c3 z
        · have : s = a := by omega
          exact ho2 (by rw [← this]; exact c1) z1
end REL4
theorem wrP_r {S : St} {q v : Int} (q0 : 0 ≤ q) : wrP S (96 + q) v = wr S 3 (3 * S 0 0 + q) v := by
  unfold wrP
  rw [if_pos (by omega), show 3 * S 0 0 + (96 + q) - 96 = 3 * S 0 0 + q by omega]
theorem wrP_n {S : St} {s v : Int} (s0 : 0 ≤ s) (s1 : s < 32) : wrP S (3 * s + 2) v = wr S 2 (32 * S 0 0 + s) v := by
  unfold wrP
  rw [if_neg (by omega), if_pos (by omega), show (3 * s + 2) / 3 = s by omega]
theorem wrP_f {S : St} {s f v : Int} (s0 : 0 ≤ s) (s1 : s < 32) (f0 : 0 ≤ f) (f1 : f ≤ 1) : wrP S (3 * s + f) v = wr S 1 (2 * (32 * S 0 0 + s) + f) v := by
  unfold wrP
  rw [if_neg (by omega), if_neg (by omega), show (3 * s + f) / 3 = s by omega, show (3 * s + f) % 3 = f by omega]
theorem op_toRoot (xq xg : Int32) : OpOK Rel yX0_toRoot cX0_toRoot 3 (some .int) 1 yX1_toRoot cX1_toRoot 3 (some .int) 1 [.int xq, .int xg] := by
  intro S M hRel
  have hRel0 := hRel
  obtain ⟨hR, hF, hL, hRM, B, hB⟩ := hRel
  obtain ⟨q, hq, rfl⟩ := iI_ex xq
  obtain ⟨g, hg, rfl⟩ := iI_ex xg
  have b0 := hR.r0
  have b8 := hR.r8
  refine ⟨_, _, cX_toRoot hR (hL.room hR) hg hq, cM_toRoot hRM hg hq, ?_⟩
  rintro r u r' u' ⟨z, rfl, h1⟩ ⟨z', rfl, h2⟩
  rcases h1 with ⟨a1, rfl, rfl⟩ | ⟨a1, rfl, rfl⟩ <;> rcases h2 with ⟨a2, rfl, rfl⟩ | ⟨a2, rfl, rfl⟩
  · exact ⟨_, rfl, rfl, hRel0⟩
  · omega
  · omega
  · have c := hB.2.2.2.1 g (by omega) (by omega)
    have b7 := hR.r7 (i := g) (by omega) (by omega)
    have r7 := hRM.r7 (i := g) (by omega) (by omega)
    obtain ⟨m1, m2, m3, m4⟩ := MU_note hR hF hL (p := 96 + q) (v := S 7 g) (by omega) (by omega) (by omega) ⟨by omega, by omega⟩ (fun _ => b7)
    have e : wrP (noteF S (96 + q) (cur S (96 + q))) (96 + q) (S 7 g) = wr (noteF S (96 + q) (S 3 (3 * S 0 0 + q))) 3 (3 * S 0 0 + q) (S 7 g) := by
      rw [wrP_r (by omega), cur_r (by omega), noteF_0]
    rw [e] at m1 m2 m3 m4
    exact ⟨_, rfl, rfl, m1, m2, m3, hRM.put (k := 5) r7.1 r7.2, B, hB.root hR (by omega) (by omega) c m4⟩
theorem op_toField (xs xf xg : Int32) : OpOK Rel yX0_toField cX0_toField 6 (some .int) 1 yX1_toField cX1_toField 4 (some .int) 1 [.int xs, .int xf, .int xg] := by
  intro S M hRel
  have hRel0 := hRel
  obtain ⟨hR, hF, hL, hRM, B, hB⟩ := hRel
  obtain ⟨s, hs, rfl⟩ := iI_ex xs
  obtain ⟨f, hf, rfl⟩ := iI_ex xf
  obtain ⟨g, hg, rfl⟩ := iI_ex xg
  have b0 := hR.r0
  have b8 := hR.r8
  refine ⟨_, _, cX_toField hR (hL.room hR) hg hs hf, cM_toField hRM hg hs hf, ?_⟩
  rintro r u r' u' ⟨z, rfl, h1⟩ ⟨z', rfl, h2⟩
  rcases h1 with ⟨a1, rfl, rfl⟩ | ⟨a1, b1, rfl, rfl⟩ | h1
  · rcases h2 with ⟨a2, rfl, rfl⟩ | ⟨a2, b2, rfl, rfl⟩ | ⟨a2, b2, rfl, rfl⟩
    · exact ⟨_, rfl, rfl, hRel0⟩
    · omega
    · omega
  · rcases h2 with ⟨a2, rfl, rfl⟩ | ⟨a2, b2, rfl, rfl⟩ | ⟨a2, b2, rfl, rfl⟩
    · omega
    · exact ⟨_, rfl, rfl, hRel0⟩
    · exact absurd ((hB.nil (hB.2.2.2.1 s (by omega) (by omega))).mp b1) b2
  · have a1 : (0 ≤ g ∧ g ≤ 3 ∧ 0 ≤ s ∧ s ≤ 3 ∧ 0 ≤ f ∧ f ≤ 1) ∧ 0 ≤ S 7 s := by
      rcases h1 with ⟨x1, x2, -⟩ | ⟨x1, x2, -⟩
      · exact ⟨x1, x2⟩
      · exact ⟨x1, x2⟩
    have c := hB.2.2.2.1 g (by omega) (by omega)
    have cs := hB.2.2.2.1 s (by omega) (by omega)
    have b7 := hR.r7 (i := g) (by omega) (by omega)
    have r7 := hRM.r7 (i := g) (by omega) (by omega)
    obtain ⟨d1, d2, d3, -⟩ := hB.obj cs a1.2
    have b9 := hR.r9 (i := S 7 s) (by omega) (by omega)
    rcases h2 with ⟨a2, rfl, rfl⟩ | ⟨a2, b2, rfl, rfl⟩ | ⟨a2, b2, rfl, rfl⟩
    · omega
    · omega
    · rcases h1 with ⟨-, -, x3, rfl, rfl⟩ | ⟨-, -, x3, rfl, rfl⟩
      · obtain ⟨m1, m2, m3, m4⟩ := MU_new hR hF hL (p := 3 * S 7 s + f) (v := S 7 g) (by omega) (by omega) ⟨by omega, by omega⟩ (fun _ => b7)
        rw [wrP_f a1.2 (by omega) (by omega) (by omega)] at m1 m2 m3 m4
        exact ⟨_, rfl, rfl, m1, m2, m3, hRM.put (k := 2) r7.1 r7.2, B, hB.field hR cs a1.2 (by omega) (by omega) c (fun w => absurd w x3) (fun _ => id) m4⟩
      · obtain ⟨m1, m2, m3, m4⟩ := MU_note hR hF hL (p := 3 * S 7 s + f) (v := S 7 g) (by omega) (by omega) (by omega) ⟨by omega, by omega⟩ (fun _ => b7)
        rw [wrP_f a1.2 (by omega) (by omega) (by omega), cur_f a1.2 (by omega) (by omega) (by omega), noteF_0] at m1 m2 m3 m4
        exact ⟨_, rfl, rfl, m1, m2, m3, hRM.put (k := 2) r7.1 r7.2, B, hB.field hR cs a1.2 (by omega) (by omega) c (fun _ => trivial) (fun w => by omega) m4⟩
theorem op_setNumber (xg xv : Int32) : OpOK Rel yX0_setNumber cX0_setNumber 4 (some .int) 1 yX1_setNumber cX1_setNumber 3 (some .int) 1 [.int xg, .int xv] := by
  intro S M hRel
  have hRel0 := hRel
  obtain ⟨hR, hF, hL, hRM, B, hB⟩ := hRel
  obtain ⟨g, hg, rfl⟩ := iI_ex xg
  obtain ⟨v, hv, rfl⟩ := iI_ex xv
  have b0 := hR.r0
  have b8 := hR.r8
  refine ⟨_, _, cX_setNumber hR (hL.room hR) hg, cM_setNumber hRM hg, ?_⟩
  rintro r u r' u' ⟨z, rfl, h1⟩ ⟨z', rfl, h2⟩
  rcases h1 with ⟨a1, rfl, rfl⟩ | ⟨a1, b1, rfl, rfl⟩ | h1
  · rcases h2 with ⟨a2, rfl, rfl⟩ | ⟨a2, b2, rfl, rfl⟩ | ⟨a2, b2, rfl, rfl⟩
    · exact ⟨_, rfl, rfl, hRel0⟩
    · omega
    · omega
  · rcases h2 with ⟨a2, rfl, rfl⟩ | ⟨a2, b2, rfl, rfl⟩ | ⟨a2, b2, rfl, rfl⟩
    · omega
    · exact ⟨_, rfl, rfl, hRel0⟩
    · exact absurd ((hB.nil (hB.2.2.2.1 g (by omega) (by omega))).mp b1) b2
  · have a1 : (0 ≤ g ∧ g ≤ 3) ∧ 0 ≤ S 7 g := by
      rcases h1 with ⟨x1, x2, -⟩ | ⟨x1, x2, -⟩
      · exact ⟨x1, x2⟩
      · exact ⟨x1, x2⟩
    have cs := hB.2.2.2.1 g (by omega) (by omega)
    obtain ⟨d1, d2, d3, -⟩ := hB.obj cs a1.2
    have b9 := hR.r9 (i := S 7 g) (by omega) (by omega)
    have nr : ¬ refP (3 * S 7 g + 2) := fun w => by rcases w with w | w <;> omega
    rcases h2 with ⟨a2, rfl, rfl⟩ | ⟨a2, b2, rfl, rfl⟩ | ⟨a2, b2, rfl, rfl⟩
    · omega
    · omega
    · rcases h1 with ⟨-, -, x3, rfl, rfl⟩ | ⟨-, -, x3, rfl, rfl⟩
      · obtain ⟨m1, m2, m3, m4⟩ := MU_new hR hF hL (p := 3 * S 7 g + 2) (v := v) (by omega) (by omega) hv (fun w => absurd w nr)
        rw [wrP_n a1.2 (by omega)] at m1 m2 m3 m4
        exact ⟨_, rfl, rfl, m1, m2, m3, hRM.put (k := 0) hv.1 hv.2, B, hB.num hR cs a1.2 (fun w => absurd w x3) (fun _ => id) m4⟩
      · obtain ⟨m1, m2, m3, m4⟩ := MU_note hR hF hL (p := 3 * S 7 g + 2) (v := v) (by omega) (by omega) (by omega) hv (fun w => absurd w nr)
        rw [wrP_n a1.2 (by omega), cur_n a1.2 (by omega), noteF_0] at m1 m2 m3 m4
        exact ⟨_, rfl, rfl, m1, m2, m3, hRM.put (k := 0) hv.1 hv.2, B, hB.num hR cs a1.2 (fun _ => trivial) (fun w => by omega) m4⟩
end
section
/-! THE PLAIN LAW: saving, going back, crashes -/
theorem OV_none {S : St} {p v : Int} (hk : ∀ k, ¬ LK S k) : OV S p v ↔ cur S p = v := by
  unfold OV
  constructor
  · rintro (⟨k, k1, -⟩ | ⟨-, h⟩)
    · exact absurd k1 (hk k)
    · exact h
  · exact fun h => Or.inr ⟨fun k k1 => absurd k1 (hk k), h⟩
theorem hasL_none {S : St} {s : Int} (hk : ∀ k, ¬ LK S k) : ¬ hasL S s := by
  rintro ⟨k, k1, -⟩
  exact hk k k1
theorem LO_none {S : St} (hk : ∀ k, ¬ LK S k) (h10 : ∀ p, 0 ≤ p → p < 99 → S 10 p = 0) : LO S := by
  refine ⟨fun k k' k1 => absurd k1 (hk k), fun p p0 p1 => ⟨fun h => ?_, ?_⟩, fun s hs => absurd hs (hasL_none hk)⟩
  · have := h10 p p0 p1
    omega
  · rintro ⟨k, k1, -⟩
    exact absurd k1 (hk k)
theorem OV_rows {S S' : St} (e0 : S' 0 = S 0) (e1 : S' 1 = S 1) (e2 : S' 2 = S 2) (e3 : S' 3 = S 3) (e4 : S' 4 = S 4) (e5 : S' 5 = S 5) (e6 : S' 6 = S 6) : OV S' = OV S := by
  funext p v
  unfold OV
  rw [cur_rows e0 e1 e2 e3, LK_rows e0 e4, e5, e6]
section SAVE
variable {B : Int → Int → Prop} {S M : St}
theorem saveF_f {k : Nat} (h : k ≠ 4 ∧ k ≠ 10 ∧ k ≠ 9) : saveF S k = S k := by
  funext i
  unfold saveF
  rw [mp_k h.2.2, mp_k h.2.1, wr_k h.1]
theorem saveF_LK (k : Int) : ¬ LK (saveF S) k := by
  have e0 : saveF S 0 0 = S 0 0 := by rw [saveF_f (by decide)]
  have e4 : saveF S 4 (S 0 0) = 0 := by
    unfold saveF
    rw [mp_k (by decide), mp_k (by decide), wr_s]
  unfold LK
  rw [e0, e4]
  omega
theorem saveF_9 {v : Int} (h0 : 0 ≤ v) (h1 : v < 32) : saveF S 9 v = 0 := by
  unfold saveF
  rw [mp_in h0 h1]
theorem saveF_10 {p : Int} (h0 : 0 ≤ p) (h1 : p < 99) : saveF S 10 p = 0 := by
  unfold saveF
  rw [mp_k (by decide), mp_in h0 h1]
theorem svM_f {k : Nat} (h : k ≠ 1 ∧ k ≠ 4 ∧ k ≠ 3 ∧ k ≠ 6) : svM M k = M k := by
  funext i
  unfold svM sv2 sv1
  rw [mp_k h.2.2.2, mp_k h.2.2.1, mp_k h.2.1, mp_k h.1]
theorem svM_1 {w : Int} (h0 : 0 ≤ w) (h1 : w < 24) : svM M 1 w = M 0 w := by
  unfold svM sv2 sv1
  rw [mp_k (by decide), mp_k (by decide), mp_k (by decide), mp_in h0 h1]
theorem svM_4 {w : Int} (h0 : 0 ≤ w) (h1 : w < 24) : svM M 4 w = 1 := by
  unfold svM sv2 sv1
  rw [mp_k (by decide), mp_k (by decide), mp_in h0 h1]
theorem sv1_f {k : Nat} (h : k ≠ 1 ∧ k ≠ 4) : sv1 M k = M k := by
  funext i
  unfold sv1
  rw [mp_k h.2, mp_k h.1]
theorem sv2_f {k : Nat} (h : k ≠ 1 ∧ k ≠ 4) (h3 : k ≠ 3) : sv2 M k = M k := by
  funext i
  unfold sv2
  rw [mp_k h3, sv1_f h]
theorem svM_3 {i : Int} (h0 : 0 ≤ i) (h1 : i < 48) : svM M 3 i = M 2 i := by
  unfold svM sv2
  rw [mp_k (by decide), mp_in h0 h1, sv1_f (by decide)]
theorem svM_6 {r : Int} (h0 : 0 ≤ r) (h1 : r < 3) : svM M 6 r = M 5 r := by
  unfold svM
  rw [mp_in h0 h1, sv2_f (by decide) (by decide)]
theorem BR.save (hR : Rg S) (h : BR B S M) : BR B (saveF S) (svM M) := by
  have b8 := hR.r8
  have e8 : saveF S 8 = S 8 := saveF_f (by decide)
  have hc : cur (saveF S) = cur S := cur_rows (saveF_f (by decide)) (saveF_f (by decide)) (saveF_f (by decide)) (saveF_f (by decide))
  have ho : ∀ p v, OV (saveF S) p v → cur S p = v := fun p v hv => by
    have := (OV_none saveF_LK).mp hv
    rw [hc] at this
    exact this
  have hold : ∀ v w, B v w → old (saveF S) v := fun v w hb => by
    rcases h.1.2.1 v w hb with ⟨a, -⟩ | ⟨a, b, -⟩
    · exact Or.inl a
    · exact Or.inr (saveF_9 a (by omega))
  refine ⟨by rw [e8]; exact h.1, fun r r0 r1 => ?_, fun r r0 r1 v hv => ?_, fun g g0 g1 => ?_, fun s w hb s0 => ?_⟩
  · rw [hc, svM_f (by decide)]; exact h.2.1 r r0 r1
  · have c := h.2.1 r r0 r1
    rw [ho _ _ hv] at c
    rw [svM_6 r0 r1]
    exact ⟨c, hold _ _ c⟩
  · rw [saveF_f (by decide), svM_f (by decide)]; exact h.2.2.2.1 g g0 g1
  · obtain ⟨a1, a2, a3, ⟨a4, a5, -⟩⟩ := h.obj hb s0
    refine ⟨fun f f0 f1 => ?_, ?_, Or.inl ⟨saveF_9 s0 (by omega), svM_4 a2 a3, fun f f0 f1 v hv => ?_, fun v hv => ?_⟩⟩
    · rw [hc, svM_f (by decide)]; exact a4 f f0 f1
    · rw [hc, svM_f (by decide)]; exact a5
    · have c := a4 f f0 f1
      rw [ho _ _ hv] at c
      rw [svM_3 (by omega) (by omega)]
      exact ⟨c, hold _ _ c⟩
    · rw [svM_1 a2 a3, ← ho _ _ hv]; exact a5
end SAVE
theorem op_save : OpOK Rel yX0_save cX0_save 2 (some .int) 4 yX1_save cX1_save 2 (some .int) 2 [] := by
  intro S M hRel
  obtain ⟨hR, hF, hL, hRM, B, hB⟩ := hRel
  refine ⟨_, _, cX_save hR hF, cM_save hRM, ?_⟩
  rintro r u r' u' ⟨z, rfl, rfl, h1⟩ ⟨z', rfl, h2, h3, h4⟩
  have hb := hB.save hR
  have ok := saveF_ok hR hF
  exact ⟨_, rfl, by rw [h1, h4, hb.rd ok.1], ok.1, ok.2, LO_none saveF_LK (fun p p0 p1 => saveF_10 p0 p1), h3, B, hb.eqM h2⟩
/-! the list put back -/
theorem pb1_wrP {T : St} {n : Int} : pb1 T n = wrP T (T 5 (99 * T 0 0 + n)) (T 6 (99 * T 0 0 + n)) := rfl
theorem pbF_cur {S : St} (hR : Rg S) (hA : LA S) {p : Int} (p0 : 0 ≤ p) (p1 : p < 99) : ∀ (n : Nat) (T : St), (n : Int) ≤ S 4 (S 0 0) → (∀ k : Nat, k ≠ 1 ∧ k ≠ 2 ∧ k ≠ 3 → T k = S k) → (∀ k, 99 * S 0 0 ≤ k → k < 99 * S 0 0 + (n : Int) → S 5 k = p → cur (pbF n T) p = S 6 k) ∧ ((∀ k, 99 * S 0 0 ≤ k → k < 99 * S 0 0 + (n : Int) → S 5 k ≠ p) → cur (pbF n T) p = cur T p)
  | 0, T, _, _ => ⟨fun k k0 k1 _ => by omega, fun _ => rfl⟩
  | n + 1, T, hn, hT => by
    have b0 := hR.r0
    have b4 := hR.r4 (i := S 0 0) (by omega) (by omega)
    have e0 : T 0 0 = S 0 0 := by rw [hT 0 (by decide)]
    have e5 : T 5 = S 5 := hT 5 (by decide)
    have e6 : T 6 = S 6 := hT 6 (by decide)
    have b5 := hR.r5 (i := 99 * S 0 0 + (n : Int)) (by omega) (by omega)
    obtain ⟨i1, i2⟩ := pbF_cur hR hA p0 p1 n (pb1 T (n : Int)) (by omega) (fun k hk => (funext fun i => pb1_k hk).trans (hT k hk))
    have hc : cur (pb1 T (n : Int)) p = if p = S 5 (99 * S 0 0 + (n : Int)) then S 6 (99 * S 0 0 + (n : Int)) else cur T p := by
      rw [pb1_wrP, e5, e6, e0]
      exact cur_wrP (by rw [e0]; exact b0) b5.1 (by omega) p0 p1
    show (∀ k, 99 * S 0 0 ≤ k → k < 99 * S 0 0 + ((n + 1 : Nat) : Int) → S 5 k = p → cur (pbF n (pb1 T (n : Int))) p = S 6 k) ∧ ((∀ k, 99 * S 0 0 ≤ k → k < 99 * S 0 0 + ((n + 1 : Nat) : Int) → S 5 k ≠ p) → cur (pbF n (pb1 T (n : Int))) p = cur T p)
    have hlk : ∀ k, 99 * S 0 0 ≤ k → k ≤ 99 * S 0 0 + (n : Int) → LK S k := fun k k0 k1 => ⟨k0, by omega⟩
    refine ⟨fun k k0 k1 k2 => ?_, fun hno => ?_⟩
    · by_cases e : k = 99 * S 0 0 + (n : Int)
      · have hz : ∀ k', 99 * S 0 0 ≤ k' → k' < 99 * S 0 0 + (n : Int) → S 5 k' ≠ p := fun k' a b c => by
          have := hA k' k (hlk k' a (by omega)) (hlk k k0 (by omega)) (c.trans k2.symm)
          omega
        rw [i2 hz, hc, if_pos (by rw [← e]; exact k2.symm), e]
      · exact i1 k k0 (by omega) k2
    · rw [i2 (fun k' a b => hno k' a (by omega)), hc, if_neg (fun e => hno _ (by omega) (by omega) e.symm)]
section BACK
variable {B : Int → Int → Prop} {S M : St}
theorem pbAll_f {k : Nat} (h : k ≠ 1 ∧ k ≠ 2 ∧ k ≠ 3) (h4 : k ≠ 4 ∧ k ≠ 10) : pbAll S k = S k := by
  funext i
  unfold pbAll
  rw [mp_k h4.2, wr_k h4.1, pbF_k h]
theorem pbAll_LK (k : Int) : ¬ LK (pbAll S) k := by
  have e0 : pbAll S 0 0 = S 0 0 := by rw [pbAll_f (by decide) (by decide)]
  have e4 : pbAll S 4 (S 0 0) = 0 := by
    unfold pbAll
    rw [mp_k (by decide), wr_s]
  unfold LK
  rw [e0, e4]
  omega
theorem pbAll_10 {p : Int} (p0 : 0 ≤ p) (p1 : p < 99) : pbAll S 10 p = 0 := by
  unfold pbAll
  rw [mp_in p0 p1]
theorem pbAll_cur (hR : Rg S) (hA : LA S) {p : Int} (p0 : 0 ≤ p) (p1 : p < 99) : OV S p (cur (pbAll S) p) := by
  have b0 := hR.r0
  have b4 := hR.r4 (i := S 0 0) (by omega) (by omega)
  have hc : cur (pbAll S) p = cur (pbF (S 4 (S 0 0)).toNat S) p := by
    have q : ∀ k : Nat, k ≠ 4 ∧ k ≠ 10 → pbAll S k = pbF (S 4 (S 0 0)).toNat S k := fun k hk => by
      funext i
      unfold pbAll
      rw [mp_k hk.2, wr_k hk.1]
    rw [cur_rows (q 0 (by decide)) (q 1 (by decide)) (q 2 (by decide)) (q 3 (by decide))]
  obtain ⟨i1, i2⟩ := pbF_cur hR hA p0 p1 (S 4 (S 0 0)).toNat S (by omega) (fun _ _ => rfl)
  have hn : ((S 4 (S 0 0)).toNat : Int) = S 4 (S 0 0) := by omega
  rw [hn] at i1 i2
  rw [hc]
  rcases Classical.em (∃ k, LK S k ∧ S 5 k = p) with ⟨k, k1, k2⟩ | hno
  · exact Or.inl ⟨k, k1, k2, (i1 k k1.1 k1.2 k2).symm⟩
  · exact Or.inr ⟨fun k k1 k2 => hno ⟨k, k1, k2⟩, (i2 (fun k a b c => hno ⟨k, ⟨a, b⟩, c⟩)).symm⟩
theorem bkM_f {k : Nat} (h : k ≠ 0 ∧ k ≠ 2 ∧ k ≠ 5) : bkM M k = M k := by
  funext i
  unfold bkM bk2 bk1
  rw [mp_k h.2.2, mp_k h.2.1, mp_k h.1]
theorem bk1_f {k : Nat} (h : k ≠ 0) : bk1 M k = M k := by
  funext i
  unfold bk1
  rw [mp_k h]
theorem bk2_f {k : Nat} (h : k ≠ 0) (h2 : k ≠ 2) : bk2 M k = M k := by
  funext i
  unfold bk2
  rw [mp_k h2, bk1_f h]
theorem bkM_0y {w : Int} (w0 : 0 ≤ w) (w1 : w < 24) (h : M 4 w = 1) : bkM M 0 w = M 1 w := by
  unfold bkM bk2 bk1
  rw [mp_k (by decide), mp_k (by decide), mp_in w0 w1, bk0_y (by omega)]
theorem bkM_0n {w : Int} (w0 : 0 ≤ w) (w1 : w < 24) (h : M 4 w = 0) : bkM M 0 w = M 0 w := by
  unfold bkM bk2 bk1
  rw [mp_k (by decide), mp_k (by decide), mp_in w0 w1, bk0_n h]
theorem bkM_2y {i : Int} (i0 : 0 ≤ i) (i1 : i < 48) (h : M 4 (i / 2) = 1) : bkM M 2 i = M 3 i := by
  have e : ¬ bk1 M 4 (i / 2) = 0 := by
    rw [bk1_f (by decide)]
    omega
  unfold bkM bk2
  rw [mp_k (by decide), mp_in i0 i1, bkf_y e, bk1_f (by decide)]
theorem bkM_2n {i : Int} (i0 : 0 ≤ i) (i1 : i < 48) (h : M 4 (i / 2) = 0) : bkM M 2 i = M 2 i := by
  have e : bk1 M 4 (i / 2) = 0 := by
    rw [bk1_f (by decide)]
    exact h
  unfold bkM bk2
  rw [mp_k (by decide), mp_in i0 i1, bkf_n e, bk1_f (by decide)]
theorem bkM_5 {r : Int} (r0 : 0 ≤ r) (r1 : r < 3) : bkM M 5 r = M 6 r := by
  unfold bkM
  rw [mp_in r0 r1, bk2_f (by decide) (by decide)]
theorem BR.back (hR : Rg S) (hA : LA S) (h : BR B S M) : BR B (pbAll S) (bkM M) := by
  have b8 := hR.r8
  have e8 : pbAll S 8 = S 8 := pbAll_f (by decide) (by decide)
  have e9 : pbAll S 9 = S 9 := pbAll_f (by decide) (by decide)
  have ho : ∀ p v, OV (pbAll S) p v → cur (pbAll S) p = v := fun p v hv => (OV_none pbAll_LK).mp hv
  have hp : ∀ p, 0 ≤ p → p < 99 → OV S p (cur (pbAll S) p) := fun p p0 p1 => pbAll_cur hR hA p0 p1
  have hold : ∀ v, old S v → old (pbAll S) v := fun v hv => by unfold old; rw [e9]; exact hv
  refine ⟨by rw [e8]; exact h.1, fun r r0 r1 => ?_, fun r r0 r1 v hv => ?_, fun g g0 g1 => ?_, fun s w hb s0 => ?_⟩
  · rw [bkM_5 r0 r1]; exact (h.2.2.1 r r0 r1 _ (hp _ (by omega) (by omega))).1
  · have c := h.2.2.1 r r0 r1 _ (hp (96 + r) (by omega) (by omega))
    rw [ho _ _ hv] at c
    rw [bkM_f (by decide)]
    exact ⟨c.1, hold _ c.2⟩
  · rw [pbAll_f (by decide) (by decide), bkM_f (by decide)]; exact h.2.2.2.1 g g0 g1
  · obtain ⟨a1, a2, a3, ⟨a4, a5, a6⟩⟩ := h.obj hb s0
    rcases a6 with ⟨c1, c2, c3, c4⟩ | ⟨c1, c2, c3⟩
    · refine ⟨fun f f0 f1 => ?_, ?_, Or.inl ⟨by rw [e9]; exact c1, by rw [bkM_f (by decide)]; exact c2, fun f f0 f1 v hv => ?_, fun v hv => ?_⟩⟩
      · rw [bkM_2y (by omega) (by omega) (by rw [show (2 * w + f) / 2 = w by omega]; exact c2)]
        exact (c3 f f0 f1 _ (hp _ (by omega) (by omega))).1
      · rw [bkM_0y a2 a3 c2]
        exact c4 _ (hp _ (by omega) (by omega))
      · have c := c3 f f0 f1 _ (hp (3 * s + f) (by omega) (by omega))
        rw [ho _ _ hv] at c
        rw [bkM_f (by decide)]
        exact ⟨c.1, hold _ c.2⟩
      · have c := c4 _ (hp (3 * s + 2) (by omega) (by omega))
        rw [ho _ _ hv] at c
        rw [bkM_f (by decide)]
        exact c
    · have hn : ∀ p, 3 * s ≤ p → p ≤ 3 * s + 2 → cur (pbAll S) p = cur S p := by
        intro p q0 q1
        rcases hp p (by omega) (by omega) with ⟨k, k1, k2, -⟩ | ⟨-, k2⟩
        · exact absurd ⟨k, k1, by omega, by omega⟩ c3
        · exact k2.symm
      refine ⟨fun f f0 f1 => ?_, ?_, Or.inr ⟨by rw [e9]; exact c1, by rw [bkM_f (by decide)]; exact c2, hasL_none pbAll_LK⟩⟩
      · rw [hn _ (by omega) (by omega), bkM_2n (by omega) (by omega) (by rw [show (2 * w + f) / 2 = w by omega]; exact c2)]
        exact a4 f f0 f1
      · rw [hn _ (by omega) (by omega), bkM_0n a2 a3 c2]
        exact a5
end BACK
theorem op_back : OpOK Rel yX0_back cX0_back 1 (some .int) 4 yX1_back cX1_back 2 (some .int) 2 [] := by
  intro S M hRel
  obtain ⟨hR, hF, hL, hRM, B, hB⟩ := hRel
  refine ⟨_, _, cX_back hR hF, cM_back hRM, ?_⟩
  rintro r u r' u' ⟨z, rfl, rfl, h1⟩ ⟨z', rfl, h2, h3, h4⟩
  have hb := hB.back hR hL.1
  have ok := pbAll_ok hR hF
  exact ⟨_, rfl, by rw [h1, h4, hb.rd ok.1], ok.1, ok.2, LO_none pbAll_LK (fun p p0 p1 => pbAll_10 p0 p1), h3, B, hb.eqM h2⟩
end
section
/-! THE PLAIN LAW: a restart -/
def BC (B : Int → Int → Prop) (P : Int → Prop) (v x : Int) : Prop := B v x ∧ (v = -1 ∨ P v)
def oldN (S T : St) (v : Int) : Prop := S 9 v = 0 ∧ Nd T v
section CRASH
variable {B : Int → Int → Prop} {S M : St}
theorem BR.crash (hR : Rg S) (hF : Rf S) (hA : LA S) (h : BR B S M) {u : St} (hu : SA S u) : Rg u ∧ Rf u ∧ LO u ∧ ∃ B', BR B' u (bkM (rg24 M)) := by
  obtain ⟨u1, u2⟩ := SA_ok hR hF hu
  obtain ⟨w, w0, w1, hw, rfl⟩ := hu
  have b0 := hR.r0
  have b8 := hR.r8
  obtain ⟨S0, hS0⟩ : ∃ S0 : St, S0 = mp S 7 4 (fun _ => -1) := ⟨_, rfl⟩
  have r0 : ∀ k : Nat, k ≠ 7 → S0 k = S k := fun k hk => by rw [hS0]; exact funext fun i => mp_k hk
  have hR0 : Rg S0 := by rw [hS0]; exact hR.fill (fun _ _ _ => ⟨by decide, by decide⟩)
  have hOV : OV S0 = OV S := OV_rows (r0 0 (by decide)) (r0 1 (by decide)) (r0 2 (by decide)) (r0 3 (by decide)) (r0 4 (by decide)) (r0 5 (by decide)) (r0 6 (by decide))
  have hA0 : LA S0 := by
    unfold LA at hA ⊢
    rw [LK_rows (r0 0 (by decide)) (r0 4 (by decide)), r0 5 (by decide)]
    exact hA
  have hT : saF S = mp (pbAll S0) 9 32 (fun _ => 0) := by rw [hS0]; rfl
  have t : ∀ k : Nat, k ≠ 9 → saF S k = pbAll S0 k := fun k hk => by rw [hT]; exact funext fun i => mp_k hk
  have hv : ∀ p, 0 ≤ p → p < 99 → OV S p (cur (saF S) p) := fun p p0 p1 => by
    rw [cur_rows (t 0 (by decide)) (t 1 (by decide)) (t 2 (by decide)) (t 3 (by decide)), ← hOV]
    exact pbAll_cur hR0 hA0 p0 p1
  have hk : ∀ k, ¬ LK (saF S) k := fun k => by
    rw [LK_rows (t 0 (by decide)) (t 4 (by decide))]
    exact pbAll_LK k
  have c8 : ∀ z, cur (wr (saF S) 8 0 z) = cur (saF S) := fun z => cur_rows (wr_f (by decide)) (wr_f (by decide)) (wr_f (by decide)) (wr_f (by decide))
  have k8 : ∀ z k, ¬ LK (wr (saF S) 8 0 z) k := fun z k => by
    rw [LK_rows (S := saF S) (wr_f (by decide)) (wr_f (by decide))]
    exact hk k
  have n9 : ∀ v, 0 ≤ v → v < 32 → wr (saF S) 8 0 w 9 v = 0 := fun v v0 v1 => by rw [wr_k (by decide), hT, mp_in v0 v1]
  have n7 : ∀ g, 0 ≤ g → g < 4 → wr (saF S) 8 0 w 7 g = -1 := fun g g0 g1 => by rw [wr_k (by decide), t 7 (by decide), pbAll_f (by decide) (by decide), hS0, mp_in g0 g1]
  have nb : ∀ r, 0 ≤ r → r < 3 → 0 ≤ cur (saF S) (96 + r) → Nd (wr (saF S) 8 0 32) (cur (saF S) (96 + r)) := fun r r0 r1 v0 => Cl.base ⟨v0, Or.inl ⟨r, r0, r1, by rw [← cur_r (S := wr (saF S) 8 0 32) r0, c8]⟩⟩
  have ns : ∀ s f, Nd (wr (saF S) 8 0 32) s → 0 ≤ s → s < 32 → 0 ≤ f → f ≤ 1 → 0 ≤ cur (saF S) (3 * s + f) → Nd (wr (saF S) 8 0 32) (cur (saF S) (3 * s + f)) := by
    intro s f hs s0 s1 f0 f1 v0
    refine hs.step (Or.inl ⟨s0, by rw [wr_s]; exact s1, v0, ?_⟩)
    rw [← c8 32, cur_f s0 s1 f0 f1]
    rcases (show f = 0 ∨ f = 1 by omega) with rfl | rfl
    · rw [Int.add_zero]; exact Or.inl rfl
    · exact Or.inr rfl
  have sub : ∀ {v x : Int}, B v x → old S v → (0 ≤ v → Nd (wr (saF S) 8 0 32) v) → BC B (oldN S (wr (saF S) 8 0 32)) v x := fun {v x} hb ho hn => ⟨hb, by
    rcases h.1.2.1 v x hb with ⟨a, -⟩ | ⟨a, -⟩
    · exact Or.inl a
    · rcases ho with ho | ho
      · exact Or.inl ho
      · exact Or.inr ⟨ho, hn a⟩⟩
  have hold : ∀ v x, BC B (oldN S (wr (saF S) 8 0 32)) v x → old (wr (saF S) 8 0 w) v := fun v x hb => by
    rcases h.1.2.1 v x hb.1 with ⟨a, -⟩ | ⟨a, b, -⟩
    · exact Or.inl a
    · exact Or.inr (n9 v a (by omega))
  have m : ∀ k : Nat, k ≠ 7 → rg24 M k = M k := fun k hk => funext fun i => mp_k hk
  have m7 : ∀ g, 0 ≤ g → g < 4 → bkM (rg24 M) 7 g = 24 := fun g g0 g1 => by
    rw [bkM_f (by decide)]
    exact mp_in g0 g1
  refine ⟨u1, u2, LO_none (k8 w) (fun p p0 p1 => ?_), BC B (oldN S (wr (saF S) 8 0 32)), ⟨⟨h.1.1, Or.inl rfl⟩, fun v x q => ?_, fun v x x' q q' => h.1.2.2.1 v x x' q.1 q'.1, fun v v' x q q' => h.1.2.2.2 v v' x q.1 q'.1⟩, fun r r0 r1 => ?_, fun r r0 r1 v hv' => ?_, fun g g0 g1 => ?_, fun s x hb s0 => ?_⟩
  · rw [wr_k (by decide), t 10 (by decide)]; exact pbAll_10 p0 p1
  · rw [wr_s]
    rcases h.1.2.1 v x q.1 with a | ⟨a, b, c, d⟩
    · exact Or.inl a
    · refine Or.inr ⟨a, ?_, c, d⟩
      rcases q.2 with e | e
      · omega
      · exact hw v e.2
  · have c := h.2.2.1 r r0 r1 _ (hv _ (by omega) (by omega))
    rw [c8, bkM_5 r0 r1, m 6 (by decide)]
    exact sub c.1 c.2 (nb r r0 r1)
  · have c := h.2.2.1 r r0 r1 _ (hv (96 + r) (by omega) (by omega))
    have e := (OV_none (k8 w)).mp hv'
    rw [c8] at e
    rw [bkM_f (by decide), m 6 (by decide), ← e]
    have q := sub c.1 c.2 (nb r r0 r1)
    exact ⟨q, hold _ _ q⟩
  · rw [n7 g g0 g1, m7 g g0 g1]; exact ⟨h.1.1, Or.inl rfl⟩
  · obtain ⟨a1, a2, a3, ⟨a4, a5, a6⟩⟩ := h.obj hb.1 s0
    have hs : S 9 s = 0 ∧ Nd (wr (saF S) 8 0 32) s := by
      rcases hb.2 with e | e
      · omega
      · exact e
    rcases a6 with ⟨c1, c2, c3, c4⟩ | ⟨c1, -⟩
    · refine ⟨fun f f0 f1 => ?_, ?_, Or.inl ⟨n9 s s0 (by omega), by rw [bkM_f (by decide), m 4 (by decide)]; exact c2, fun f f0 f1 v hv' => ?_, fun v hv' => ?_⟩⟩
      · have c := c3 f f0 f1 _ (hv _ (by omega) (by omega))
        rw [c8, bkM_2y (by omega) (by omega) (by rw [m 4 (by decide), show (2 * x + f) / 2 = x by omega]; exact c2), m 3 (by decide)]
        exact sub c.1 c.2 (ns s f hs.2 s0 (by omega) f0 f1)
      · have c := c4 _ (hv _ (by omega) (by omega))
        rw [c8, bkM_0y a2 a3 (by rw [m 4 (by decide)]; exact c2), m 1 (by decide)]
        exact c
      · have c := c3 f f0 f1 _ (hv (3 * s + f) (by omega) (by omega))
        have e := (OV_none (k8 w)).mp hv'
        rw [c8] at e
        rw [bkM_f (by decide), m 3 (by decide), ← e]
        have q := sub c.1 c.2 (ns s f hs.2 s0 (by omega) f0 f1)
        exact ⟨q, hold _ _ q⟩
      · have c := c4 _ (hv (3 * s + 2) (by omega) (by omega))
        have e := (OV_none (k8 w)).mp hv'
        rw [c8] at e
        rw [bkM_f (by decide), m 1 (by decide), ← e]
        exact c
    · omega
theorem crash_fin (hR : Rg S) (hF : Rf S) (hA : LA S) (h : BR B S M) {u u' : St} {z : Int} (hu : SA S u) (hc : CR M u' z) : Rel u u' ∧ cP (Rd u) 32 = z := by
  obtain ⟨a1, a2, a3, B', a4⟩ := h.crash hR hF hA hu
  obtain ⟨c1, c2, c3⟩ := hc
  exact ⟨⟨a1, a2, a3, c2, B', a4.eqM c1⟩, by rw [c3]; exact a4.rd a1⟩
theorem pbAll_0 {Y : St} (h : Y 4 (Y 0 0) = 0) : pbAll Y = mp (wr Y 4 (Y 0 0) 0) 10 99 (fun _ => 0) := by
  unfold pbAll
  rw [h]
  rfl
theorem saF_save : saF (saveF S) = saF (wr S 4 (S 0 0) 0) := by
  have e0 : mp (saveF S) 7 4 (fun _ => -1) 0 0 = S 0 0 := by rw [mp_k (by decide), saveF_f (by decide)]
  have e1 : mp (wr S 4 (S 0 0) 0) 7 4 (fun _ => -1) 0 0 = S 0 0 := by rw [mp_k (by decide), wr_k (by decide)]
  have e2 : mp (saveF S) 7 4 (fun _ => -1) 4 (S 0 0) = 0 := by
    unfold saveF
    rw [mp_k (by decide), mp_k (by decide), mp_k (by decide), wr_s]
  have e3 : mp (wr S 4 (S 0 0) 0) 7 4 (fun _ => -1) 4 (S 0 0) = 0 := by rw [mp_k (by decide), wr_s]
  unfold saF
  rw [pbAll_0 (by rw [e0]; exact e2), pbAll_0 (by rw [e1]; exact e3), e0, e1]
  funext k i
  unfold saveF mp
  by_cases c9 : k = 9 ∧ 0 ≤ i ∧ i < 32
  · rw [if_pos c9, if_pos c9]
  · rw [if_neg c9, if_neg c9]
    by_cases c10 : k = 10 ∧ 0 ≤ i ∧ i < 99
    · rw [if_pos c10, if_pos c10]
    · rw [if_neg c10, if_neg c10]
      unfold wr
      simp only [if_neg c9, if_neg c10]
theorem crash_sv (hR : Rg S) (hF : Rf S) (h : BR B S M) {T u u' : St} {z : Int} (hu : SA (wr S 4 (S 0 0) 0) u) (hT : EqM (svM M) T) (hc : CR T u' z) : Rel u u' ∧ cP (Rd u) 32 = z := by
  have ok := saveF_ok hR hF
  refine crash_fin ok.1 ok.2 (LO_none saveF_LK (fun p p0 p1 => saveF_10 p0 p1)).1 ((h.save hR).eqM hT) ?_ hc
  unfold SA at hu ⊢
  rw [saF_save]
  exact hu
end CRASH
theorem op_crash (xw : Int32) : OpOK Rel yX0_crash cX0_crash 2 (some .int) 5 yX1_crash cX1_crash 3 (some .int) 3 [.int xw] := by
  intro S M hRel
  have hRel0 := hRel
  obtain ⟨hR, hF, hL, hRM, B, hB⟩ := hRel
  obtain ⟨w, hw, rfl⟩ := iI_ex xw
  refine ⟨_, _, cX_crash hR hF hw, cM_crash hRM hw, ?_⟩
  rintro r u r' u' ⟨z, rfl, h1⟩ ⟨z', rfl, h2⟩
  rcases h1 with ⟨a1, rfl, rfl⟩ | ⟨a1, b1, c1⟩ | ⟨a1, b1, c1⟩
  · rcases h2 with ⟨a2, rfl, rfl⟩ | ⟨a2, b2⟩ | ⟨a2, b2⟩
    · exact ⟨_, rfl, rfl, hRel0⟩
    · omega
    · omega
  · rcases h2 with ⟨a2, rfl, rfl⟩ | ⟨a2, b2⟩ | ⟨a2, b2⟩
    · omega
    · have e := crash_fin hR hF hL.1 hB b1 b2
      exact ⟨_, rfl, by rw [c1, e.2], e.1⟩
    · omega
  · rcases h2 with ⟨a2, rfl, rfl⟩ | ⟨a2, b2⟩ | ⟨a2, T, t1, t2, b2⟩
    · omega
    · omega
    · have e := crash_sv hR hF hB b1 t1 b2
      exact ⟨_, rfl, by rw [c1, e.2], e.1⟩
end
section
/-! THE PLAIN LAW: what a move leaves alone -/
def Fr (S T : St) : Prop := (∀ k : Nat, k ≠ 1 ∧ k ≠ 2 ∧ k ≠ 3 ∧ k ≠ 11 ∧ k ≠ 12 ∧ k ≠ 13 ∧ k ≠ 14 → T k = S k) ∧ (∀ i, 64 * S 0 0 ≤ i → i < 64 * S 0 0 + 64 → T 1 i = S 1 i) ∧ (∀ i, 32 * S 0 0 ≤ i → i < 32 * S 0 0 + 32 → T 2 i = S 2 i) ∧ (∀ i, 3 * S 0 0 ≤ i → i < 3 * S 0 0 + 3 → T 3 i = S 3 i)
def WF (S T : St) : Prop := WI T ∧ Fr S T
section FRAME
variable {B : Int → Int → Prop} {S T M : St}
theorem Fr.h0 (h : Fr S T) : T 0 0 = S 0 0 := by rw [h.1 0 (by decide)]
theorem Fr.w3 (h : Fr S T) {i z : Int} (hi : i < 3 * S 0 0 ∨ 3 * S 0 0 + 3 ≤ i) : Fr S (wr T 3 i z) := ⟨fun k hk => (wr_f hk.2.2.1).trans (h.1 k hk), fun j j0 j1 => by rw [wr_k (by decide)]; exact h.2.1 j j0 j1, fun j j0 j1 => by rw [wr_k (by decide)]; exact h.2.2.1 j j0 j1, fun j j0 j1 => by rw [wr_i (by omega)]; exact h.2.2.2 j j0 j1⟩
theorem Fr.w1 (h : Fr S T) {i z : Int} (hi : i < 64 * S 0 0 ∨ 64 * S 0 0 + 64 ≤ i) : Fr S (wr T 1 i z) := ⟨fun k hk => (wr_f hk.1).trans (h.1 k hk), fun j j0 j1 => by rw [wr_i (by omega)]; exact h.2.1 j j0 j1, fun j j0 j1 => by rw [wr_k (by decide)]; exact h.2.2.1 j j0 j1, fun j j0 j1 => by rw [wr_k (by decide)]; exact h.2.2.2 j j0 j1⟩
theorem mvF_fr (h : WF S T) {s : Int} (h1 : s ≤ 31) : WF S (mvF T s) := by
  refine ⟨mvF_ok h.1 h1, ?_⟩
  obtain ⟨⟨hR, hF, hA⟩, hf⟩ := h
  have b0 := hR.r0
  have b13 := hR.r13
  have b14 := hR.r14
  have e0 := hf.h0
  by_cases hc : 0 ≤ s ∧ T 11 s < 0 ∧ ¬ T 13 0 = T 14 0
  · obtain ⟨f0, f1, f2, f3⟩ := hf
    refine ⟨fun k hk => ?_, fun i i0 i1 => ?_, fun i i0 i1 => ?_, fun i i0 i1 => ?_⟩
    · rw [← f0 k hk]; exact funext fun i => mvF_k ⟨hk.1, hk.2.1, hk.2.2.2.1, hk.2.2.2.2.1, hk.2.2.2.2.2.1⟩
    · rw [mvF_y hc.1 hc.2.1 hc.2.2, wr_k (by decide), wr_k (by decide), wr_k (by decide), wr_i (by omega), wr_i (by omega), wr_k (by decide)]; exact f1 i i0 i1
    · rw [mvF_y hc.1 hc.2.1 hc.2.2, wr_k (by decide), wr_k (by decide), wr_k (by decide), wr_k (by decide), wr_k (by decide), wr_i (by omega)]; exact f2 i i0 i1
    · rw [mvF_k (by decide)]; exact f3 i i0 i1
  · rw [mvF_n (by omega)]; exact hf
theorem f1_fr (h : WF S T) {r : Int} (r0 : 0 ≤ r) (r1 : r < 3) : WF S (f1 (1 - S 0 0) r T) := by
  have b0 := h.1.1.r0
  have e0 := h.2.h0
  have b3 := h.1.1.r3 (i := 3 * T 0 0 + r) (by omega) (by omega)
  exact ⟨f1_ok h.1 r0 r1, (mvF_fr h b3.2).2.w3 (by omega)⟩
theorem f2_fr (h : WF S T) {g : Int} (g0 : 0 ≤ g) (g1 : g < 4) : WF S (f2 g T) := mvF_fr h (h.1.1.r7 g0 g1).2
theorem f3_fr (h : WF S T) {k : Int} (h0 : 0 ≤ k) (h1 : k < 198) : WF S (f3 k T) := by
  by_cases hc : 96 ≤ T 5 k
  · rw [f3_y hc]; exact mvF_fr h (h.1.2.1 k h0 h1 (Or.inl hc)).2
  · rw [f3_n (by omega)]; exact h
theorem ff_fr (h : WF S T) {a : Int} (a0 : 0 ≤ a) (a1 : a < 128) (ha : a < 64 * S 0 0 ∨ 64 * S 0 0 + 64 ≤ a) : WF S (ff a T) := ⟨ff_ok h.1 a0 a1, (mvF_fr h (h.1.1.r1 a0 a1).2).2.w1 ha⟩
theorem moB_fr (h : WF S T) {s k : Int} (h0 : 0 ≤ k) (h1 : k < 198) : WF S (moB s k T) := by
  by_cases hc : T 5 k / 3 = s ∧ T 5 k < 96 ∧ ¬ T 5 k % 3 = 2
  · rw [moB_y hc]; exact mvF_fr h (h.1.2.1 k h0 h1 (Or.inr hc.2.2)).2
  · rw [moB_n hc]; exact h
theorem moF_fr (h : WF S T) {s : Int} : WF S (moF T s) := by
  have b0 := h.1.1.r0
  have b4 := h.1.1.r4 (i := T 0 0) (by omega) (by omega)
  exact itF_inv (I := WF S) (a := 0) (b := 198) (fun j T' h1 h2 hT => moB_fr hT h1 h2) _ _ _ (by omega) (by omega) h
theorem f4_fr (h : WF S T) {i : Int} (i0 : 0 ≤ i) (i1 : i < 32) : WF S (f4 (1 - S 0 0) i T) := by
  have b0 := h.1.1.r0
  have e0 := h.2.h0
  exact moF_fr (ff_fr (ff_fr h (by omega) (by omega) (by omega)) (by omega) (by omega) (by omega))
theorem mvL_fr : ∀ (n : Nat) (i : Int) (T : St), 0 ≤ i → WF S T → WF S (mvL (1 - S 0 0) n i T)
  | 0, _, _, _, h => h
  | n + 1, i, T, h0, h => by
    by_cases hc : i < T 13 0
    · have b := h.1.1.r13
      rw [mvL_y hc]
      exact mvL_fr n _ _ (by omega) (f4_fr h h0 (by omega))
    · rw [mvL_n (by omega)]
      exact h
theorem mv0_fr (hR : Rg S) (hF : Rf S) {lim : Int} (h0 : 0 ≤ lim) (h1 : lim ≤ 32) : WF S (mv0 S lim) := ⟨mv0_ok hR hF h0 h1, fun k hk => funext fun i => mv0_k ⟨hk.2.2.2.1, hk.2.2.2.2.2.1, hk.2.2.2.2.2.2⟩, fun i _ _ => mv0_k (by decide), fun i _ _ => mv0_k (by decide), fun i _ _ => mv0_k (by decide)⟩
theorem mv1_fr (hR : Rg S) (hF : Rf S) {lim : Int} (h0 : 0 ≤ lim) (h1 : lim ≤ 32) : WF S (mv1 S lim) := itF_inv (I := WF S) (a := 0) (b := 3) (fun j T h1 h2 hT => f1_fr hT h1 h2) _ _ _ (by omega) (by omega) (mv0_fr hR hF h0 h1)
theorem mv2_fr (hR : Rg S) (hF : Rf S) {lim : Int} (h0 : 0 ≤ lim) (h1 : lim ≤ 32) : WF S (mv2 S lim) := itF_inv (I := WF S) (a := 0) (b := 4) (fun j T h1 h2 hT => f2_fr hT h1 h2) _ _ _ (by omega) (by omega) (mv1_fr hR hF h0 h1)
theorem mv3_fr (hR : Rg S) (hF : Rf S) {lim : Int} (h0 : 0 ≤ lim) (h1 : lim ≤ 32) : WF S (mv3 S lim) := by
  have b0 := hR.r0
  have b4 := hR.r4 (i := S 0 0) (by omega) (by omega)
  exact itF_inv (I := WF S) (a := 0) (b := 198) (fun j T h1 h2 hT => f3_fr hT h1 h2) _ _ _ (by omega) (by omega) (mv2_fr hR hF h0 h1)
theorem mv4_fr (hR : Rg S) (hF : Rf S) {lim : Int} (h0 : 0 ≤ lim) (h1 : lim ≤ 32) : WF S (mv4 S lim) := mvL_fr _ _ _ (by omega) (mv3_fr hR hF h0 h1)
theorem mlF_fr {o : Int} : ∀ (n : Nat) (k c : Int) (T : St), 0 ≤ c → c + n ≤ 99 → ∀ i, (i < 99 * o + c ∨ 99 * o + 99 ≤ i) → (mlF o n k c T).2 5 i = T 5 i ∧ (mlF o n k c T).2 6 i = T 6 i
  | 0, _, _, _, _, _, _, _ => ⟨rfl, rfl⟩
  | n + 1, k, c, T, h0, h1, i, hi => by
    rcases Classical.em (mlK T k) with hk | hk
    · rw [mlF_y hk]
      obtain ⟨a, b⟩ := mlF_fr (o := o) n (k + 1) (c + 1) (mlB o c k T) (by omega) (by omega) i (by omega)
      rw [a, b]
      unfold mlB
      rw [wr_k (by decide), wr_i (by omega), wr_i (by omega), wr_k (by decide)]
      exact ⟨rfl, rfl⟩
    · rw [mlF_n hk]
      exact mlF_fr (o := o) n (k + 1) c T (by omega) (by omega) i (by omega)
/-- the same as far as the valid half goes -/
def Hf (S T : St) : Prop := T 0 0 = S 0 0 ∧ T 7 = S 7 ∧ T 8 = S 8 ∧ T 9 = S 9 ∧ T 10 = S 10 ∧ T 4 (S 0 0) = S 4 (S 0 0) ∧ (∀ i, 99 * S 0 0 ≤ i → i < 99 * S 0 0 + 99 → T 5 i = S 5 i ∧ T 6 i = S 6 i) ∧ (∀ i, 64 * S 0 0 ≤ i → i < 64 * S 0 0 + 64 → T 1 i = S 1 i) ∧ (∀ i, 32 * S 0 0 ≤ i → i < 32 * S 0 0 + 32 → T 2 i = S 2 i) ∧ (∀ i, 3 * S 0 0 ≤ i → i < 3 * S 0 0 + 3 → T 3 i = S 3 i)
theorem Hf.curE (hR : Rg S) (h : Hf S T) {p : Int} (p0 : 0 ≤ p) (p1 : p < 99) : cur T p = cur S p := by
  obtain ⟨e0, -, -, -, -, -, -, h1, h2, h3⟩ := h
  have b0 := hR.r0
  unfold cur
  rw [e0]
  by_cases hp : 96 ≤ p
  · rw [if_pos hp, if_pos hp]; exact h3 _ (by omega) (by omega)
  · rw [if_neg hp, if_neg hp]
    by_cases hp2 : p % 3 = 2
    · rw [if_pos hp2, if_pos hp2]; exact h2 _ (by omega) (by omega)
    · rw [if_neg hp2, if_neg hp2]; exact h1 _ (by omega) (by omega)
theorem Hf.lk (h : Hf S T) : LK T = LK S := by
  obtain ⟨e0, -, -, -, -, e4, -⟩ := h
  funext k
  unfold LK
  rw [e0, e4]
theorem Hf.ent (hR : Rg S) (h : Hf S T) {k : Int} (hk : LK S k) : T 5 k = S 5 k ∧ T 6 k = S 6 k := by
  have b0 := hR.r0
  have b4 := hR.r4 (i := S 0 0) (by omega) (by omega)
  unfold LK at hk
  obtain ⟨-, -, -, -, -, -, h5, -⟩ := h
  exact h5 k (by omega) (by omega)
theorem Hf.ov (hR : Rg S) (h : Hf S T) {p : Int} (p0 : 0 ≤ p) (p1 : p < 99) (v : Int) : OV T p v ↔ OV S p v := by
  have hc := h.curE hR p0 p1
  unfold OV
  rw [h.lk, hc]
  constructor
  · rintro (⟨k, k1, k2, k3⟩ | ⟨k1, k2⟩)
    · have e := h.ent hR k1
      exact Or.inl ⟨k, k1, by rw [← e.1]; exact k2, by rw [← e.2]; exact k3⟩
    · exact Or.inr ⟨fun k hk => by rw [← (h.ent hR hk).1]; exact k1 k hk, k2⟩
  · rintro (⟨k, k1, k2, k3⟩ | ⟨k1, k2⟩)
    · have e := h.ent hR k1
      exact Or.inl ⟨k, k1, by rw [e.1]; exact k2, by rw [e.2]; exact k3⟩
    · exact Or.inr ⟨fun k hk => by rw [(h.ent hR hk).1]; exact k1 k hk, k2⟩
theorem Hf.hl (hR : Rg S) (h : Hf S T) (s : Int) : hasL T s ↔ hasL S s := by
  unfold hasL
  rw [h.lk]
  constructor
  · rintro ⟨k, k1, k2, k3⟩
    have e := (h.ent hR k1).1
    exact ⟨k, k1, by omega, by omega⟩
  · rintro ⟨k, k1, k2, k3⟩
    have e := (h.ent hR k1).1
    exact ⟨k, k1, by omega, by omega⟩
theorem Hf.br (hR : Rg S) (h : Hf S T) (hB : BR B S M) : BR B T M := by
  have h' := h
  obtain ⟨e0, e7, e8, e9, e10, -⟩ := h'
  have b8 := hR.r8
  have hold : ∀ v, old S v → old T v := fun v hv => by unfold old; rw [e9]; exact hv
  refine ⟨by rw [e8]; exact hB.1, fun r r0 r1 => ?_, fun r r0 r1 v hv => ?_, fun g g0 g1 => ?_, fun s w hb s0 => ?_⟩
  · rw [h.curE hR (by omega) (by omega)]; exact hB.2.1 r r0 r1
  · have c := hB.2.2.1 r r0 r1 v ((h.ov hR (by omega) (by omega) v).mp hv)
    exact ⟨c.1, hold v c.2⟩
  · rw [e7]; exact hB.2.2.2.1 g g0 g1
  · obtain ⟨a1, a2, a3, ⟨a4, a5, a6⟩⟩ := hB.obj hb s0
    refine ⟨fun f f0 f1 => ?_, ?_, ?_⟩
    · rw [h.curE hR (by omega) (by omega)]; exact a4 f f0 f1
    · rw [h.curE hR (by omega) (by omega)]; exact a5
    · rw [e9]
      rcases a6 with ⟨c1, c2, c3, c4⟩ | ⟨c1, c2, c3⟩
      · refine Or.inl ⟨c1, c2, fun f f0 f1 v hv => ?_, fun v hv => c4 v ((h.ov hR (by omega) (by omega) v).mp hv)⟩
        have c := c3 f f0 f1 v ((h.ov hR (by omega) (by omega) v).mp hv)
        exact ⟨c.1, hold v c.2⟩
      · exact Or.inr ⟨c1, c2, fun z => c3 ((h.hl hR s).mp z)⟩
theorem Hf.lo (hR : Rg S) (h : Hf S T) (hL : LO S) : LO T := by
  have h' := h
  obtain ⟨e0, e7, e8, e9, e10, -⟩ := h'
  refine ⟨?_, ?_, ?_⟩
  · unfold LA
    rw [h.lk]
    intro k k' k1 k2 e
    rw [(h.ent hR k1).1, (h.ent hR k2).1] at e
    exact hL.1 k k' k1 k2 e
  · intro p p0 p1
    rw [e10, h.lk, hL.2.1 p p0 p1]
    constructor
    · rintro ⟨k, k1, k2⟩
      exact ⟨k, k1, by rw [(h.ent hR k1).1]; exact k2⟩
    · rintro ⟨k, k1, k2⟩
      exact ⟨k, k1, by rw [← (h.ent hR k1).1]; exact k2⟩
  · intro s hs
    rw [e8]
    exact hL.2.2 s ((h.hl hR s).mp hs)
theorem mlAll_S (hf : Fr S T) : mlAll T = wr (mlF (1 - S 0 0) (S 4 (S 0 0)).toNat (99 * S 0 0) 0 T).2 4 (1 - S 0 0) (mlF (1 - S 0 0) (S 4 (S 0 0)).toNat (99 * S 0 0) 0 T).1 := by
  have e0 := hf.h0
  have e4 : T 4 = S 4 := hf.1 4 (by decide)
  unfold mlAll
  rw [e0, e4]
theorem mlAll_f (hR : Rg S) (h : WF S T) {k : Nat} (hk : k ≠ 4 ∧ k ≠ 5 ∧ k ≠ 6) : mlAll T k = T k := by
  have b0 := hR.r0
  have b4 := hR.r4 (i := S 0 0) (by omega) (by omega)
  obtain ⟨a1, a2, a3, a4⟩ := mlF_ok (1 - S 0 0) (S 4 (S 0 0)).toNat (99 * S 0 0) 0 T (by omega) (by omega) (by omega) h.1
  rw [mlAll_S h.2, wr_f hk.1]
  exact funext fun i => a4 k i hk.2.1 hk.2.2
theorem moveF_hf (hR : Rg S) (hF : Rf S) {lim : Int} (h0 : 0 ≤ lim) (h1 : lim ≤ 32) : Hf S (moveF S lim) := by
  have hw := mv4_fr hR hF h0 h1
  obtain ⟨T, hT⟩ : ∃ T, T = mv4 S lim := ⟨_, rfl⟩
  unfold moveF
  rw [← hT] at hw ⊢
  have row : ∀ k : Nat, k ≠ 4 ∧ k ≠ 5 ∧ k ≠ 6 → mlAll T k = T k := fun k hk => mlAll_f hR hw hk
  obtain ⟨hWI, hf⟩ := hw
  have e0 := hf.h0
  have e4 : T 4 = S 4 := hf.1 4 (by decide)
  have e5 : T 5 = S 5 := hf.1 5 (by decide)
  have e6 : T 6 = S 6 := hf.1 6 (by decide)
  have b0 := hR.r0
  have b4 := hR.r4 (i := S 0 0) (by omega) (by omega)
  have hml := mlAll_S hf
  obtain ⟨a1, a2, a3, a4⟩ := mlF_ok (1 - S 0 0) (S 4 (S 0 0)).toNat (99 * S 0 0) 0 T (by omega) (by omega) (by omega) hWI
  have fr := mlF_fr (o := 1 - S 0 0) (S 4 (S 0 0)).toNat (99 * S 0 0) 0 T (by omega) (by omega)
  refine ⟨by rw [row 0 (by decide)]; exact e0, (row 7 (by decide)).trans (hf.1 7 (by decide)), (row 8 (by decide)).trans (hf.1 8 (by decide)), (row 9 (by decide)).trans (hf.1 9 (by decide)), (row 10 (by decide)).trans (hf.1 10 (by decide)), ?_, fun i i0 i1 => ?_, fun i i0 i1 => ?_, fun i i0 i1 => ?_, fun i i0 i1 => ?_⟩
  · rw [hml, wr_i (by omega), a4 4 _ (by decide) (by decide), e4]
  · have q := fr i (by omega)
    rw [hml, wr_k (by decide), wr_k (by decide), q.1, q.2, e5, e6]
    exact ⟨rfl, rfl⟩
  · rw [row 1 (by decide)]; exact hf.2.1 i i0 i1
  · rw [row 2 (by decide)]; exact hf.2.2.1 i i0 i1
  · rw [row 3 (by decide)]; exact hf.2.2.2 i i0 i1
end FRAME
theorem op_collectAndCrash (xw : Int32) : OpOK Rel yX0_collectAndCrash cX0_collectAndCrash 2 (some .int) 5 yX1_collectAndCrash cX1_collectAndCrash 2 (some .int) 4 [.int xw] := by
  intro S M hRel
  obtain ⟨hR, hF, hL, hRM, B, hB⟩ := hRel
  obtain ⟨w, hw, rfl⟩ := iI_ex xw
  refine ⟨_, _, cX_collectAndCrash hR hF hw, cM_collectAndCrash hRM, ?_⟩
  rintro r u r' u' ⟨z, lim, rfl, l0, l1, h1, h2⟩ ⟨z', rfl, h3⟩
  have hh := moveF_hf hR hF l0 (show lim ≤ 32 by omega)
  have ok := moveF_ok hR hF l0 (show lim ≤ 32 by omega)
  have e := crash_fin ok.1 ok.2.1 (hh.lo hR hL).1 (hh.br hR hB) h1 h3
  exact ⟨_, rfl, by rw [h2, e.2], e.1⟩
end
section
/-! THE PLAIN LAW: a whole move -/
/-- where v has gone -/
def tr (T : St) (v : Int) : Int := if v < 0 then -1 else T 11 v
def Mv (T : St) (v : Int) : Prop := v < 0 ∨ 0 ≤ T 11 v
theorem tr_n {T : St} {v : Int} (h : v < 0) : tr T v = -1 := by
  unfold tr
  rw [if_pos h]
theorem tr_p {T : St} {v : Int} (h : 0 ≤ v) : tr T v = T 11 v := by
  unfold tr
  rw [if_neg (by omega)]
/-- all through a move: goneTo and cameFrom fit, only what is needed moves, numbers come along -/
def MI (S T : St) : Prop := WF S T ∧ T 14 0 = 32 ∧ (∀ s, 0 ≤ s → s < 32 → 0 ≤ T 11 s → T 11 s < T 13 0 ∧ T 12 (T 11 s) = s ∧ Nd S s) ∧ (∀ n, 0 ≤ n → n < T 13 0 → 0 ≤ T 12 n ∧ T 12 n < 32 ∧ T 11 (T 12 n) = n ∧ T 2 (32 * (1 - S 0 0) + n) = S 2 (32 * S 0 0 + T 12 n))
/-- the fields of what came as n are still those of the old half -/
def raw (S T : St) (n : Int) : Prop := ∀ f, 0 ≤ f → f ≤ 1 → T 1 (2 * (32 * (1 - S 0 0) + n) + f) = S 1 (2 * (32 * S 0 0 + T 12 n) + f)
/-- T' comes behind T; of the objects that had come, only e's fields may differ -/
def Xt (S : St) (e : Int) (T T' : St) : Prop := (∀ v, v ≤ 31 → Mv T v → Mv T' v ∧ tr T' v = tr T v) ∧ T 13 0 ≤ T' 13 0 ∧ (∀ n, 0 ≤ n → n < T 13 0 → T' 12 n = T 12 n ∧ (n ≠ e → ∀ f, 0 ≤ f → f ≤ 1 → T' 1 (2 * (32 * (1 - S 0 0) + n) + f) = T 1 (2 * (32 * (1 - S 0 0) + n) + f))) ∧ (∀ n, T 13 0 ≤ n → n < T' 13 0 → raw S T' n) ∧ T' 3 = T 3
section MOVER
variable {S T T' U : St}
theorem raw.keep {n : Int} (h : raw S T n) (e12 : T' 12 n = T 12 n) (e1 : ∀ f, 0 ≤ f → f ≤ 1 → T' 1 (2 * (32 * (1 - S 0 0) + n) + f) = T 1 (2 * (32 * (1 - S 0 0) + n) + f)) : raw S T' n := fun f f0 f1 => by
  rw [e1 f f0 f1, e12]
  exact h f f0 f1
theorem Xt.rf {e : Int} : Xt S e T T := ⟨fun _ _ h => ⟨h, rfl⟩, Int.le_refl _, fun _ _ _ => ⟨rfl, fun _ _ _ _ => rfl⟩, fun n a b => absurd b (by omega), rfl⟩
theorem Xt.trans {e : Int} (b13 : 0 ≤ T 13 0) (he : e < T 13 0) (h1 : Xt S e T T') (h2 : Xt S e T' U) : Xt S e T U := by
  obtain ⟨a1, a2, a3, a4, a5⟩ := h1
  obtain ⟨c1, c2, c3, c4, c5⟩ := h2
  refine ⟨fun v hv hm => ?_, Int.le_trans a2 c2, fun n n0 n1 => ?_, fun n n0 n1 => ?_, c5.trans a5⟩
  · obtain ⟨m1, t1⟩ := a1 v hv hm
    obtain ⟨m2, t2⟩ := c1 v hv m1
    exact ⟨m2, t2.trans t1⟩
  · obtain ⟨p1, p2⟩ := a3 n n0 n1
    obtain ⟨q1, q2⟩ := c3 n n0 (by omega)
    exact ⟨q1.trans p1, fun hne f f0 f1 => (q2 hne f f0 f1).trans (p2 hne f f0 f1)⟩
  · by_cases hn : n < T' 13 0
    · obtain ⟨q1, q2⟩ := c3 n (by omega) hn
      exact (a4 n n0 hn).keep q1 (q2 (by omega))
    · exact c4 n (by omega) n1
theorem Xt.weaken {e : Int} (h : Xt S (-1) T T') : Xt S e T T' := ⟨h.1, h.2.1, fun n n0 n1 => ⟨(h.2.2.1 n n0 n1).1, fun _ => (h.2.2.1 n n0 n1).2 (by omega)⟩, h.2.2.2.1, h.2.2.2.2⟩
theorem cP_init {a : Int} (h0 : 0 ≤ a) : ∀ m : Nat, (a ≤ (m : Int) → cP (fun n => n < a) m = a) ∧ ((m : Int) ≤ a → cP (fun n => n < a) m = (m : Int))
  | 0 => ⟨fun h => by show (0 : Int) = a; omega, fun _ => rfl⟩
  | m + 1 => by
    obtain ⟨i1, i2⟩ := cP_init h0 m
    by_cases h : (m : Int) < a
    · rw [cP_y (P := fun n => n < a) h]
      have := i2 (by omega)
      exact ⟨fun _ => by omega, fun _ => by omega⟩
    · rw [cP_n (P := fun n => n < a) h]
      have := i1 (by omega)
      exact ⟨fun _ => by omega, fun _ => by omega⟩
theorem MI.cnt (h : MI S T) : cP (fun s => 0 ≤ T 11 s) 32 = T 13 0 := by
  have b13 := h.1.1.1.r13
  obtain ⟨-, -, h3, h4⟩ := h
  have e := cP_bij (B := fun s n => 0 ≤ s ∧ s < 32 ∧ 0 ≤ n ∧ n < T 13 0 ∧ T 11 s = n) (m := 32) 32 (fun s => 0 ≤ T 11 s) (fun n => n < T 13 0)
    (fun s s0 s1 hs => by
      have := h3 s s0 (by omega) hs
      exact ⟨T 11 s, hs, by omega, this.1, s0, by omega, hs, this.1, rfl⟩)
    (fun n n0 n1 hn => by
      have := h4 n n0 hn
      exact ⟨T 12 n, this.1, by omega, by show 0 ≤ T 11 (T 12 n); omega, this.1, this.2.1, n0, hn, this.2.2.1⟩)
    (fun v w w' a b => by
      have a := a.2.2.2.2
      have b := b.2.2.2.2
      omega)
    (fun v v' w a b => by
      have a1 := h3 v a.1 a.2.1 (by have := a.2.2.1; have := a.2.2.2.2; omega)
      have b1 := h3 v' b.1 b.2.1 (by have := b.2.2.1; have := b.2.2.2.2; omega)
      rw [← a1.2.1, ← b1.2.1, a.2.2.2.2, b.2.2.2.2])
  rw [e]
  exact (cP_init b13.1 32).1 (by omega)
theorem mvF_mi (hM : MI S T) {s : Int} (h1 : s ≤ 31) (hs : 0 ≤ s → Nd S s) : MI S (mvF T s) ∧ Xt S (-1) T (mvF T s) ∧ Mv (mvF T s) s := by
  by_cases hc : 0 ≤ s ∧ T 11 s < 0
  · have hcnt := hM.cnt
    have hlt := cP_lt (P := fun s => 0 ≤ T 11 s) (Q := fun _ => True) (n := 32) (fun _ _ _ _ => trivial) hc.1 (by omega) trivial (by show ¬ 0 ≤ T 11 s; omega)
    have h32 := (cP_le (fun _ => True) 32).2
    have hW := mvF_fr hM.1 h1
    obtain ⟨⟨hWI, hf⟩, h14, h3, h4⟩ := hM
    have b13 := hWI.1.r13
    have b0 := hWI.1.r0
    have e0 := hf.h0
    have hne : ¬ T 13 0 = T 14 0 := by omega
    have hy := mvF_y hc.1 hc.2 hne
    rw [e0] at hy
    have e13 : mvF T s 13 0 = T 13 0 + 1 := by rw [hy, wr_s]
    have e14 : mvF T s 14 0 = T 14 0 := mvF_k (by decide)
    have e12 : ∀ n, mvF T s 12 n = if n = T 13 0 then s else T 12 n := fun n => by rw [hy, wr_k (by decide), wr_eq, wr_k (by decide), wr_k (by decide), wr_k (by decide), wr_k (by decide)]
    have e11 : ∀ v, mvF T s 11 v = if v = s then T 13 0 else T 11 v := fun v => by rw [hy, wr_k (by decide), wr_k (by decide), wr_eq, wr_k (by decide), wr_k (by decide), wr_k (by decide)]
    have e2 : ∀ i, mvF T s 2 i = if i = 32 * (1 - S 0 0) + T 13 0 then T 2 (32 * S 0 0 + s) else T 2 i := fun i => by rw [hy, wr_k (by decide), wr_k (by decide), wr_k (by decide), wr_k (by decide), wr_k (by decide), wr_eq]
    have e1 : ∀ i, mvF T s 1 i = if i = 2 * (32 * (1 - S 0 0) + T 13 0) + 1 then T 1 (2 * (32 * S 0 0 + s) + 1) else if i = 2 * (32 * (1 - S 0 0) + T 13 0) then T 1 (2 * (32 * S 0 0 + s)) else T 1 i := fun i => by rw [hy, wr_k (by decide), wr_k (by decide), wr_k (by decide), wr_eq, wr_eq, wr_k (by decide)]
    have e3 : mvF T s 3 = T 3 := funext fun i => mvF_k (by decide)
    have k11 : ∀ v, 0 ≤ T 11 v → mvF T s 11 v = T 11 v := fun v hv => by
      rw [e11, if_neg (fun e => by rw [e] at hv; omega)]
    refine ⟨⟨hW, e14.trans h14, fun v v0 v1 hv => ?_, fun n n0 n1 => ?_⟩, ⟨fun v hv hm => ?_, by omega, fun n n0 n1 => ⟨?_, fun _ f f0 f1 => ?_⟩, fun n n0 n1 f f0 f1 => ?_, e3⟩, ?_⟩
    · by_cases e : v = s
      · subst e
        rw [e11, if_pos rfl, e13, e12, if_pos rfl]
        exact ⟨by omega, rfl, hs hc.1⟩
      · rw [e11, if_neg e] at hv
        have q := h3 v v0 v1 hv
        rw [e11, if_neg e, e13, e12, if_neg (by omega)]
        exact ⟨by omega, q.2⟩
    · rw [e13] at n1
      by_cases e : n = T 13 0
      · rw [e12, if_pos e, e11, if_pos rfl, e2, if_pos (by rw [e])]
        exact ⟨hc.1, by omega, e.symm, hf.2.2.1 _ (by omega) (by omega)⟩
      · have q := h4 n n0 (by omega)
        rw [e12, if_neg e, k11 _ (by omega), e2, if_neg (by omega)]
        exact q
    · rcases hm with hm | hm
      · exact ⟨Or.inl hm, by rw [tr_n hm, tr_n hm]⟩
      · have q := k11 v hm
        refine ⟨Or.inr (by rw [q]; exact hm), ?_⟩
        unfold tr
        rw [q]
    · rw [e12, if_neg (by omega)]
    · rw [e1, if_neg (by omega), if_neg (by omega)]
    · rw [e13] at n1
      obtain rfl : n = T 13 0 := by omega
      rw [e12, if_pos rfl, e1]
      rcases (show f = 0 ∨ f = 1 by omega) with rfl | rfl
      · rw [if_neg (by omega), if_pos (by omega), Int.add_zero]
        exact hf.2.1 _ (by omega) (by omega)
      · rw [if_pos rfl]
        exact hf.2.1 _ (by omega) (by omega)
    · exact Or.inr (by rw [e11, if_pos rfl]; omega)
  · rw [mvF_n (by omega)]
    exact ⟨hM, Xt.rf, by
      by_cases h : s < 0
      · exact Or.inl h
      · exact Or.inr (by omega)⟩
theorem it_mi {F : Int → St → St} {c : Int → Prop} {v : Int → Int} {a b : Int} (hv : ∀ j, a ≤ j → j < b → c j → v j ≤ 31) (hF : ∀ j T, a ≤ j → j < b → MI S T → MI S (F j T) ∧ Xt S (-1) T (F j T) ∧ (c j → Mv (F j T) (v j))) : ∀ (n : Nat) (j : Int) (T : St), a ≤ j → j + n = b → MI S T → MI S (itF F n j T) ∧ Xt S (-1) T (itF F n j T) ∧ ∀ j', j ≤ j' → j' < b → c j' → Mv (itF F n j T) (v j')
  | 0, j, T, h0, h1, h => ⟨h, Xt.rf, fun j' a1 a2 => absurd a2 (by omega)⟩
  | n + 1, j, T, h0, h1, h => by
    obtain ⟨m1, x1, v1⟩ := hF j T h0 (by omega) h
    obtain ⟨m2, x2, v2⟩ := it_mi hv hF n (j + 1) (F j T) (by omega) (by omega) m1
    have b13 := h.1.1.1.r13
    show MI S (itF F n (j + 1) (F j T)) ∧ Xt S (-1) T (itF F n (j + 1) (F j T)) ∧ ∀ j', j ≤ j' → j' < b → c j' → Mv (itF F n (j + 1) (F j T)) (v j')
    refine ⟨m2, x1.trans b13.1 (by omega) x2, fun j' a1 a2 a3 => ?_⟩
    by_cases e : j' = j
    · subst e
      exact (x2.1 _ (hv _ h0 a2 a3) (v1 a3)).1
    · exact v2 j' (by omega) a2 a3
theorem f2_mi (hM : MI S T) {g : Int} (g0 : 0 ≤ g) (g1 : g < 4) : MI S (f2 g T) ∧ Xt S (-1) T (f2 g T) ∧ Mv (f2 g T) (S 7 g) := by
  have e7 : T 7 = S 7 := hM.1.2.1 7 (by decide)
  have b7 := hM.1.1.1.r7 g0 g1
  unfold f2
  rw [e7] at b7 ⊢
  exact mvF_mi hM b7.2 (fun h => Cl.base ⟨h, Or.inr (Or.inl ⟨g, g0, g1, rfl⟩)⟩)
theorem f3_mi (hF : Rf S) (hR : Rg S) (hM : MI S T) {k : Int} (hk : LK S k) : MI S (f3 k T) ∧ Xt S (-1) T (f3 k T) ∧ (96 ≤ S 5 k → Mv (f3 k T) (S 6 k)) := by
  have e5 : T 5 = S 5 := hM.1.2.1 5 (by decide)
  have e6 : T 6 = S 6 := hM.1.2.1 6 (by decide)
  have b0 := hR.r0
  have b4 := hR.r4 (i := S 0 0) (by omega) (by omega)
  have hk0 := hk
  unfold LK at hk0
  by_cases hc : 96 ≤ S 5 k
  · rw [f3_y (by rw [e5]; exact hc), e6]
    have q := mvF_mi hM (s := S 6 k) (hF k (by omega) (by omega) (Or.inl hc)).2 (fun h => Cl.base ⟨h, Or.inr (Or.inr ⟨k, hk, hc, rfl⟩)⟩)
    exact ⟨q.1, q.2.1, fun _ => q.2.2⟩
  · rw [f3_n (by rw [e5]; omega)]
    exact ⟨hM, Xt.rf, fun h => absurd h hc⟩
theorem moB_mi (hF : Rf S) (hR : Rg S) {s : Int} (hs : Nd S s) (hM : MI S T) {k : Int} (hk : LK S k) : MI S (moB s k T) ∧ Xt S (-1) T (moB s k T) ∧ ((S 5 k / 3 = s ∧ S 5 k < 96 ∧ ¬ S 5 k % 3 = 2) → Mv (moB s k T) (S 6 k)) := by
  have e5 : T 5 = S 5 := hM.1.2.1 5 (by decide)
  have e6 : T 6 = S 6 := hM.1.2.1 6 (by decide)
  have b0 := hR.r0
  have b4 := hR.r4 (i := S 0 0) (by omega) (by omega)
  have hk0 := hk
  unfold LK at hk0
  by_cases hc : S 5 k / 3 = s ∧ S 5 k < 96 ∧ ¬ S 5 k % 3 = 2
  · rw [moB_y (by rw [e5]; exact hc), e6]
    have q := mvF_mi hM (s := S 6 k) (hF k (by omega) (by omega) (Or.inr hc.2.2)).2 (fun h => hs.step (Or.inr ⟨rfl, k, hk, hc.2.1, hc.2.2, hc.1, rfl, h⟩))
    exact ⟨q.1, q.2.1, fun _ => q.2.2⟩
  · rw [moB_n (by rw [e5]; exact hc)]
    exact ⟨hM, Xt.rf, fun h => absurd h hc⟩
theorem moF_mi (hF : Rf S) (hR : Rg S) {s : Int} (hs : Nd S s) (hM : MI S T) : MI S (moF T s) ∧ Xt S (-1) T (moF T s) ∧ ∀ k, LK S k → S 5 k < 96 → ¬ S 5 k % 3 = 2 → S 5 k / 3 = s → Mv (moF T s) (S 6 k) := by
  have e0 := hM.1.2.h0
  have e4 : T 4 = S 4 := hM.1.2.1 4 (by decide)
  have b0 := hR.r0
  have b4 := hR.r4 (i := S 0 0) (by omega) (by omega)
  unfold moF
  rw [e4, e0]
  have q := it_mi (S := S) (F := moB s) (c := fun k => S 5 k / 3 = s ∧ S 5 k < 96 ∧ ¬ S 5 k % 3 = 2) (v := S 6) (a := 99 * S 0 0) (b := 99 * S 0 0 + S 4 (S 0 0)) (fun j j0 j1 hc => (hF j (by omega) (by omega) (Or.inr hc.2.2)).2) (fun j T' j0 j1 hT => moB_mi hF hR hs hT ⟨j0, j1⟩) (S 4 (S 0 0)).toNat (99 * S 0 0) T (by omega) (by omega) hM
  exact ⟨q.1, q.2.1, fun k hk h1 h2 h3 => q.2.2 k hk.1 hk.2 ⟨h3, h1, h2⟩⟩
theorem MI.rows (h : MI S T) (hw : WF S T') (e2 : T' 2 = T 2) (e11 : T' 11 = T 11) (e12 : T' 12 = T 12) (e13 : T' 13 = T 13) (e14 : T' 14 = T 14) : MI S T' := ⟨hw, by rw [e14]; exact h.2.1, by rw [e11, e12, e13]; exact h.2.2.1, by rw [e11, e12, e13, e2]; exact h.2.2.2⟩
theorem ff_mi (hM : MI S T) {a i f v : Int} (i0 : 0 ≤ i) (i1 : i < T 13 0) (f0 : 0 ≤ f) (f1 : f ≤ 1) (ha : a = 2 * (32 * (1 - S 0 0) + i) + f) (hv : T 1 a = v) (v1 : v ≤ 31) (hn : 0 ≤ v → Nd S v) : MI S (ff a T) ∧ Xt S i T (ff a T) ∧ Mv (ff a T) v ∧ ff a T 1 a = tr (ff a T) v ∧ (∀ j, j ≠ a → 2 * (32 * (1 - S 0 0) + i) ≤ j → j ≤ 2 * (32 * (1 - S 0 0) + i) + 1 → ff a T 1 j = T 1 j) := by
  have b13 := hM.1.1.1.r13
  have b0 := hM.1.1.1.r0
  have e0 := hM.1.2.h0
  have hU : ff a T = wr (mvF T v) 1 a (tr (mvF T v) v) := by
    unfold ff
    rw [hv]
    rfl
  have hW : WF S (ff a T) := ff_fr hM.1 (by omega) (by omega) (by omega)
  obtain ⟨m1, x1, v2⟩ := mvF_mi hM v1 hn
  have u : ∀ k : Nat, k ≠ 1 → ff a T k = mvF T v k := fun k hk => by rw [hU, wr_f hk]
  have ut : ∀ x, tr (ff a T) x = tr (mvF T v) x := fun x => by unfold tr; rw [u 11 (by decide)]
  have um : ∀ x, Mv (mvF T v) x → Mv (ff a T) x := fun x hx => by unfold Mv; rw [u 11 (by decide)]; exact hx
  have u1 : ∀ j, j ≠ a → ff a T 1 j = mvF T v 1 j := fun j hj => by rw [hU, wr_i hj]
  obtain ⟨x11, x12, x13, x14, x15⟩ := x1
  refine ⟨m1.rows hW (u 2 (by decide)) (u 11 (by decide)) (u 12 (by decide)) (u 13 (by decide)) (u 14 (by decide)), ⟨fun x hx hm => ?_, by rw [u 13 (by decide)]; exact x12, fun n n0 n1 => ?_, fun n n0 n1 => ?_, (u 3 (by decide)).trans x15⟩, um _ v2, ?_, fun j j0 j1 j2 => ?_⟩
  · obtain ⟨p1, p2⟩ := x11 x hx hm
    exact ⟨um _ p1, (ut x).trans p2⟩
  · obtain ⟨p1, p2⟩ := x13 n n0 n1
    exact ⟨by rw [u 12 (by decide)]; exact p1, fun hne g g0 g1 => by rw [u1 _ (by omega)]; exact p2 (by omega) g g0 g1⟩
  · rw [u 13 (by decide)] at n1
    exact (x14 n n0 n1).keep (by rw [u 12 (by decide)]) (fun g g0 g1 => u1 _ (by omega))
  · rw [ut, hU, wr_s]
  · rw [u1 j j0]
    obtain ⟨p1, p2⟩ := x13 i i0 i1
    have q := p2 (by omega) (j - 2 * (32 * (1 - S 0 0) + i)) (by omega) (by omega)
    rw [show 2 * (32 * (1 - S 0 0) + i) + (j - 2 * (32 * (1 - S 0 0) + i)) = j by omega] at q
    exact q
end MOVER
end
section
/-! THE PLAIN LAW: a whole move, from its start to its end -/
/-- what came as n is done: its fields are translated, what the list says of it has moved -/
def dn (S T : St) (n : Int) : Prop := (∀ f, 0 ≤ f → f ≤ 1 → Mv T (S 1 (2 * (32 * S 0 0 + T 12 n) + f)) ∧ T 1 (2 * (32 * (1 - S 0 0) + n) + f) = tr T (S 1 (2 * (32 * S 0 0 + T 12 n) + f))) ∧ ∀ k, LK S k → S 5 k < 96 → ¬ S 5 k % 3 = 2 → S 5 k / 3 = T 12 n → Mv T (S 6 k)
/-- the roots are translated and have moved -/
def r3s (S T : St) (r : Int) : Prop := ∀ r', 0 ≤ r' → r' < r → Mv T (S 3 (3 * S 0 0 + r')) ∧ T 3 (3 * (1 - S 0 0) + r') = tr T (S 3 (3 * S 0 0 + r'))
def rts (S T : St) : Prop := r3s S T 3 ∧ (∀ g, 0 ≤ g → g < 4 → Mv T (S 7 g)) ∧ (∀ k, LK S k → 96 ≤ S 5 k → Mv T (S 6 k))
def PI (S T : St) (i : Int) : Prop := MI S T ∧ (∀ n, i ≤ n → n < T 13 0 → raw S T n) ∧ (∀ n, 0 ≤ n → n < i → n < T 13 0 → dn S T n) ∧ rts S T
section MOVED
variable {S T T' : St}
theorem dn.keep (hR : Rg S) (hF : Rf S) (hM : MI S T) {e n : Int} (h : dn S T n) (x : Xt S e T T') (n0 : 0 ≤ n) (n1 : n < T 13 0) (hne : n ≠ e) : dn S T' n := by
  have b0 := hR.r0
  have b4 := hR.r4 (i := S 0 0) (by omega) (by omega)
  obtain ⟨-, -, -, h4⟩ := hM
  have q := h4 n n0 n1
  obtain ⟨x1, x2, x3, x4, x5⟩ := x
  obtain ⟨y1, y2⟩ := x3 n n0 n1
  refine ⟨fun f f0 f1 => ?_, fun k hk k1 k2 k3 => ?_⟩
  · rw [y1]
    have b1 := hR.r1 (i := 2 * (32 * S 0 0 + T 12 n) + f) (by omega) (by omega)
    obtain ⟨m1, m2⟩ := h.1 f f0 f1
    obtain ⟨p1, p2⟩ := x1 _ b1.2 m1
    exact ⟨p1, by rw [y2 hne f f0 f1, m2, p2]⟩
  · rw [y1] at k3
    have hk0 := hk
    unfold LK at hk0
    exact (x1 _ (hF k (by omega) (by omega) (Or.inr k2)).2 (h.2 k hk k1 k2 k3)).1
theorem r3s.keep (hR : Rg S) {e r : Int} (hr : r ≤ 3) (h : r3s S T r) (x : Xt S e T T') : r3s S T' r := by
  have b0 := hR.r0
  intro r' r0 r1
  have b3 := hR.r3 (i := 3 * S 0 0 + r') (by omega) (by omega)
  obtain ⟨m1, m2⟩ := h r' r0 r1
  obtain ⟨p1, p2⟩ := x.1 _ b3.2 m1
  exact ⟨p1, by rw [x.2.2.2.2, m2, p2]⟩
theorem rts.keep (hR : Rg S) (hF : Rf S) {e : Int} (h : rts S T) (x : Xt S e T T') : rts S T' := by
  have b0 := hR.r0
  have b4 := hR.r4 (i := S 0 0) (by omega) (by omega)
  refine ⟨h.1.keep hR (by decide) x, fun g g0 g1 => (x.1 _ (hR.r7 g0 g1).2 (h.2.1 g g0 g1)).1, fun k hk k1 => ?_⟩
  have hk0 := hk
  unfold LK at hk0
  exact (x.1 _ (hF k (by omega) (by omega) (Or.inl k1)).2 (h.2.2 k hk k1)).1
theorem f4_pi (hR : Rg S) (hF : Rf S) (hU : ∀ s, Nd S s → s < S 8 0) {i : Int} (h : PI S T i) (i0 : 0 ≤ i) (i1 : i < T 13 0) : PI S (f4 (1 - S 0 0) i T) (i + 1) := by
  obtain ⟨hM, hraw, hdn, hrt⟩ := h
  have hM0 := hM
  obtain ⟨hWF, -, h3, h4⟩ := hM0
  have b13 := hWF.1.1.r13
  have b0 := hR.r0
  have b8 := hR.r8
  have q := h4 i i0 i1
  obtain ⟨s, hs⟩ : ∃ s, s = T 12 i := ⟨_, rfl⟩
  rw [← hs] at q
  have hnd : Nd S s := (h3 s q.1 q.2.1 (by omega)).2.2
  have hlt := hU s hnd
  have c0 := hR.r1 (i := 2 * (32 * S 0 0 + s)) (by omega) (by omega)
  have c1 := hR.r1 (i := 2 * (32 * S 0 0 + s) + 1) (by omega) (by omega)
  have r0 := hraw i (Int.le_refl _) i1 0 (by decide) (by decide)
  have r1 := hraw i (Int.le_refl _) i1 1 (by decide) (by decide)
  rw [← hs] at r0 r1
  rw [Int.add_zero, Int.add_zero] at r0
  obtain ⟨T1, hT1⟩ : ∃ T1, T1 = ff (2 * (32 * (1 - S 0 0) + i)) T := ⟨_, rfl⟩
  obtain ⟨m1, x1, v1, w1, k1⟩ := ff_mi hM (a := 2 * (32 * (1 - S 0 0) + i)) (f := 0) i0 i1 (by decide) (by decide) (by omega) r0 c0.2 (fun hp => hnd.step (Or.inl ⟨q.1, hlt, hp, Or.inl rfl⟩))
  rw [← hT1] at m1 x1 v1 w1 k1
  have l1 := x1.2.1
  have r1' : T1 1 (2 * (32 * (1 - S 0 0) + i) + 1) = S 1 (2 * (32 * S 0 0 + s) + 1) := (k1 _ (by omega) (by omega) (by omega)).trans r1
  obtain ⟨T2, hT2⟩ : ∃ T2, T2 = ff (2 * (32 * (1 - S 0 0) + i) + 1) T1 := ⟨_, rfl⟩
  obtain ⟨m2, x2, v2, w2, k2⟩ := ff_mi m1 (a := 2 * (32 * (1 - S 0 0) + i) + 1) (f := 1) i0 (by omega) (by decide) (by decide) rfl r1' c1.2 (fun hp => hnd.step (Or.inl ⟨q.1, hlt, hp, Or.inr rfl⟩))
  rw [← hT2] at m2 x2 v2 w2 k2
  have l2 := x2.2.1
  have s2 : T2 12 i = s := by rw [(x2.2.2.1 i i0 (by omega)).1, (x1.2.2.1 i i0 i1).1, hs]
  obtain ⟨m3, x3, v3⟩ := moF_mi hF hR hnd m2
  have hT3 : f4 (1 - S 0 0) i T = moF T2 s := by
    unfold f4
    rw [← hT1, ← hT2, s2]
  rw [hT3]
  have y3 : Xt S i T2 (moF T2 s) := x3.weaken
  have y : Xt S i T (moF T2 s) := (x1.trans (by omega) i1 x2).trans (by omega) i1 y3
  have s3 : moF T2 s 12 i = s := by rw [(x3.2.2.1 i i0 (by omega)).1, s2]
  refine ⟨m3, fun n n0 n1 => ?_, fun n n0 n1 n2 => ?_, hrt.keep hR hF y⟩
  · by_cases hn : n < T 13 0
    · obtain ⟨p1, p2⟩ := y.2.2.1 n (by omega) hn
      exact (hraw n (by omega) hn).keep p1 (p2 (by omega))
    · exact y.2.2.2.1 n (by omega) n1
  · by_cases e : n = i
    · subst e
      refine ⟨fun f f0 f1 => ?_, fun k hk a1 a2 a3 => v3 k hk a1 a2 (by rw [a3, s3])⟩
      have z := (x3.2.2.1 n n0 (by omega)).2 (by omega) f f0 f1
      rw [s3, z]
      rcases (show f = 0 ∨ f = 1 by omega) with rfl | rfl
      · rw [Int.add_zero, Int.add_zero]
        obtain ⟨p1, p2⟩ := x2.1 _ c0.2 v1
        obtain ⟨p3, p4⟩ := x3.1 _ c0.2 p1
        exact ⟨p3, by rw [k2 _ (by omega) (by omega) (by omega), w1, p4, p2]⟩
      · obtain ⟨p3, p4⟩ := x3.1 _ c1.2 v2
        exact ⟨p3, by rw [w2, p4]⟩
    · exact (hdn n n0 (by omega) (by omega)).keep hR hF hM y n0 (by omega) e
theorem mvL_pi (hR : Rg S) (hF : Rf S) (hU : ∀ s, Nd S s → s < S 8 0) : ∀ (n : Nat) (i : Int) (T : St), 0 ≤ i → i + n = 33 → PI S T i → ∃ i', PI S (mvL (1 - S 0 0) n i T) i' ∧ mvL (1 - S 0 0) n i T 13 0 ≤ i'
  | 0, i, T, _, h1, h => ⟨i, h, by
      have b13 := h.1.1.1.1.r13
      show T 13 0 ≤ i
      omega⟩
  | n + 1, i, T, h0, h1, h => by
    by_cases hc : i < T 13 0
    · rw [mvL_y hc]
      exact mvL_pi hR hF hU n (i + 1) _ (by omega) (by omega) (f4_pi hR hF hU h h0 hc)
    · rw [mvL_n (by omega)]
      exact ⟨i, h, by omega⟩
/-- the first phase -/
def J3 (S T : St) (r : Int) : Prop := MI S T ∧ (∀ n, 0 ≤ n → n < T 13 0 → raw S T n) ∧ r3s S T r
theorem f1_j3 (hR : Rg S) {r : Int} (h : J3 S T r) (r0 : 0 ≤ r) (r1 : r < 3) : J3 S (f1 (1 - S 0 0) r T) (r + 1) := by
  obtain ⟨hM, hraw, hr⟩ := h
  have b0 := hR.r0
  have e0 := hM.1.2.h0
  have e3 := hM.1.2.2.2.2 (3 * S 0 0 + r) (by omega) (by omega)
  have b3 := hR.r3 (i := 3 * S 0 0 + r) (by omega) (by omega)
  have hW := f1_fr hM.1 r0 r1
  have hU : f1 (1 - S 0 0) r T = wr (mvF T (S 3 (3 * S 0 0 + r))) 3 (3 * (1 - S 0 0) + r) (tr (mvF T (S 3 (3 * S 0 0 + r))) (S 3 (3 * S 0 0 + r))) := by
    unfold f1
    rw [e0, e3]
    rfl
  obtain ⟨m1, x1, v1⟩ := mvF_mi hM (s := S 3 (3 * S 0 0 + r)) b3.2 (fun h => Cl.base ⟨h, Or.inl ⟨r, r0, r1, rfl⟩⟩)
  have u : ∀ k : Nat, k ≠ 3 → f1 (1 - S 0 0) r T k = mvF T (S 3 (3 * S 0 0 + r)) k := fun k hk => by rw [hU, wr_f hk]
  have ut : ∀ x, tr (f1 (1 - S 0 0) r T) x = tr (mvF T (S 3 (3 * S 0 0 + r))) x := fun x => by unfold tr; rw [u 11 (by decide)]
  have um : ∀ x, Mv (mvF T (S 3 (3 * S 0 0 + r))) x → Mv (f1 (1 - S 0 0) r T) x := fun x hx => by unfold Mv; rw [u 11 (by decide)]; exact hx
  refine ⟨m1.rows hW (u 2 (by decide)) (u 11 (by decide)) (u 12 (by decide)) (u 13 (by decide)) (u 14 (by decide)), fun n n0 n1 => ?_, fun r' a0 a1 => ?_⟩
  · rw [u 13 (by decide)] at n1
    have q : raw S (mvF T (S 3 (3 * S 0 0 + r))) n := by
      by_cases hn : n < T 13 0
      · obtain ⟨p1, p2⟩ := x1.2.2.1 n n0 hn
        exact (hraw n n0 hn).keep p1 (p2 (by omega))
      · exact x1.2.2.2.1 n (by omega) n1
    exact q.keep (by rw [u 12 (by decide)]) (fun f _ _ => by rw [u 1 (by decide)])
  · by_cases e : r' = r
    · subst e
      exact ⟨um _ v1, by rw [ut, hU, wr_s]⟩
    · have b3' := hR.r3 (i := 3 * S 0 0 + r') (by omega) (by omega)
      obtain ⟨p1, p2⟩ := hr r' a0 (by omega)
      obtain ⟨p3, p4⟩ := x1.1 _ b3'.2 p1
      refine ⟨um _ p3, ?_⟩
      rw [ut, p4, ← p2, hU, wr_i (by omega), x1.2.2.2.2]
theorem it_j3 (hR : Rg S) : ∀ (n : Nat) (r : Int) (T : St), 0 ≤ r → r + n = 3 → J3 S T r → J3 S (itF (f1 (1 - S 0 0)) n r T) 3
  | 0, r, T, h0, h1, h => by
    obtain rfl : r = 3 := by omega
    exact h
  | n + 1, r, T, h0, h1, h => it_j3 hR n (r + 1) (f1 (1 - S 0 0) r T) (by omega) (by omega) (f1_j3 hR h h0 (by omega))
theorem mv0_j3 (hR : Rg S) (hF : Rf S) : J3 S (mv0 S 32) 0 := by
  have e13 : mv0 S 32 13 0 = 0 := by
    unfold mv0
    rw [mp_k (by decide), wr_k (by decide), wr_s]
  have e14 : mv0 S 32 14 0 = 32 := by
    unfold mv0
    rw [mp_k (by decide), wr_s]
  have e11 : ∀ s, 0 ≤ s → s < 32 → mv0 S 32 11 s = -1 := fun s s0 s1 => by
    unfold mv0
    rw [mp_in s0 s1]
  refine ⟨⟨mv0_fr hR hF (by decide) (by decide), e14, fun s s0 s1 hs => ?_, fun n n0 n1 => ?_⟩, fun n n0 n1 => ?_, fun r a b => ?_⟩
  · rw [e11 s s0 s1] at hs
    omega
  · omega
  · omega
  · omega
theorem mv3_pi (hR : Rg S) (hF : Rf S) : PI S (mv3 S 32) 0 := by
  have b0 := hR.r0
  have b4 := hR.r4 (i := S 0 0) (by omega) (by omega)
  obtain ⟨m1, r1, t1⟩ : J3 S (mv1 S 32) 3 := it_j3 hR 3 0 (mv0 S 32) (by decide) (by decide) (mv0_j3 hR hF)
  have b13 := m1.1.1.1.r13
  obtain ⟨m2, x2, v2⟩ := it_mi (S := S) (F := f2) (c := fun _ => True) (v := S 7) (a := 0) (b := 4) (fun j j0 j1 _ => (hR.r7 j0 j1).2) (fun j T' j0 j1 hT => by
    have q := f2_mi hT j0 j1
    exact ⟨q.1, q.2.1, fun _ => q.2.2⟩) 4 0 (mv1 S 32) (by decide) (by decide) m1
  obtain ⟨m3, x3, v3⟩ := it_mi (S := S) (F := f3) (c := fun k => 96 ≤ S 5 k) (v := S 6) (a := 99 * S 0 0) (b := 99 * S 0 0 + S 4 (S 0 0)) (fun j j0 j1 hc => (hF j (by omega) (by omega) (Or.inl hc)).2) (fun j T' j0 j1 hT => f3_mi hF hR hT ⟨j0, j1⟩) (S 4 (S 0 0)).toNat (99 * S 0 0) (itF f2 4 0 (mv1 S 32)) (by omega) (by omega) m2
  have x : Xt S (-1) (mv1 S 32) (mv3 S 32) := x2.trans b13.1 (by omega) x3
  refine ⟨m3, fun n n0 n1 => ?_, fun n n0 n1 => by omega, t1.keep hR (by decide) x, fun g g0 g1 => (x3.1 _ (hR.r7 g0 g1).2 (v2 g g0 g1 trivial)).1, fun k hk k1 => v3 k hk.1 hk.2 k1⟩
  by_cases hn : n < mv1 S 32 13 0
  · obtain ⟨p1, p2⟩ := x.2.2.1 n n0 hn
    exact (r1 n n0 hn).keep p1 (p2 (by omega))
  · exact x.2.2.2.1 n (by omega) n1
/-- the end of a whole move -/
def ME (S T : St) : Prop := MI S T ∧ (∀ n, 0 ≤ n → n < T 13 0 → dn S T n) ∧ rts S T
theorem mv4_me (hR : Rg S) (hF : Rf S) (hU : ∀ s, Nd S s → s < S 8 0) : ME S (mv4 S 32) := by
  obtain ⟨i, ⟨h1, -, h3, h4⟩, hi⟩ : ∃ i', PI S (mv4 S 32) i' ∧ mv4 S 32 13 0 ≤ i' := mvL_pi hR hF hU 33 0 (mv3 S 32) (by decide) (by decide) (mv3_pi hR hF)
  exact ⟨h1, fun n n0 n1 => h3 n n0 (by omega) n1, h4⟩
/-- what is needed has moved -/
theorem ME.all (hR : Rg S) (hF : Rf S) (hU : ∀ s, Nd S s → s < S 8 0) (h : ME S T) {s : Int} (hs : Nd S s) : 0 ≤ s ∧ s < 32 ∧ 0 ≤ T 11 s := by
  have b0 := hR.r0
  have b4 := hR.r4 (i := S 0 0) (by omega) (by omega)
  have b8 := hR.r8
  obtain ⟨⟨hWF, -, h3, h4⟩, hdn, h5, h6, h7⟩ := h
  have ok : ∀ v, 0 ≤ v → v ≤ 31 → Mv T v → 0 ≤ v ∧ v < 32 ∧ 0 ≤ T 11 v := fun v v0 v1 hv => by
    rcases hv with hv | hv
    · omega
    · exact ⟨v0, by omega, hv⟩
  refine hs (fun s => 0 ≤ s ∧ s < 32 ∧ 0 ≤ T 11 s) ?_ ?_
  · rintro j ⟨j0, ⟨r, r0, r1, r2⟩ | ⟨g, g0, g1, g2⟩ | ⟨k, k1, k2, k3⟩⟩
    · have q := (h5 r r0 r1).1
      have b3 := hR.r3 (i := 3 * S 0 0 + r) (by omega) (by omega)
      rw [r2] at q b3
      exact ok j j0 b3.2 q
    · have q := h6 g g0 g1
      have b7 := hR.r7 g0 g1
      rw [g2] at q b7
      exact ok j j0 b7.2 q
    · have q := h7 k k1 k2
      have hk0 := k1
      unfold LK at hk0
      have b6 := hF k (by omega) (by omega) (Or.inl k2)
      rw [k3] at q b6
      exact ok j j0 b6.2 q
  · rintro y z ⟨y0, y1, y2⟩ e
    have p := h3 y y0 y1 y2
    have d := hdn (T 11 y) y2 p.1
    unfold dn at d
    rw [show T 12 (T 11 y) = y from p.2.1] at d
    rcases e with ⟨s0, s1, t0, t1⟩ | ⟨-, k, k1, k2, k3, k4, k5, k6⟩
    · rcases t1 with t1 | t1
      · have q := (d.1 0 (by decide) (by decide)).1
        rw [Int.add_zero, ← t1] at q
        have b1 := hR.r1 (i := 2 * (32 * S 0 0 + y)) (by omega) (by omega)
        exact ok z t0 (by omega) q
      · have q := (d.1 1 (by decide) (by decide)).1
        rw [← t1] at q
        have b1 := hR.r1 (i := 2 * (32 * S 0 0 + y) + 1) (by omega) (by omega)
        exact ok z t0 (by omega) q
    · have q := d.2 k k1 k2 k3 k4
      have hk0 := k1
      unfold LK at hk0
      have b6 := hF k (by omega) (by omega) (Or.inr k3)
      rw [k5] at q b6
      exact ok z k6 b6.2 q
theorem ME.num (hR : Rg S) (hF : Rf S) (hU : ∀ s, Nd S s → s < S 8 0) (h : ME S T) : T 13 0 = cP (Nd S) 32 := by
  rw [← h.1.cnt]
  refine cP_congr (fun s s0 s1 => ⟨fun q => (h.1.2.2.1 s s0 (by omega) q).2.2, fun q => (h.all hR hF hU q).2.2⟩)
end MOVED
end
section
/-! THE PLAIN LAW: the list that comes along, and what 'settle' leaves -/
section LIST
variable {S T V : St}
theorem mlK_eq {T T0 : St} {k : Int} (e5 : T 5 k = T0 5 k) (e11 : T 11 = T0 11) : mlK T k ↔ mlK T0 k := by
  unfold mlK
  rw [e5, e11]
theorem mlP_eq {T T0 : St} {k : Int} (e5 : T 5 k = T0 5 k) (e11 : T 11 = T0 11) : mlP T k = mlP T0 k := by
  unfold mlP
  rw [e5, e11]
theorem mlO_eq {T T0 : St} {k : Int} (e5 : T 5 k = T0 5 k) (e6 : T 6 k = T0 6 k) (e11 : T 11 = T0 11) : mlO T k = mlO T0 k := by
  unfold mlO
  rw [e5, e6, e11]
/-- the new list: φ says which entry each one was -/
theorem mlF_sp {o : Int} {T0 : St} (ho : 0 ≤ o ∧ o ≤ 1) : ∀ (n : Nat) (k c : Int) (T : St), 99 * (1 - o) ≤ k → k + n ≤ 99 * (1 - o) + 99 → 0 ≤ c → c ≤ k - 99 * (1 - o) → T 11 = T0 11 → (∀ i, 99 * (1 - o) ≤ i → i < 99 * (1 - o) + 99 → T 5 i = T0 5 i ∧ T 6 i = T0 6 i) → ∃ φ : Int → Int, c ≤ (mlF o n k c T).1 ∧ (∀ j, c ≤ j → j < (mlF o n k c T).1 → k ≤ φ j ∧ φ j < k + n ∧ mlK T0 (φ j) ∧ (mlF o n k c T).2 5 (99 * o + j) = mlP T0 (φ j) ∧ (mlF o n k c T).2 6 (99 * o + j) = mlO T0 (φ j)) ∧ (∀ k', k ≤ k' → k' < k + n → mlK T0 k' → ∃ j, c ≤ j ∧ j < (mlF o n k c T).1 ∧ φ j = k') ∧ (∀ j j', c ≤ j → j < (mlF o n k c T).1 → c ≤ j' → j' < (mlF o n k c T).1 → φ j = φ j' → j = j')
  | 0, k, c, T, _, _, _, _, _, _ => ⟨fun _ => 0, Int.le_refl c, fun j a b => absurd b (by show ¬ j < c; omega), fun k' a b => absurd b (by omega), fun j j' a b => absurd b (by show ¬ j < c; omega)⟩
  | n + 1, k, c, T, h0, h1, h2, h3, h11, hT => by
    have e := hT k h0 (by omega)
    rcases Classical.em (mlK T k) with hk | hk
    · rw [mlF_y hk]
      have g11 : mlB o c k T 11 = T0 11 := (funext fun i => mlB_k (by decide)).trans h11
      have gT : ∀ i, 99 * (1 - o) ≤ i → i < 99 * (1 - o) + 99 → mlB o c k T 5 i = T0 5 i ∧ mlB o c k T 6 i = T0 6 i := fun i i0 i1 => by
        have q := hT i i0 i1
        unfold mlB
        rw [wr_k (by decide), wr_i (by omega), wr_i (by omega), wr_k (by decide)]
        exact q
      obtain ⟨φ, p0, p1, p2, p3⟩ := mlF_sp ho n (k + 1) (c + 1) (mlB o c k T) (by omega) (by omega) (by omega) (by omega) g11 gT
      have fr := mlF_fr (o := o) n (k + 1) (c + 1) (mlB o c k T) (by omega) (by omega) (99 * o + c) (by omega)
      have w5 : mlB o c k T 5 (99 * o + c) = mlP T0 k := by
        unfold mlB
        rw [wr_k (by decide), wr_s]
        exact mlP_eq e.1 h11
      have w6 : mlB o c k T 6 (99 * o + c) = mlO T0 k := by
        unfold mlB
        rw [wr_s]
        exact mlO_eq e.1 e.2 h11
      obtain ⟨ψ, hc, hψ⟩ : ∃ ψ : Int → Int, ψ c = k ∧ ∀ j, j ≠ c → ψ j = φ j := ⟨fun j => if j = c then k else φ j, if_pos rfl, fun j hj => if_neg hj⟩
      refine ⟨ψ, by omega, fun j a b => ?_, fun k' a b d => ?_, fun j j' a b a' b' q => ?_⟩
      · by_cases ej : j = c
        · rw [ej, hc]
          exact ⟨by omega, by omega, (mlK_eq e.1 h11).mp hk, fr.1.trans w5, fr.2.trans w6⟩
        · rw [hψ j ej]
          obtain ⟨q1, q2, q3, q4, q5⟩ := p1 j (by omega) b
          exact ⟨by omega, by omega, q3, q4, q5⟩
      · by_cases ek : k' = k
        · exact ⟨c, Int.le_refl c, by omega, by rw [hc, ek]⟩
        · obtain ⟨j, j1, j2, j3⟩ := p2 k' (by omega) (by omega) d
          exact ⟨j, by omega, j2, by rw [hψ j (by omega)]; exact j3⟩
      · by_cases e1 : j = c
        · by_cases e2 : j' = c
          · omega
          · have r := p1 j' (by omega) b'
            rw [e1, hc, hψ j' e2] at q
            omega
        · by_cases e2 : j' = c
          · have r := p1 j (by omega) b
            rw [e2, hc, hψ j e1] at q
            omega
          · rw [hψ j e1, hψ j' e2] at q
            exact p3 j j' (by omega) b (by omega) b' q
    · rw [mlF_n hk]
      obtain ⟨φ, p0, p1, p2, p3⟩ := mlF_sp ho n (k + 1) c T (by omega) (by omega) h2 (by omega) h11 hT
      refine ⟨φ, p0, fun j a b => ?_, fun k' a b d => ?_, p3⟩
      · obtain ⟨q1, q2, q3, q4, q5⟩ := p1 j a b
        exact ⟨by omega, by omega, q3, q4, q5⟩
      · have : k' ≠ k := fun ek => hk ((mlK_eq e.1 h11).mpr (ek ▸ d))
        exact p2 k' (by omega) (by omega) d
/-! settle -/
theorem st2_f {k : Nat} (h : k ≠ 0) (h7 : k ≠ 7) : st2 V k = V k := by
  funext i
  unfold st2 st1
  rw [mp_k h7, wr_k h]
theorem st3_f {k : Nat} (h : k ≠ 0 ∧ k ≠ 7) (h15 : k ≠ 15) : st3 V k = V k := by
  rw [← st2_f (V := V) h.1 h.2]
  funext i
  unfold st3
  rw [mp_k h15]
theorem st4_f {k : Nat} (h : k ≠ 0 ∧ k ≠ 7 ∧ k ≠ 15) (h9 : k ≠ 9) : st4 V k = V k := by
  rw [← st3_f (V := V) ⟨h.1, h.2.1⟩ h.2.2]
  funext i
  unfold st4
  rw [mp_k h9]
theorem st5_f {k : Nat} (h : k ≠ 0 ∧ k ≠ 7 ∧ k ≠ 15 ∧ k ≠ 9) (h8 : k ≠ 8 ∧ k ≠ 10) : st5 V k = V k := by
  rw [← st4_f (V := V) ⟨h.1, h.2.1, h.2.2.1⟩ h.2.2.2]
  funext i
  unfold st5
  rw [mp_k h8.2, wr_k h8.1]
theorem set_5 {k : Nat} (h : k ≠ 10) : setF V k = st5 V k := funext fun i => itF_k (fun _ _ => lsB_k h) _ _ _
theorem set_f {k : Nat} (h : k ≠ 0 ∧ k ≠ 7 ∧ k ≠ 15 ∧ k ≠ 9) (h8 : k ≠ 8 ∧ k ≠ 10) : setF V k = V k := (set_5 h8.2).trans (st5_f h h8)
theorem st5_0 : st5 V 0 0 = 1 - V 0 0 := by
  unfold st5 st4 st3 st2 st1
  rw [mp_k (by decide), wr_k (by decide), mp_k (by decide), mp_k (by decide), mp_k (by decide), wr_s]
theorem set_0 : setF V 0 0 = 1 - V 0 0 := by rw [set_5 (by decide), st5_0]
theorem set_7 {g : Int} (g0 : 0 ≤ g) (g1 : g < 4) : setF V 7 g = rgF (st1 V) g := by
  rw [set_5 (by decide)]
  unfold st5 st4 st3 st2
  rw [mp_k (by decide), wr_k (by decide), mp_k (by decide), mp_k (by decide), mp_in g0 g1]
theorem set_8 : setF V 8 0 = V 13 0 := by
  rw [set_5 (by decide)]
  unfold st5
  rw [mp_k (by decide), wr_s, st4_f (by decide) (by decide)]
theorem set_9 {n : Int} (n0 : 0 ≤ n) (n1 : n < 32) : setF V 9 n = nwF (st3 V) n := by
  rw [set_5 (by decide)]
  unfold st5 st4
  rw [mp_k (by decide), wr_k (by decide), mp_in n0 n1]
theorem st3_15 {x : Int} (x0 : 0 ≤ x) (x1 : x < 32) : st3 V 15 x = V 9 x := by
  unfold st3
  rw [mp_in x0 x1, st2_f (by decide) (by decide)]
theorem ls_run : ∀ (n : Nat) (k : Int) (V : St) (p : Int), itF lsB n k V 10 p = 1 ↔ V 10 p = 1 ∨ ∃ k', k ≤ k' ∧ k' < k + n ∧ V 5 k' = p
  | 0, k, V, p => ⟨Or.inl, fun w => by
      rcases w with w | ⟨k', a, b, -⟩
      · exact w
      · omega⟩
  | n + 1, k, V, p => by
    show itF lsB n (k + 1) (lsB k V) 10 p = 1 ↔ _
    rw [ls_run n (k + 1) (lsB k V) p]
    have e5 : lsB k V 5 = V 5 := funext fun i => lsB_k (by decide)
    have e10 : lsB k V 10 p = if p = V 5 k then 1 else V 10 p := by
      unfold lsB
      rw [wr_eq]
    rw [e5, e10]
    constructor
    · rintro (w | ⟨k', a, b, d⟩)
      · by_cases e : p = V 5 k
        · exact Or.inr ⟨k, Int.le_refl k, by omega, e.symm⟩
        · rw [if_neg e] at w
          exact Or.inl w
      · exact Or.inr ⟨k', by omega, by omega, d⟩
    · rintro (w | ⟨k', a, b, d⟩)
      · by_cases e : p = V 5 k
        · exact Or.inl (by rw [if_pos e])
        · exact Or.inl (by rw [if_neg e]; exact w)
      · by_cases e : k' = k
        · exact Or.inl (by rw [if_pos (by rw [← d, e])])
        · exact Or.inr ⟨k', by omega, by omega, d⟩
theorem set_10 (hR : Rg V) {p : Int} (p0 : 0 ≤ p) (p1 : p < 99) : setF V 10 p = 1 ↔ ∃ k, LK (setF V) k ∧ setF V 5 k = p := by
  have b0 := hR.r0
  have b4 := hR.r4 (i := 1 - V 0 0) (by omega) (by omega)
  have e5 : setF V 5 = V 5 := set_f (by decide) (by decide)
  have e4 : setF V 4 = V 4 := set_f (by decide) (by decide)
  have f4 : st5 V 4 = V 4 := st5_f (by decide) (by decide)
  have f5 : st5 V 5 = V 5 := st5_f (by decide) (by decide)
  have hz : st5 V 10 p = 0 := by
    unfold st5
    rw [mp_in p0 p1]
  have q := ls_run (st5 V 4 (st5 V 0 0)).toNat (99 * st5 V 0 0) (st5 V) p
  have hs : itF lsB (st5 V 4 (st5 V 0 0)).toNat (99 * st5 V 0 0) (st5 V) = setF V := rfl
  rw [hs, hz, st5_0, f4, f5] at q
  rw [q]
  unfold LK
  rw [set_0, e4, e5]
  constructor
  · rintro (w | ⟨k', a, b, d⟩)
    · omega
    · exact ⟨k', ⟨a, by omega⟩, d⟩
  · rintro ⟨k', ⟨a, b⟩, d⟩
    exact Or.inr ⟨k', a, by omega, d⟩
end LIST
end
section
/-! THE PLAIN LAW: a collection -/
/-- U is S with all that is needed in the other half; T: where things went; φ: which entry of the list each one was -/
def CE (S T U : St) (c : Int) (φ : Int → Int) : Prop := (U 0 0 = 1 - S 0 0 ∧ U 8 0 = T 13 0) ∧ (∀ g, 0 ≤ g → g < 4 → U 7 g = tr T (S 7 g)) ∧ (∀ r, 0 ≤ r → r < 3 → cur U (96 + r) = tr T (cur S (96 + r))) ∧ (∀ n, 0 ≤ n → n < T 13 0 → U 9 n = S 9 (T 12 n) ∧ cur U (3 * n + 2) = cur S (3 * T 12 n + 2) ∧ ∀ f, 0 ≤ f → f ≤ 1 → cur U (3 * n + f) = tr T (cur S (3 * T 12 n + f))) ∧ (∀ k, LK U k ↔ 99 * (1 - S 0 0) ≤ k ∧ k < 99 * (1 - S 0 0) + c) ∧ (∀ j, 0 ≤ j → j < c → LK S (φ j) ∧ mlK T (φ j) ∧ U 5 (99 * (1 - S 0 0) + j) = mlP T (φ j) ∧ U 6 (99 * (1 - S 0 0) + j) = mlO T (φ j)) ∧ (∀ k, LK S k → mlK T k → ∃ j, 0 ≤ j ∧ j < c ∧ φ j = k) ∧ (∀ j j', 0 ≤ j → j < c → 0 ≤ j' → j' < c → φ j = φ j' → j = j')
section COLL
variable {B : Int → Int → Prop} {S T U M : St}
theorem coll_ce (hR : Rg S) (hF : Rf S) (hU : ∀ s, Nd S s → s < S 8 0) : ∃ c φ, CE S (mv4 S 32) (collF S) c φ ∧ collF S 13 0 = mv4 S 32 13 0 := by
  have hE := mv4_me hR hF hU
  have hw := mv4_fr hR hF (lim := 32) (by decide) (by decide)
  obtain ⟨T, hT⟩ : ∃ T, T = mv4 S 32 := ⟨_, rfl⟩
  have hV : moveF S 32 = mlAll T := by rw [hT]; rfl
  rw [← hT] at hE hw ⊢
  obtain ⟨V, hVd⟩ : ∃ V, V = mlAll T := ⟨_, rfl⟩
  have hC : collF S = setF V := by
    unfold collF
    rw [hV, hVd]
  rw [hC]
  have row : ∀ k : Nat, k ≠ 4 ∧ k ≠ 5 ∧ k ≠ 6 → V k = T k := fun k hk => by rw [hVd]; exact mlAll_f hR hw hk
  have hml := mlAll_S hw.2
  rw [← hVd] at hml
  have e0 := hw.2.h0
  have b0 := hR.r0
  have b4 := hR.r4 (i := S 0 0) (by omega) (by omega)
  have b13 := hw.1.1.r13
  obtain ⟨φ, p0, p1, p2, p3⟩ := mlF_sp (o := 1 - S 0 0) (T0 := T) (by omega) (S 4 (S 0 0)).toNat (99 * S 0 0) 0 T (by omega) (by omega) (by omega) (by omega) rfl (fun _ _ _ => ⟨rfl, rfl⟩)
  obtain ⟨R, hRd⟩ : ∃ R, R = mlF (1 - S 0 0) (S 4 (S 0 0)).toNat (99 * S 0 0) 0 T := ⟨_, rfl⟩
  rw [← hRd] at hml p0 p1 p2 p3
  have v0 : V 0 0 = S 0 0 := by rw [row 0 (by decide)]; exact e0
  have u0 : setF V 0 0 = 1 - S 0 0 := by rw [set_0, v0]
  have v4 : V 4 (1 - S 0 0) = R.1 := by rw [hml, wr_s]
  have v5 : V 5 = R.2 5 := by rw [hml]; exact wr_f (by decide)
  have v6 : V 6 = R.2 6 := by rw [hml]; exact wr_f (by decide)
  have s7 : st1 V 7 = S 7 := (wr_f (by decide)).trans ((row 7 (by decide)).trans (hw.2.1 7 (by decide)))
  have s11 : st1 V 11 = T 11 := (wr_f (by decide)).trans (row 11 (by decide))
  refine ⟨R.1, φ, ⟨⟨u0, by rw [set_8, row 13 (by decide)]⟩, fun g g0 g1 => ?_, fun r r0 r1 => ?_, fun n n0 n1 => ⟨?_, ?_, fun f f0 f1 => ?_⟩, fun k => ?_, fun j j0 j1 => ?_, fun k hk hk2 => ?_, p3⟩, by rw [set_f (by decide) (by decide), row 13 (by decide)]⟩
  · rw [set_7 g0 g1]
    have b7 := hR.r7 g0 g1
    by_cases h : 0 ≤ S 7 g
    · rw [rgF_y (by rw [s7]; exact h), s7, s11, tr_p h]
    · rw [rgF_n (by rw [s7]; omega), s7, tr_n (by omega)]
      omega
  · rw [cur_r r0, cur_r r0, u0, set_f (by decide) (by decide), row 3 (by decide)]
    exact (hE.2.2.1 r r0 r1).2
  · have q := hE.1.2.2.2 n n0 n1
    have b9 := hR.r9 (i := T 12 n) q.1 q.2.1
    have t13 : st3 V 13 = T 13 := (st3_f (by decide) (by decide)).trans (row 13 (by decide))
    have t12 : st3 V 12 = T 12 := (st3_f (by decide) (by decide)).trans (row 12 (by decide))
    have t15 : st3 V 15 (T 12 n) = S 9 (T 12 n) := by
      rw [st3_15 q.1 q.2.1, row 9 (by decide), hw.2.1 9 (by decide)]
    rw [set_9 n0 (by omega)]
    by_cases h : S 9 (T 12 n) = 0
    · rw [nwF_n (Or.inr (by rw [t12, t15]; exact h)), h]
    · rw [nwF_y (by rw [t13]; exact n1) (by rw [t12, t15]; exact h)]
      omega
  · have q := hE.1.2.2.2 n n0 n1
    rw [cur_n n0 (by omega), cur_n q.1 q.2.1, u0, set_f (by decide) (by decide), row 2 (by decide)]
    exact q.2.2.2
  · have q := hE.1.2.2.2 n n0 n1
    rw [cur_f n0 (by omega) f0 f1, cur_f q.1 q.2.1 f0 f1, u0, set_f (by decide) (by decide), row 1 (by decide)]
    exact ((hE.2.1 n n0 n1).1 f f0 f1).2
  · unfold LK
    rw [u0, set_f (by decide) (by decide), v4]
  · obtain ⟨q1, q2, q3, q4, q5⟩ := p1 j j0 j1
    refine ⟨⟨q1, by omega⟩, q3, ?_, ?_⟩
    · rw [set_f (by decide) (by decide), v5]; exact q4
    · rw [set_f (by decide) (by decide), v6]; exact q5
  · have hk0 := hk
    unfold LK at hk0
    exact p2 k hk0.1 (by omega) hk2
theorem BR.used (hR : Rg S) (hB : BR B S M) : ∀ s, Nd S s → s < S 8 0 := fun s hs => by
  obtain ⟨w, w1, -⟩ := hB.nd hR hs
  exact (hB.obj w1 (Nd_pos hs)).1
theorem mlO_tr (hR : Rg S) (hF : Rf S) (hf : Fr S T) {k : Int} (hk : LK S k) (h : 96 ≤ S 5 k ∨ ¬ S 5 k % 3 = 2) : mlO T k = tr T (S 6 k) := by
  have b0 := hR.r0
  have b4 := hR.r4 (i := S 0 0) (by omega) (by omega)
  have e5 : T 5 = S 5 := hf.1 5 (by decide)
  have e6 : T 6 = S 6 := hf.1 6 (by decide)
  unfold LK at hk
  have b6 := hF k (by omega) (by omega) h
  by_cases h6 : 0 ≤ S 6 k
  · rw [mlO_y (by rw [e5]; exact h) (by rw [e6]; exact h6), e6, tr_p h6]
  · rw [mlO_n (Or.inr (by rw [e6]; omega)), e6, tr_n (by omega)]
    omega
/-- an entry's new place tells its old one -/
theorem mlP_r' (hR : Rg S) (hf : WF S T) {k q : Int} (hk : LK S k) (hm : mlK T k) (hq : mlP T k = q) (h : 96 ≤ q) : S 5 k = q := by
  have b0 := hR.r0
  have b4 := hR.r4 (i := S 0 0) (by omega) (by omega)
  have e5 : T 5 = S 5 := hf.2.1 5 (by decide)
  unfold LK at hk
  have p := (mlP_le hf.1.1 (k := k) (by omega) (by omega) hm).2.2.1
  rw [e5] at p
  have h5 : 96 ≤ S 5 k := p.mp (by omega)
  rw [mlP_r (by rw [e5]; exact h5), e5] at hq
  exact hq
theorem mlP_o' (hR : Rg S) (hM : MI S T) {k n f : Int} (hk : LK S k) (hm : mlK T k) (n0 : 0 ≤ n) (n1 : n < T 13 0) (f0 : 0 ≤ f) (f1 : f ≤ 2) (hq : mlP T k = 3 * n + f) : S 5 k = 3 * T 12 n + f := by
  have b0 := hR.r0
  have b4 := hR.r4 (i := S 0 0) (by omega) (by omega)
  have b13 := hM.1.1.1.r13
  have e5 : T 5 = S 5 := hM.1.2.1 5 (by decide)
  have hk0 := hk
  unfold LK at hk0
  have b5 := hR.r5 (i := k) (by omega) (by omega)
  have p := (mlP_le hM.1.1.1 (k := k) (by omega) (by omega) hm).2.2.1
  rw [e5] at p
  have h5 : S 5 k < 96 := by
    rcases Int.lt_or_le (S 5 k) 96 with w | w
    · exact w
    · have := p.mpr w
      omega
  rw [mlP_o (by rw [e5]; exact h5), e5] at hq
  have hn : T 11 (S 5 k / 3) = n := by omega
  have z := (hM.2.2.1 (S 5 k / 3) (by omega) (by omega) (by omega)).2.1
  rw [hn] at z
  omega
theorem CE.ent {c : Int} {φ : Int → Int} (h : CE S T U c φ) {k : Int} (hk : LK U k) : LK S (φ (k - 99 * (1 - S 0 0))) ∧ mlK T (φ (k - 99 * (1 - S 0 0))) ∧ U 5 k = mlP T (φ (k - 99 * (1 - S 0 0))) ∧ U 6 k = mlO T (φ (k - 99 * (1 - S 0 0))) := by
  obtain ⟨-, -, -, -, h5, h6, -, -⟩ := h
  have q := (h5 k).mp hk
  have p := h6 (k - 99 * (1 - S 0 0)) (by omega) (by omega)
  rw [show 99 * (1 - S 0 0) + (k - 99 * (1 - S 0 0)) = k by omega] at p
  exact p
theorem CE.has {c : Int} {φ : Int → Int} (h : CE S T U c φ) {k : Int} (hk : LK S k) (hm : mlK T k) : ∃ k', LK U k' ∧ U 5 k' = mlP T k := by
  obtain ⟨-, -, -, -, h5, h6, h7, -⟩ := h
  obtain ⟨j, j0, j1, j2⟩ := h7 k hk hm
  have p := h6 j j0 j1
  rw [j2] at p
  exact ⟨99 * (1 - S 0 0) + j, (h5 _).mpr ⟨by omega, by omega⟩, p.2.2.1⟩
theorem CE.ovR {c : Int} {φ : Int → Int} (hR : Rg S) (hF : Rf S) (hM : MI S T) (h : CE S T U c φ) {r v' : Int} (r0 : 0 ≤ r) (r1 : r < 3) (hv : OV U (96 + r) v') : ∃ v, OV S (96 + r) v ∧ v' = tr T v := by
  have e5 : T 5 = S 5 := hM.1.2.1 5 (by decide)
  rcases hv with ⟨k, k1, k2, k3⟩ | ⟨k1, k2⟩
  · obtain ⟨q1, q2, q3, q4⟩ := h.ent k1
    have q5 := mlP_r' hR hM.1 q1 q2 (q3.symm.trans k2) (by omega)
    exact ⟨_, Or.inl ⟨_, q1, q5, rfl⟩, by rw [← k3, q4, mlO_tr hR hF hM.1.2 q1 (Or.inl (by omega))]⟩
  · refine ⟨cur S (96 + r), Or.inr ⟨fun k hk e => ?_, rfl⟩, by rw [← k2]; exact h.2.2.1 r r0 r1⟩
    have hm : mlK T k := Or.inl (by rw [e5]; omega)
    obtain ⟨k', a, b⟩ := h.has hk hm
    rw [mlP_r (by rw [e5]; omega), e5, e] at b
    exact k1 k' a b
theorem CE.ovO {c : Int} {φ : Int → Int} (hR : Rg S) (hF : Rf S) (hM : MI S T) (h : CE S T U c φ) {n f v' : Int} (n0 : 0 ≤ n) (n1 : n < T 13 0) (f0 : 0 ≤ f) (f1 : f ≤ 2) (hv : OV U (3 * n + f) v') : ∃ v, OV S (3 * T 12 n + f) v ∧ (f ≤ 1 → v' = tr T v) ∧ (f = 2 → v' = v) := by
  have e5 : T 5 = S 5 := hM.1.2.1 5 (by decide)
  have e6 : T 6 = S 6 := hM.1.2.1 6 (by decide)
  have q := hM.2.2.2 n n0 n1
  rcases hv with ⟨k, k1, k2, k3⟩ | ⟨k1, k2⟩
  · obtain ⟨q1, q2, q3, q4⟩ := h.ent k1
    have q5 := mlP_o' hR hM q1 q2 n0 n1 f0 f1 (q3.symm.trans k2)
    refine ⟨_, Or.inl ⟨_, q1, q5, rfl⟩, fun hf => ?_, fun hf => ?_⟩
    · rw [← k3, q4, mlO_tr hR hF hM.1.2 q1 (Or.inr (by omega))]
    · rw [← k3, q4, mlO_n (Or.inl ⟨by rw [e5]; omega, by rw [e5]; omega⟩), e6]
  · refine ⟨cur S (3 * T 12 n + f), Or.inr ⟨fun k hk e => ?_, rfl⟩, fun hf => ?_, fun hf => ?_⟩
    · have z : S 5 k / 3 = T 12 n := by omega
      have hm : mlK T k := Or.inr (by rw [e5, z]; omega)
      obtain ⟨k', a, b⟩ := h.has hk hm
      rw [mlP_o (by rw [e5]; omega), e5, z, q.2.2.1] at b
      exact k1 k' a (by omega)
    · rw [← k2]
      exact (h.2.2.2.1 n n0 n1).2.2 f f0 hf
    · subst hf
      rw [← k2]
      exact (h.2.2.2.1 n n0 n1).2.1
theorem CE.hl {c : Int} {φ : Int → Int} (hR : Rg S) (hM : MI S T) (h : CE S T U c φ) {s : Int} (hs : hasL U s) : s < T 13 0 ∧ hasL S (T 12 s) := by
  have b0 := hR.r0
  have b4 := hR.r4 (i := S 0 0) (by omega) (by omega)
  have e5 : T 5 = S 5 := hM.1.2.1 5 (by decide)
  obtain ⟨k, k1, k2, k3⟩ := hs
  obtain ⟨q1, q2, q3, q4⟩ := h.ent k1
  obtain ⟨x, hx⟩ : ∃ x, x = φ (k - 99 * (1 - S 0 0)) := ⟨_, rfl⟩
  rw [← hx] at q1 q2 q3 q4
  have hk0 := q1
  unfold LK at hk0
  have b5 := hR.r5 (i := x) (by omega) (by omega)
  have p := (mlP_le hM.1.1.1 (k := x) (by omega) (by omega) q2).2.2.1
  rw [e5] at p
  have h5 : S 5 x < 96 := by
    rcases Int.lt_or_le (S 5 x) 96 with w | w
    · exact w
    · have := p.mpr w
      omega
  rw [mlP_o (by rw [e5]; exact h5), e5] at q3
  have b11 := hM.1.1.1.r11 (i := S 5 x / 3) (by omega) (by omega)
  have hm : 0 ≤ T 11 (S 5 x / 3) := by
    rcases q2 with w | w
    · rw [e5] at w
      omega
    · rw [e5] at w
      exact w
  have z := hM.2.2.1 (S 5 x / 3) (by omega) (by omega) hm
  have hs : s = T 11 (S 5 x / 3) := by omega
  rw [hs, z.2.1]
  exact ⟨z.1, x, q1, h5, rfl⟩
theorem CE.lo {c : Int} {φ : Int → Int} (hR : Rg S) (hM : MI S T) (hL : LO S) (h : CE S T U c φ) (h10 : ∀ p, 0 ≤ p → p < 99 → (U 10 p = 1 ↔ ∃ k, LK U k ∧ U 5 k = p)) : LO U := by
  have b0 := hR.r0
  have b4 := hR.r4 (i := S 0 0) (by omega) (by omega)
  have e5 : T 5 = S 5 := hM.1.2.1 5 (by decide)
  refine ⟨fun k k' hk hk' e => ?_, h10, fun s hs => by rw [h.1.2]; exact (h.hl hR hM hs).1⟩
  obtain ⟨q1, q2, q3, -⟩ := h.ent hk
  obtain ⟨r1, r2, r3, -⟩ := h.ent hk'
  obtain ⟨-, -, -, -, h5, -, -, h8⟩ := h
  have a := (h5 k).mp hk
  have a' := (h5 k').mp hk'
  have hinj := h8 (k - 99 * (1 - S 0 0)) (k' - 99 * (1 - S 0 0)) (by omega) (by omega) (by omega) (by omega)
  obtain ⟨x, hx⟩ : ∃ x, x = φ (k - 99 * (1 - S 0 0)) := ⟨_, rfl⟩
  obtain ⟨y, hy⟩ : ∃ y, y = φ (k' - 99 * (1 - S 0 0)) := ⟨_, rfl⟩
  rw [← hx] at q1 q2 q3 hinj
  rw [← hy] at r1 r2 r3 hinj
  have hk0 := q1
  unfold LK at hk0
  have hk1 := r1
  unfold LK at hk1
  have b5 := hR.r5 (i := x) (by omega) (by omega)
  have c5 := hR.r5 (i := y) (by omega) (by omega)
  have p := (mlP_le hM.1.1.1 (k := x) (by omega) (by omega) q2).2.2.1
  have p' := (mlP_le hM.1.1.1 (k := y) (by omega) (by omega) r2).2.2.1
  rw [e5] at p p'
  have hxy : S 5 x = S 5 y := by
    rw [q3, r3] at e
    by_cases hx5 : 96 ≤ S 5 x
    · exact (mlP_r' hR hM.1 r1 r2 e.symm (p.mpr hx5)).symm ▸ (mlP_r' hR hM.1 q1 q2 rfl (p.mpr hx5))
    · have hy5 : ¬ 96 ≤ S 5 y := fun w => by
        have := p'.mpr w
        rw [← e] at this
        exact hx5 (p.mp this)
      have m1 : 0 ≤ T 11 (S 5 x / 3) := by
        rcases q2 with w | w
        · rw [e5] at w
          omega
        · rw [e5] at w
          exact w
      have m2 : 0 ≤ T 11 (S 5 y / 3) := by
        rcases r2 with w | w
        · rw [e5] at w
          omega
        · rw [e5] at w
          exact w
      have z1 := (hM.2.2.1 (S 5 x / 3) (by omega) (by omega) m1).2.1
      have z2 := (hM.2.2.1 (S 5 y / 3) (by omega) (by omega) m2).2.1
      rw [mlP_o (by rw [e5]; omega), mlP_o (by rw [e5]; omega), e5] at e
      have e11 : T 11 (S 5 x / 3) = T 11 (S 5 y / 3) := by omega
      rw [e11] at z1
      omega
  have := hinj (hL.1 x y q1 r1 hxy)
  omega
/-- the old tie, carried along -/
def BT (B : Int → Int → Prop) (P : Int → Prop) (T : St) (v' w : Int) : Prop := ∃ v, B v w ∧ (v = -1 ∨ P v) ∧ v' = tr T v
theorem CE.br {c : Int} {φ : Int → Int} (hR : Rg S) (hF : Rf S) (hB : BR B S M) (hE : ME S T) (h : CE S T U c φ) : BR (BT B (Nd S) T) U M := by
  have hU := hB.used hR
  have hM := hE.1
  have hS := hB.shrink hR
  have tv : ∀ v, v = -1 ∨ Nd S v → (v = -1 ∧ tr T v = -1) ∨ (0 ≤ v ∧ v < 32 ∧ 0 ≤ tr T v ∧ tr T v < T 13 0 ∧ T 12 (tr T v) = v) := by
    intro v hv
    rcases hv with hv | hv
    · exact Or.inl ⟨hv, tr_n (by omega)⟩
    · obtain ⟨v0, v1, v2⟩ := hE.all hR hF hU hv
      have q := hM.2.2.1 v v0 v1 v2
      rw [tr_p v0]
      exact Or.inr ⟨v0, v1, v2, q.1, q.2.1⟩
  have tinj : ∀ v v', (v = -1 ∨ Nd S v) → (v' = -1 ∨ Nd S v') → tr T v = tr T v' → v = v' := by
    intro v v' hv hv' e
    rcases tv v hv with ⟨a, b⟩ | ⟨a, b, c, d, f⟩
    · rcases tv v' hv' with ⟨a', b'⟩ | ⟨a', b', c', d', f'⟩
      · omega
      · omega
    · rcases tv v' hv' with ⟨a', b'⟩ | ⟨a', b', c', d', f'⟩
      · omega
      · rw [← f, ← f', e]
  obtain ⟨⟨u0, u8⟩, h7, hroot, hobj, -⟩ := id h
  have hold : ∀ v, (v = -1 ∨ Nd S v) → old S v → old U (tr T v) := by
    intro v hv ho
    rcases tv v hv with ⟨a, b⟩ | ⟨a, b, c, d, f⟩
    · exact Or.inl b
    · rcases ho with ho | ho
      · omega
      · exact Or.inr (by rw [(hobj _ c d).1, f]; exact ho)
  refine ⟨⟨⟨-1, hB.1.1, Or.inl rfl, (tr_n (by decide)).symm⟩, ?_, ?_, ?_⟩, fun r r0 r1 => ?_, fun r r0 r1 v' hv' => ?_, fun g g0 g1 => ?_, ?_⟩
  · rintro v' w ⟨v, v1, v2, rfl⟩
    rcases tv v v2 with ⟨a, b⟩ | ⟨a, b, c, d, f⟩
    · refine Or.inl ⟨b, hB.1.2.2.1 _ _ _ v1 ?_⟩
      rw [a]
      exact hB.1.1
    · have q := hB.obj v1 a
      exact Or.inr ⟨c, by rw [u8]; exact d, q.2.1, q.2.2.1⟩
  · rintro v' w w' ⟨v, v1, v2, v3⟩ ⟨x, x1, x2, x3⟩
    have e := tinj v x v2 x2 (v3.symm.trans x3)
    subst e
    exact hB.1.2.2.1 _ _ _ v1 x1
  · rintro v' x' w ⟨v, v1, v2, v3⟩ ⟨x, x1, x2, x3⟩
    rw [v3, x3, hB.1.2.2.2 _ _ _ v1 x1]
  · have q := hS.2.1 r r0 r1
    rw [hroot r r0 r1]
    exact ⟨_, q.1, q.2, rfl⟩
  · obtain ⟨v, hv, rfl⟩ := h.ovR hR hF hM r0 r1 hv'
    have q := hS.2.2.1 r r0 r1 v hv
    exact ⟨⟨v, q.1.1, q.1.2, rfl⟩, hold v q.1.2 q.2⟩
  · have q := hS.2.2.2.1 g g0 g1
    rw [h7 g g0 g1]
    exact ⟨_, q.1, q.2, rfl⟩
  · rintro n w ⟨s, s1, s2, rfl⟩ n0
    rcases tv s s2 with ⟨a, b⟩ | ⟨a, b, c, d, f⟩
    · omega
    · obtain ⟨a1, a2, a3, ⟨a4, a5, a6⟩⟩ := hS.obj ⟨s1, s2⟩ a
      obtain ⟨o1, o2, o3⟩ := hobj (tr T s) c d
      rw [f] at o1 o2 o3
      refine ⟨fun g g0 g1 => ?_, o2.trans a5, ?_⟩
      · have q := a4 g g0 g1
        rw [o3 g g0 g1]
        exact ⟨_, q.1, q.2, rfl⟩
      · rw [o1]
        rcases a6 with ⟨c1, c2, c3, c4⟩ | ⟨c1, c2, c3⟩
        · refine Or.inl ⟨c1, c2, fun g g0 g1 v' hv' => ?_, fun v' hv' => ?_⟩
          · obtain ⟨v, hv, e1, -⟩ := h.ovO hR hF hM c d g0 (show g ≤ 2 by omega) hv'
            rw [f] at hv
            rw [e1 g1]
            have q := c3 g g0 g1 v hv
            exact ⟨⟨v, q.1.1, q.1.2, rfl⟩, hold v q.1.2 q.2⟩
          · obtain ⟨v, hv, -, e1⟩ := h.ovO hR hF hM c d (show (0 : Int) ≤ 2 by decide) (show (2 : Int) ≤ 2 by decide) hv'
            rw [f] at hv
            rw [e1 rfl]
            exact c4 v hv
        · refine Or.inr ⟨c1, c2, fun z => c3 ?_⟩
          have q := (h.hl hR hM z).2
          rw [f] at q
          exact q
/-- a collection keeps the tie -/
theorem Rel.coll (hR : Rg S) (hF : Rf S) (hL : LO S) (hRM : RgM M) (hB : BR B S M) : Rel (collF S) M ∧ collF S 8 0 = cP (Nd S) 32 ∧ collF S 13 0 = cP (Nd S) 32 := by
  have hU := hB.used hR
  have hE := mv4_me hR hF hU
  obtain ⟨c, φ, h, h13⟩ := coll_ce hR hF hU
  have hnum := hE.num hR hF hU
  have okV := moveF_ok hR hF (lim := 32) (by decide) (by decide)
  have hF' : Rf (collF S) := by
    have q := okV.2.1
    unfold Rf at q ⊢
    have e5 : collF S 5 = moveF S 32 5 := set_f (by decide) (by decide)
    have e6 : collF S 6 = moveF S 32 6 := set_f (by decide) (by decide)
    rw [e5, e6]
    exact q
  refine ⟨⟨collF_ok hR hF, hF', h.lo hR hE.1 hL (fun p p0 p1 => set_10 okV.1 p0 p1), hRM, _, h.br hR hF hB hE⟩, ?_, ?_⟩
  · rw [h.1.2, hnum]
  · rw [h13, hnum]
end COLL
theorem op_collect : OpOK Rel yX0_collect cX0_collect 1 (some .int) 3 yX1_collect cX1_collect 1 (some .int) 2 [] := by
  intro S M hRel
  obtain ⟨hR, hF, hL, hRM, B, hB⟩ := hRel
  refine ⟨_, _, cX_collect hR hF, cM_collect hRM, ?_⟩
  rintro r u r' u' ⟨z, rfl, rfl, h1⟩ ⟨z', rfl, h2, h3, h4⟩
  obtain ⟨⟨a1, a2, a3, -, B', a5⟩, -, a6⟩ := Rel.coll hR hF hL hRM hB
  exact ⟨_, rfl, by rw [h1, a6, h4, hB.cnt hR], a1, a2, a3, h3, B', a5.eqM h2⟩
end
section
/-! THE PLAIN LAW: a new object -/
section MAKE
variable {B : Int → Int → Prop} {S M : St} {g v : Int}
theorem mkF_f {k : Nat} (h : k ≠ 8 ∧ k ≠ 2 ∧ k ≠ 1 ∧ k ≠ 9 ∧ k ≠ 7) : mkF S g v k = S k := by
  funext i
  unfold mkF
  rw [wr_k h.2.2.2.2, wr_k h.2.2.2.1, wr_k h.2.2.1, wr_k h.2.2.1, wr_k h.2.1, wr_k h.1]
theorem mkF_8 : mkF S g v 8 0 = S 8 0 + 1 := by
  unfold mkF
  rw [wr_k (by decide), wr_k (by decide), wr_k (by decide), wr_k (by decide), wr_k (by decide), wr_s]
theorem mkF_2 (i : Int) : mkF S g v 2 i = if i = 32 * S 0 0 + S 8 0 then v else S 2 i := by
  unfold mkF
  rw [wr_k (by decide), wr_k (by decide), wr_k (by decide), wr_k (by decide), wr_eq, wr_k (by decide)]
theorem mkF_1 (i : Int) : mkF S g v 1 i = if i = 2 * (32 * S 0 0 + S 8 0) + 1 then -1 else if i = 2 * (32 * S 0 0 + S 8 0) then -1 else S 1 i := by
  unfold mkF
  rw [wr_k (by decide), wr_k (by decide), wr_eq, wr_eq, wr_k (by decide), wr_k (by decide)]
theorem mkF_9 (i : Int) : mkF S g v 9 i = if i = S 8 0 then 1 else S 9 i := by
  unfold mkF
  rw [wr_k (by decide), wr_eq, wr_k (by decide), wr_k (by decide), wr_k (by decide), wr_k (by decide)]
theorem mkF_7 (i : Int) : mkF S g v 7 i = if i = g then S 8 0 else S 7 i := by
  unfold mkF
  rw [wr_eq, wr_k (by decide), wr_k (by decide), wr_k (by decide), wr_k (by decide), wr_k (by decide)]
theorem mkM_f {fr : Int} {k : Nat} (h : k ≠ 0 ∧ k ≠ 2 ∧ k ≠ 4 ∧ k ≠ 7) : mkM M fr g v k = M k := by
  funext i
  unfold mkM
  rw [wr_k h.2.2.2, wr_k h.2.2.1, wr_k h.2.1, wr_k h.2.1, wr_k h.1]
theorem mkM_0 {fr : Int} (i : Int) : mkM M fr g v 0 i = if i = fr then v else M 0 i := by
  unfold mkM
  rw [wr_k (by decide), wr_k (by decide), wr_k (by decide), wr_k (by decide), wr_eq]
theorem mkM_2 {fr : Int} (i : Int) : mkM M fr g v 2 i = if i = 2 * fr + 1 then 24 else if i = 2 * fr then 24 else M 2 i := by
  unfold mkM
  rw [wr_k (by decide), wr_k (by decide), wr_eq, wr_eq, wr_k (by decide)]
theorem mkM_4 {fr : Int} (i : Int) : mkM M fr g v 4 i = if i = fr then 0 else M 4 i := by
  unfold mkM
  rw [wr_k (by decide), wr_eq, wr_k (by decide), wr_k (by decide), wr_k (by decide)]
theorem mkM_7 {fr : Int} (i : Int) : mkM M fr g v 7 i = if i = g then fr else M 7 i := by
  unfold mkM
  rw [wr_eq, wr_k (by decide), wr_k (by decide), wr_k (by decide), wr_k (by decide)]
theorem mkF_cur (hR : Rg S) {p : Int} (p0 : 0 ≤ p) (p1 : p < 99) (hp : 96 ≤ p ∨ p < 3 * S 8 0 ∨ 3 * S 8 0 + 3 ≤ p) : cur (mkF S g v) p = cur S p := by
  have b0 := hR.r0
  have b8 := hR.r8
  have e0 : mkF S g v 0 0 = S 0 0 := by rw [mkF_f (by decide)]
  unfold cur
  rw [e0]
  by_cases h : 96 ≤ p
  · rw [if_pos h, if_pos h, mkF_f (by decide)]
  · rw [if_neg h, if_neg h]
    by_cases h2 : p % 3 = 2
    · rw [if_pos h2, if_pos h2, mkF_2, if_neg (by omega)]
    · rw [if_neg h2, if_neg h2, mkF_1, if_neg (by omega), if_neg (by omega)]
def BN (B : Int → Int → Prop) (P : Int → Prop) (u fr x w : Int) : Prop := (B x w ∧ (x = -1 ∨ P x)) ∨ (x = u ∧ w = fr)
theorem Rel.mk (hR : Rg S) (hF : Rf S) (hL : LO S) (hB : BR B S M) (hu : S 8 0 < 32) (hv : inI v) {N : St} {fr : Int} (hN : EqM M N) (hRN : RgM N) (f0 : 0 ≤ fr) (f1 : fr < 24) (hfr : ¬ NdM M fr) : Rel (mkF S g v) (mkM N fr g v) := by
  have b0 := hR.r0
  have b8 := hR.r8
  have hC := (hB.eqM hN).shrink hR
  have hne : ∀ x w, (B x w ∧ (x = -1 ∨ Nd S x)) → w ≠ fr := by
    rintro x w ⟨c1, c2⟩ e
    rcases c2 with c2 | c2
    · have := hB.1.2.2.1 x w 24 c1 (by rw [c2]; exact hB.1.1)
      omega
    · obtain ⟨w', a, b⟩ := hB.nd hR c2
      have := hB.1.2.2.1 x w w' c1 a
      rw [← this, e] at b
      exact hfr b
  have hlt : ∀ x w, (B x w ∧ (x = -1 ∨ Nd S x)) → x = -1 ∨ (0 ≤ x ∧ x < S 8 0) := by
    rintro x w ⟨c1, c2⟩
    rcases hB.1.2.1 x w c1 with ⟨a, -⟩ | ⟨a, b, -⟩
    · exact Or.inl a
    · exact Or.inr ⟨a, b⟩
  have e0 : mkF S g v 0 0 = S 0 0 := by rw [mkF_f (by decide)]
  have e5 : mkF S g v 5 = S 5 := mkF_f (by decide)
  have e6 : mkF S g v 6 = S 6 := mkF_f (by decide)
  have hk : LK (mkF S g v) = LK S := LK_rows (mkF_f (by decide)) (mkF_f (by decide))
  have hl : hasL (mkF S g v) = hasL S := by
    funext s
    unfold hasL
    rw [hk, e5]
  have ho : ∀ p x, 0 ≤ p → p < 99 → (96 ≤ p ∨ p < 3 * S 8 0 ∨ 3 * S 8 0 + 3 ≤ p) → (OV (mkF S g v) p x ↔ OV S p x) := by
    intro p x p0 p1 hp
    unfold OV
    rw [hk, e5, e6, mkF_cur hR p0 p1 hp]
  have hold : ∀ x, (x = -1 ∨ (0 ≤ x ∧ x < S 8 0)) → old S x → old (mkF S g v) x := by
    intro x hx h
    rcases h with h | h
    · exact Or.inl h
    · rcases hx with hx | hx
      · exact Or.inl hx
      · exact Or.inr (by rw [mkF_9, if_neg (by omega)]; exact h)
  have cn : cur (mkF S g v) (3 * S 8 0 + 2) = v := by rw [cur_n b8.1 hu, e0, mkF_2, if_pos rfl]
  have cf : ∀ f, 0 ≤ f → f ≤ 1 → cur (mkF S g v) (3 * S 8 0 + f) = -1 := by
    intro f g0 g1
    rw [cur_f b8.1 hu g0 g1, e0, mkF_1]
    by_cases e : f = 1
    · rw [if_pos (by omega)]
    · rw [if_neg (by omega), if_pos (by omega)]
  refine ⟨?_, ?_, ?_, ?_, BN B (Nd S) (S 8 0) fr, ⟨Or.inl hC.1.1, ?_, ?_, ?_⟩, fun r r0 r1 => ?_, fun r r0 r1 x hx => ?_, fun q q0 q1 => ?_, ?_⟩
  · exact (((((hR.put (k := 8) (show 0 ≤ S 8 0 + 1 by omega) (show S 8 0 + 1 ≤ 32 by omega)).put (k := 2) hv.1 hv.2).put (k := 1) (by decide) (by decide)).put (k := 1) (by decide) (by decide)).put (k := 9) (by decide) (by decide)).put (k := 7) (show -1 ≤ S 8 0 by omega) (show S 8 0 ≤ 31 by omega)
  · unfold Rf
    rw [e5, e6]
    exact hF
  · refine ⟨?_, ?_, ?_⟩
    · unfold LA
      rw [hk, e5]
      exact hL.1
    · rw [hk, e5, mkF_f (by decide)]
      exact hL.2.1
    · rw [hl, mkF_8]
      intro s hs
      have := hL.2.2 s hs
      omega
  · exact ((((hRN.put (k := 0) hv.1 hv.2).put (k := 2) (by decide) (by decide)).put (k := 2) (by decide) (by decide)).put (k := 4) (by decide) (by decide)).put (k := 7) (show 0 ≤ fr by omega) (show fr ≤ 24 by omega)
  · rintro x w (c | ⟨rfl, rfl⟩)
    · rw [mkF_8]
      rcases hB.1.2.1 x w c.1 with a | ⟨a, b, c, d⟩
      · exact Or.inl a
      · exact Or.inr ⟨a, by omega, c, d⟩
    · rw [mkF_8]
      exact Or.inr ⟨b8.1, by omega, f0, f1⟩
  · rintro x w w' (c | ⟨a, b⟩) (c' | ⟨a', b'⟩)
    · exact hB.1.2.2.1 x w w' c.1 c'.1
    · have := hlt x w c
      omega
    · have := hlt x w' c'
      omega
    · omega
  · rintro x x' w (c | ⟨a, b⟩) (c' | ⟨a', b'⟩)
    · exact hB.1.2.2.2 x x' w c.1 c'.1
    · exact absurd b' (hne x w c)
    · exact absurd b (hne x' w c')
    · omega
  · rw [mkF_cur hR (by omega) (by omega) (Or.inl (by omega)), mkM_f (by decide)]
    exact Or.inl (hC.2.1 r r0 r1)
  · have c := hC.2.2.1 r r0 r1 x ((ho _ x (by omega) (by omega) (Or.inl (by omega))).mp hx)
    rw [mkM_f (by decide)]
    exact ⟨Or.inl c.1, hold x (hlt _ _ c.1) c.2⟩
  · rw [mkF_7, mkM_7]
    by_cases e : q = g
    · rw [if_pos e, if_pos e]
      exact Or.inr ⟨rfl, rfl⟩
    · rw [if_neg e, if_neg e]
      exact Or.inl (hC.2.2.2.1 q q0 q1)
  · rintro s w (c | ⟨rfl, rfl⟩) s0
    · obtain ⟨a1, a2, a3, ⟨a4, a5, a6⟩⟩ := hC.obj c s0
      have hw := hne s w c
      refine ⟨fun f g0 g1 => ?_, ?_, ?_⟩
      · rw [mkF_cur hR (by omega) (by omega) (by omega), mkM_2, if_neg (by omega), if_neg (by omega)]
        exact Or.inl (a4 f g0 g1)
      · rw [mkF_cur hR (by omega) (by omega) (by omega), mkM_0, if_neg hw]
        exact a5
      · rw [mkF_9, if_neg (by omega), mkM_4, if_neg hw]
        rcases a6 with ⟨c1, c2, c3, c4⟩ | ⟨c1, c2, c3⟩
        · refine Or.inl ⟨c1, c2, fun f g0 g1 x hx => ?_, fun x hx => ?_⟩
          · have c := c3 f g0 g1 x ((ho _ x (by omega) (by omega) (by omega)).mp hx)
            rw [mkM_f (by decide)]
            exact ⟨Or.inl c.1, hold x (hlt _ _ c.1) c.2⟩
          · rw [mkM_f (by decide)]
            exact c4 x ((ho _ x (by omega) (by omega) (by omega)).mp hx)
        · exact Or.inr ⟨c1, c2, by rw [hl]; exact c3⟩
    · refine ⟨fun f g0 g1 => ?_, ?_, Or.inr ⟨by rw [mkF_9, if_pos rfl], by rw [mkM_4, if_pos rfl], ?_⟩⟩
      · rw [cf f g0 g1, mkM_2]
        by_cases e : f = 1
        · rw [if_pos (by omega)]
          exact Or.inl hC.1.1
        · rw [if_neg (by omega), if_pos (by omega)]
          exact Or.inl hC.1.1
      · rw [cn, mkM_0, if_pos rfl]
      · rw [hl]
        intro z
        have := hL.2.2 _ z
        omega
end MAKE
theorem op_make (xg xv : Int32) : OpOK Rel yX0_make cX0_make 5 (some .int) 4 yX1_make cX1_make 5 (some .int) 2 [.int xg, .int xv] := by
  intro S M hRel
  have hRel0 := hRel
  obtain ⟨hR, hF, hL, hRM, B, hB⟩ := hRel
  obtain ⟨g, hg, rfl⟩ := iI_ex xg
  obtain ⟨v, hv, rfl⟩ := iI_ex xv
  have hcnt := hB.cnt hR
  have hle := cP_le (NdM M) 24
  obtain ⟨⟨k1, k2, k3, -, B', k5⟩, k6, -⟩ := Rel.coll hR hF hL hRM hB
  refine ⟨_, _, cX_make hR hF hg (fun a b => by omega), cM_make hRM hg, ?_⟩
  rintro r u r' u' ⟨z, rfl, h1⟩ ⟨z', rfl, h2⟩
  rcases h1 with ⟨a1, rfl, rfl⟩ | ⟨a1, b1, rfl, rfl⟩ | ⟨a1, b1, rfl, h1⟩
  · rcases h2 with ⟨a2, rfl, rfl⟩ | ⟨a2, -⟩ | ⟨a2, -⟩
    · exact ⟨_, rfl, rfl, hRel0⟩
    · omega
    · omega
  · rcases h2 with ⟨a2, -⟩ | ⟨a2, b2, rfl, h2, h3⟩ | ⟨a2, b2, -⟩
    · omega
    · exact ⟨_, rfl, rfl, hR, hF, hL, h3, B, hB.eqM h2⟩
    · omega
  · rcases h2 with ⟨a2, -⟩ | ⟨a2, b2, -⟩ | ⟨a2, b2, rfl, N, fr, n1, n2, n3, n4, n5, rfl⟩
    · omega
    · omega
    · rcases h1 with ⟨c1, rfl⟩ | ⟨c1, rfl⟩
      · exact ⟨_, rfl, rfl, Rel.mk k1 k2 k3 k5 (by omega) hv n1 n2 n3 n4 n5⟩
      · exact ⟨_, rfl, rfl, Rel.mk hR hF hL hB c1 hv n1 n2 n3 n4 n5⟩
end
section
/-! THE PLAIN LAW: the start, and all sixteen -/
theorem loX_le (k : Nat) : loX k ≤ 0 := by
  unfold loX
  split <;> decide
theorem hiX_ge (k : Nat) : 0 ≤ hiX k := by
  unfold hiX
  split <;> decide
theorem loM_le (k : Nat) : loM k ≤ 0 := by
  unfold loM
  split <;> decide
theorem hiM_ge (k : Nat) : 0 ≤ hiM k := by
  unfold hiM
  split <;> decide
theorem iniX_0 {k : Nat} (h : k ≠ 3 ∧ k ≠ 7) (i : Int) : iniX k i = 0 := by
  unfold iniX
  rw [mp_k h.2, mp_k h.1]
  rfl
theorem iniX_ok : Rg iniX := by
  have h : Rg Z0 := fun k i _ _ => ⟨loX_le k, hiX_ge k⟩
  exact (h.fill (fun _ _ _ => ⟨by decide, by decide⟩)).fill (fun _ _ _ => ⟨by decide, by decide⟩)
theorem iniM_ok : RgM iniM := by
  have h : RgM Z0 := fun k i _ _ => ⟨loM_le k, hiM_ge k⟩
  exact ((((h.fill (fun _ _ _ => ⟨by decide, by decide⟩)).fill (fun _ _ _ => ⟨by decide, by decide⟩)).fill (fun _ _ _ => ⟨by decide, by decide⟩)).fill (fun _ _ _ => ⟨by decide, by decide⟩)).fill (fun _ _ _ => ⟨by decide, by decide⟩)
theorem Rel_ini : Rel iniX iniM := by
  have hk : ∀ k, ¬ LK iniX k := by
    intro k h
    unfold LK at h
    rw [iniX_0 (k := 0) (by decide), iniX_0 (k := 4) (by decide)] at h
    omega
  have hc : ∀ r, 0 ≤ r → r < 3 → cur iniX (96 + r) = -1 := by
    intro r r0 r1
    rw [cur_r r0, iniX_0 (k := 0) (by decide)]
    unfold iniX
    rw [mp_k (by decide), mp_in (by omega) (by omega)]
  have m5 : ∀ r, 0 ≤ r → r < 3 → iniM 5 r = 24 := by
    intro r r0 r1
    unfold iniM
    rw [mp_k (by decide), mp_k (by decide), mp_k (by decide), mp_k (by decide), mp_in r0 r1]
  have m6 : ∀ r, 0 ≤ r → r < 3 → iniM 6 r = 24 := by
    intro r r0 r1
    unfold iniM
    rw [mp_k (by decide), mp_k (by decide), mp_k (by decide), mp_in r0 r1]
  have m7 : ∀ r, 0 ≤ r → r < 4 → iniM 7 r = 24 := by
    intro r r0 r1
    unfold iniM
    rw [mp_k (by decide), mp_k (by decide), mp_in r0 r1]
  have x7 : ∀ r, 0 ≤ r → r < 4 → iniX 7 r = -1 := by
    intro r r0 r1
    unfold iniX
    rw [mp_in r0 r1]
  refine ⟨iniX_ok, fun i _ _ _ => ?_, LO_none hk (fun p _ _ => iniX_0 (by decide) p), iniM_ok, fun v w => v = -1 ∧ w = 24, ⟨⟨rfl, rfl⟩, fun v w h => Or.inl h, fun v w w' h h' => by omega, fun v v' w h h' => by omega⟩, fun r r0 r1 => ⟨hc r r0 r1, m5 r r0 r1⟩, fun r r0 r1 v hv => ?_, fun g g0 g1 => ⟨x7 g g0 g1, m7 g g0 g1⟩, fun s w h s0 => ?_⟩
  · rw [iniX_0 (k := 6) (by decide)]
    omega
  · have e := (OV_none hk).mp hv
    rw [hc r r0 r1] at e
    exact ⟨⟨e.symm, m6 r r0 r1⟩, Or.inl e.symm⟩
  · omega
theorem ops_all : Ops Rel := ⟨op_make, op_fromRoot, op_toRoot, op_fromField, op_toField, op_release, op_number, op_setNumber, op_same, op_save, op_back, op_crash, op_collect, op_collectAndCrash, op_needed, op_reach⟩
end
section
set_option maxRecDepth 100000
theorem whole_start {p : Program} {e : Env} {s : State} {m : MethodId} {below : List Frame} {meth : Method} {c : Code} (l : Launch) {b L : Nat} {xs : Nat → Int32} (hL : L ≤ 256) (C0 : lw_At p s m meth c b L xs) : W p l e room_1 s m #[Value.ref b] below meth c s.heap [] 0 0 (lw_Z below #[Value.ref b] s) (entryFrame m ([Value.ref b] : List Value).toArray 4) := start_of ops_all Rel_ini l hL C0
set_option maxHeartbeats 4000000 in
theorem lw_walk (l : Launch) (b : Addr) (xs : List Int32) : MetFree l x (headSpec (Jvm.Cond.code x code maxLocals ret :: tables_1) room_1) (lw_P b xs) (fun _ _ _ _ _ => True) lw_Q := by
  refine MetFree.of_bodyS (code := code) (maxLocals := maxLocals) (ret := ret) (by decide) ?_ ?_
  · intro args s m h hn
    obtain ⟨meth, c, h1, h2, h3, h4, h5, h6, -, -⟩ := Cond.code_spec hn (atoms_spec (ws := Jvm.Cond.code x code maxLocals ret :: tables_1) h _ List.mem_cons_self)
    exact ⟨meth, c, h1, h2, h3, h4, h5, h6⟩
  · intro p e s m args below meth c s₁ B hml0 hP _
    obtain ⟨rfl, hx, hbd, hgv⟩ := hP
    obtain ⟨scr, harrAt, hlist, hof, hsmall⟩ := hx
    obtain ⟨hcb, hkn, -, -⟩ := State.arrayAt?_spec harrAt
    have hown : s.vm.findClass R_law = some m.cls := findClass_of_methodNamed B.named
    have hts0 : ∀ c ∈ (Jvm.Cond.code x code maxLocals ret :: tables_1), c.before #[Value.ref b] s = true := atoms_spec (ws := Jvm.Cond.code x code maxLocals ret :: tables_1) B.pre
    have hts : ∀ w ∈ lw_tbl, w.before #[Value.ref b] s = true := k2_hts_sels lw_privs (fun w hw => hts0 w (List.mem_cons_of_mem _ hw)) lw_privs_ok
    have hml : c.maxLocals = 4 := B.maxLocals_eq (hts0 _ List.mem_cons_self)
    have X₀ : Stand p l e room_1 s m #[Value.ref b] below meth c s₁ [] 0 0 := Stand.of_body B
    have hh0 : s₁.heap = s.heap := by rw [B.state]; rfl
    have hsz : scr.slots.size = xs.length := by rw [← Array.length_toList, hlist, List.length_map]
    have hval : ∀ j : Nat, j < xs.length → scr.slots[j]? = some (.int (xs.getD j 0)) := fun j hj => by
      rw [← Array.getElem?_toList, hlist]
      simp [hj]
    have hbl : b < s.heap.size := (Array.getElem?_eq_some_iff.mp hcb).1
    have hX : va_X b xs.length (fun j => xs.getD j 0) s s.heap := ⟨scr, hcb, hof, hkn, hsz, hval⟩
    have K : W p l e room_1 s m #[Value.ref b] below meth c s₁.heap [] 0 0 (lw_Z below #[Value.ref b] s) (entryFrame m ([Value.ref b] : List Value).toArray 4) := by
      rw [hh0]
      exact whole_start l hbd ⟨B.exec, B.bytes, B.returns, hml, hown, hts, hX, hbl, B.notSynchronized, hgv⟩
    obtain ⟨t, a1, o, b1, b2, b3⟩ := K s₁ rfl X₀
    exact ⟨t, o, a1, b1, b2, b3⟩
theorem lw_pre_spec {args : Array Value} {s : State} (h : (Jvm.Cond.and given_1 narrow_1).before args s = true) (hr : rest_1_c.before args s = true) : ∃ (b : Addr) (xs : List Int32), lw_P b xs args s := by
  have hs := flat_of_before _ h
  have hq := flat_of_before _ hr
  have hc : (Cond.count 1).before args s = true := hs _ (by decide +kernel)
  have harr : (Cond.arrayOf (.arg 0) .int).before args s = true := hs _ (by decide +kernel)
  have hle : (Cond.le (.length (.arg 0)) (.int 256)).before args s = true := hs _ (by decide +kernel)
  have hlen : (Cond.isInt (.length (.arg 0))).before args s = true := hq _ (by decide +kernel)
  have hall : (Cond.all (.arg 0) (.isInt (.elem (.arg 0) (.index 0)))).before args s = true := hq _ (by decide +kernel)
  obtain ⟨b, xs, hb, hx⟩ := State.ints_of_pre rfl harr hlen hall
  have hsm : xs.length < 2 ^ 31 := hx.choose_spec.2.2.2
  have hev : (Term.length (.arg 0)).eval args s none [] s = some (.int xs.length.toInt32) := hx.length_eval hb
  have hv := Cond.le_ints hev (show (Term.int 256).eval args s none [] s = some (.int 256) from rfl)
  have hd : xs.length.toInt32 ≤ 256 := by
    simpa [Cond.before, Cond.holds, hv] using hle
  have hN : xs.length ≤ 256 := (Int32.ofNat_le_ofNat hsm (by decide)).mp (show Int32.ofNat xs.length ≤ Int32.ofNat 256 from hd)
  exact ⟨b, xs, Cond.one_arg hc (show args[0]? = some (.ref b) from hb), hx, hN, h⟩
theorem lw_comes (l : Launch) : Comes l x (Jvm.Cond.code x code maxLocals ret :: tables_1) room_1 (fun tb e args s => Calls_1 tb e args s ∧ rest_1 tb e args s ∧ Pre_1 tb e args s)
    (fun _ _ args s o t => lw_Q args s o t) := by
  intro p e ha hc hk s m args below hf hfit hheap happ hpre
  obtain ⟨b, xs, hP⟩ := lw_pre_spec hpre.2.2 hpre.2.1
  obtain ⟨k, o, h1, h2, h3, hQ⟩ := lw_walk l b xs p e ha hc hk s m args below hf ((Spec.applies_iff_loose hf).mp happ).1 hP trivial
  exact ⟨k, o, h1, h2, h3, hQ⟩
theorem lw_frame {s t : State} {o : Outcome} {args : Array Value} (h : Framed s o t [] 600000 7290000) :
    Framed s o t (fieldLocs frame_1_writes args s ++ arrayLocs frame_1_arrays args s ++ staticLocs frame_1_statics s) 600000 7290000 := h
theorem lw_limb (L : Cond) (hL : ∀ (args : Array Value) (s t : State), L.after args s (.returned (some (.int 1))) t = true) :
    ArmFor flags0 classFile x code maxLocals ret World_1 tables_1 room_1 Calls_1 rest_1 Pre_1
      (fun tb e a s o t => postC L tb e a s o t ∧ Framed s o t (fieldLocs frame_1_writes a s ++ arrayLocs frame_1_arrays a s ++ staticLocs frame_1_statics s) 600000 7290000) := by
  intro l _ _ _ p e ha hc hk s m args below hf hfit hheap happ hpre
  obtain ⟨k, o, h1, h2, h3, rfl, hF⟩ := lw_comes l p e ha hc hk s m args below hf hfit hheap happ hpre
  exact ⟨k, _, h1, h2, h3, hL args s _, lw_frame hF⟩
theorem i_vc : Claimed_1_1 ∧ Claimed_1_2 := ⟨lw_limb limb_1_1 (fun args s t => by simp [limb_1_1, Cond.after, Cond.holds, Cond.value]), lw_limb limb_1_2 (fun args s t => Cond.after_iff.mpr (by
  first | (rw [show limb_1_2 = Cond.eq .result (.int 1) from rfl, Cond.eq_ints (x := 1) (y := 1) rfl rfl]; simp; done) | (simp [limb_1_2, Cond.value, Term.eval]; done)))⟩
end
