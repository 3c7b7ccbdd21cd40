section
-- ===== PART A: goes FIRST, ahead of the names: the tables' words, and 'selects' of the private methods out of them =====
/-- a private method of a class that the tables say can be made, by its rows of tables_1 -/
def lw_okq (q : MethodName × Nat) : Prop := (q.1.cls ≠ "java/lang/invoke/MethodHandle" ∧ q.1.cls ≠ "java/lang/invoke/VarHandle") ∧ Cond.instantiable q.1.cls q.2 ∈ tables_1 ∧ Cond.privateMethod q.1 ∈ tables_1 ∧ Cond.instanceMethod q.1 ∈ tables_1
set_option maxRecDepth 100000
theorem lw_t1 {w : Cond} (h : w ∈ tables_1_1) : w ∈ tables_1 := List.mem_append_left _ h
theorem lw_t2 {w : Cond} (h : w ∈ tables_1_2) : w ∈ tables_1 := List.mem_append_right _ h
theorem lw_p0 : lw_okq (⟨"DataflowStore", "restart", "()V"⟩, 18) := ⟨⟨by decide +kernel, by decide +kernel⟩, lw_t1 (List.mem_of_getElem? (i := 4) rfl), lw_t1 (List.mem_of_getElem? (i := 12) rfl), lw_t1 (List.mem_of_getElem? (i := 13) rfl)⟩
theorem lw_p1 : lw_okq (⟨"DataflowStore", "isVariable", "(I)Z"⟩, 18) := ⟨⟨by decide +kernel, by decide +kernel⟩, lw_t1 (List.mem_of_getElem? (i := 4) rfl), lw_t1 (List.mem_of_getElem? (i := 78) rfl), lw_t1 (List.mem_of_getElem? (i := 79) rfl)⟩
theorem lw_p2 : lw_okq (⟨"DataflowStore", "bindNumber", "(II)V"⟩, 18) := ⟨⟨by decide +kernel, by decide +kernel⟩, lw_t1 (List.mem_of_getElem? (i := 4) rfl), lw_t1 (List.mem_of_getElem? (i := 82) rfl), lw_t1 (List.mem_of_getElem? (i := 83) rfl)⟩
theorem lw_p3 : lw_okq (⟨"DataflowStore", "head", "(I)I"⟩, 18) := ⟨⟨by decide +kernel, by decide +kernel⟩, lw_t1 (List.mem_of_getElem? (i := 4) rfl), lw_t1 (List.mem_of_getElem? (i := 86) rfl), lw_t1 (List.mem_of_getElem? (i := 87) rfl)⟩
theorem lw_p4 : lw_okq (⟨"DataflowStore", "wake", "(I)V"⟩, 18) := ⟨⟨by decide +kernel, by decide +kernel⟩, lw_t1 (List.mem_of_getElem? (i := 4) rfl), lw_t1 (List.mem_of_getElem? (i := 90) rfl), lw_t1 (List.mem_of_getElem? (i := 91) rfl)⟩
theorem lw_p5 : lw_okq (⟨"DataflowStore", "want", "(II)V"⟩, 18) := ⟨⟨by decide +kernel, by decide +kernel⟩, lw_t1 (List.mem_of_getElem? (i := 4) rfl), lw_t1 (List.mem_of_getElem? (i := 94) rfl), lw_t1 (List.mem_of_getElem? (i := 95) rfl)⟩
theorem lw_p6 : lw_okq (⟨"DataflowStore", "bindCouple", "(III)V"⟩, 18) := ⟨⟨by decide +kernel, by decide +kernel⟩, lw_t1 (List.mem_of_getElem? (i := 4) rfl), lw_t1 (List.mem_of_getElem? (i := 98) rfl), lw_t1 (List.mem_of_getElem? (i := 99) rfl)⟩
theorem lw_p7 : lw_okq (⟨"DataflowStore", "work", "()V"⟩, 18) := ⟨⟨by decide +kernel, by decide +kernel⟩, lw_t1 (List.mem_of_getElem? (i := 4) rfl), lw_t1 (List.mem_of_getElem? (i := 102) rfl), lw_t1 (List.mem_of_getElem? (i := 103) rfl)⟩
theorem lw_p8 : lw_okq (⟨"DataflowStore", "join", "(II)V"⟩, 18) := ⟨⟨by decide +kernel, by decide +kernel⟩, lw_t1 (List.mem_of_getElem? (i := 4) rfl), lw_t1 (List.mem_of_getElem? (i := 106) rfl), lw_t1 (List.mem_of_getElem? (i := 107) rfl)⟩
theorem lw_p9 : lw_okq (⟨"DataflowStore", "lowestReady", "()I"⟩, 18) := ⟨⟨by decide +kernel, by decide +kernel⟩, lw_t1 (List.mem_of_getElem? (i := 4) rfl), lw_t1 (List.mem_of_getElem? (i := 110) rfl), lw_t1 (List.mem_of_getElem? (i := 111) rfl)⟩
theorem lw_p10 : lw_okq (⟨"DataflowStore", "tryStatement", "(I)V"⟩, 18) := ⟨⟨by decide +kernel, by decide +kernel⟩, lw_t1 (List.mem_of_getElem? (i := 4) rfl), lw_t1 (List.mem_of_getElem? (i := 115) rfl), lw_t1 (List.mem_of_getElem? (i := 116) rfl)⟩
theorem lw_p11 : lw_okq (⟨"DataflowStore", "computed", "(III)I"⟩, 18) := ⟨⟨by decide +kernel, by decide +kernel⟩, lw_t1 (List.mem_of_getElem? (i := 4) rfl), lw_t1 (List.mem_of_getElem? (i := 119) rfl), lw_t1 (List.mem_of_getElem? (i := 120) rfl)⟩
theorem lw_p12 : lw_okq (⟨"DataflowStoreModel", "follow", "()V"⟩, 13) := ⟨⟨by decide +kernel, by decide +kernel⟩, lw_t1 (List.mem_of_getElem? (i := 155) rfl), lw_t1 (List.mem_of_getElem? (i := 161) rfl), lw_t1 (List.mem_of_getElem? (i := 162) rfl)⟩
theorem lw_p13 : lw_okq (⟨"DataflowStoreModel", "ready", "(I)Z"⟩, 13) := ⟨⟨by decide +kernel, by decide +kernel⟩, lw_t1 (List.mem_of_getElem? (i := 155) rfl), lw_t1 (List.mem_of_getElem? (i := 165) rfl), lw_t1 (List.mem_of_getElem? (i := 166) rfl)⟩
theorem lw_p14 : lw_okq (⟨"DataflowStoreModel", "apply", "(I)V"⟩, 13) := ⟨⟨by decide +kernel, by decide +kernel⟩, lw_t1 (List.mem_of_getElem? (i := 155) rfl), lw_t1 (List.mem_of_getElem? (i := 169) rfl), lw_t1 (List.mem_of_getElem? (i := 170) rfl)⟩
theorem lw_p15 : lw_okq (⟨"DataflowStoreModel", "join", "(II)V"⟩, 13) := ⟨⟨by decide +kernel, by decide +kernel⟩, lw_t1 (List.mem_of_getElem? (i := 155) rfl), lw_t1 (List.mem_of_getElem? (i := 173) rfl), lw_t1 (List.mem_of_getElem? (i := 174) rfl)⟩
def lw_privs_1 : List (MethodName × Nat) := [(⟨"DataflowStore", "restart", "()V"⟩, 18), (⟨"DataflowStore", "isVariable", "(I)Z"⟩, 18), (⟨"DataflowStore", "bindNumber", "(II)V"⟩, 18), (⟨"DataflowStore", "head", "(I)I"⟩, 18), (⟨"DataflowStore", "wake", "(I)V"⟩, 18), (⟨"DataflowStore", "want", "(II)V"⟩, 18), (⟨"DataflowStore", "bindCouple", "(III)V"⟩, 18), (⟨"DataflowStore", "work", "()V"⟩, 18), (⟨"DataflowStore", "join", "(II)V"⟩, 18), (⟨"DataflowStore", "lowestReady", "()I"⟩, 18), (⟨"DataflowStore", "tryStatement", "(I)V"⟩, 18), (⟨"DataflowStore", "computed", "(III)I"⟩, 18), (⟨"DataflowStoreModel", "follow", "()V"⟩, 13), (⟨"DataflowStoreModel", "ready", "(I)Z"⟩, 13), (⟨"DataflowStoreModel", "apply", "(I)V"⟩, 13), (⟨"DataflowStoreModel", "join", "(II)V"⟩, 13)]
theorem lw_r1 : ∀ q ∈ lw_privs_1, lw_okq q := List.forall_mem_cons.mpr ⟨lw_p0, List.forall_mem_cons.mpr ⟨lw_p1, List.forall_mem_cons.mpr ⟨lw_p2, List.forall_mem_cons.mpr ⟨lw_p3, List.forall_mem_cons.mpr ⟨lw_p4, List.forall_mem_cons.mpr ⟨lw_p5, List.forall_mem_cons.mpr ⟨lw_p6, List.forall_mem_cons.mpr ⟨lw_p7, List.forall_mem_cons.mpr ⟨lw_p8, List.forall_mem_cons.mpr ⟨lw_p9, List.forall_mem_cons.mpr ⟨lw_p10, List.forall_mem_cons.mpr ⟨lw_p11, List.forall_mem_cons.mpr ⟨lw_p12, List.forall_mem_cons.mpr ⟨lw_p13, List.forall_mem_cons.mpr ⟨lw_p14, List.forall_mem_cons.mpr ⟨lw_p15, fun _ h => absurd h List.not_mem_nil⟩⟩⟩⟩⟩⟩⟩⟩⟩⟩⟩⟩⟩⟩⟩⟩
theorem lw_p16 : lw_okq (⟨"DataflowStoreModel", "beInt", "(II)V"⟩, 13) := ⟨⟨by decide +kernel, by decide +kernel⟩, lw_t1 (List.mem_of_getElem? (i := 155) rfl), lw_t1 (List.mem_of_getElem? (i := 177) rfl), lw_t1 (List.mem_of_getElem? (i := 178) rfl)⟩
theorem lw_p17 : lw_okq (⟨"DataflowStoreModel", "bePair", "(III)V"⟩, 13) := ⟨⟨by decide +kernel, by decide +kernel⟩, lw_t1 (List.mem_of_getElem? (i := 155) rfl), lw_t1 (List.mem_of_getElem? (i := 181) rfl), lw_t1 (List.mem_of_getElem? (i := 182) rfl)⟩
theorem lw_p18 : lw_okq (⟨"DataflowStoreModel", "fits", "(IIII)Z"⟩, 13) := ⟨⟨by decide +kernel, by decide +kernel⟩, lw_t1 (List.mem_of_getElem? (i := 155) rfl), lw_t1 (List.mem_of_getElem? (i := 230) rfl), lw_t1 (List.mem_of_getElem? (i := 231) rfl)⟩
theorem lw_p19 : lw_okq (⟨"DataflowStoreModel", "isVariable", "(I)Z"⟩, 13) := ⟨⟨by decide +kernel, by decide +kernel⟩, lw_t1 (List.mem_of_getElem? (i := 155) rfl), lw_t1 (List.mem_of_getElem? (i := 234) rfl), lw_t1 (List.mem_of_getElem? (i := 235) rfl)⟩
def lw_privs_2 : List (MethodName × Nat) := [(⟨"DataflowStoreModel", "beInt", "(II)V"⟩, 13), (⟨"DataflowStoreModel", "bePair", "(III)V"⟩, 13), (⟨"DataflowStoreModel", "fits", "(IIII)Z"⟩, 13), (⟨"DataflowStoreModel", "isVariable", "(I)Z"⟩, 13)]
theorem lw_r2 : ∀ q ∈ lw_privs_2, lw_okq q := List.forall_mem_cons.mpr ⟨lw_p16, List.forall_mem_cons.mpr ⟨lw_p17, List.forall_mem_cons.mpr ⟨lw_p18, List.forall_mem_cons.mpr ⟨lw_p19, fun _ h => absurd h List.not_mem_nil⟩⟩⟩⟩
def lw_privs : List (MethodName × Nat) := lw_privs_1 ++ (lw_privs_2)
def lw_tbl : List Cond := k2_sels lw_privs ++ tables_1
theorem lw_privs_ok : ∀ q ∈ lw_privs, lw_okq q := by
  show ∀ q ∈ lw_privs_1 ++ (lw_privs_2), lw_okq q
  exact List.forall_mem_append.mpr ⟨lw_r1, lw_r2⟩
-- ===== ONE list of words for every method: the tables' words that hold all through a run =====
def lw_all : List Cond := lw_tbl.filter goodWord
/-- a word of the tables by its place: claim/WORDS.tsv -/
theorem lw_w {w : Cond} (i : Nat) (h : lw_tbl[i]? = some w) (g : goodWord w = true) : w ∈ lw_all := List.mem_filter.mpr ⟨List.mem_of_getElem? h, g⟩
theorem lw_all_tbl {w : Cond} (h : w ∈ lw_all) : w ∈ lw_tbl := (List.mem_filter.mp h).1
theorem lw_self : GoodIn lw_all lw_all := fun w h => ⟨h, good_of_word (List.mem_filter.mp h).2⟩
/-- a class's field words, by their places -/
theorem lw_in (ws : List Cond) (ps : List Nat) (hp : ws = ps.filterMap (fun i => lw_tbl[i]?)) (hg : ws.all goodWord = true) : ∀ w ∈ ws, w ∈ lw_all := by
  intro w h
  have h1 := List.all_eq_true.mp hg w h
  rw [hp] at h
  obtain ⟨i, -, hi⟩ := List.mem_filterMap.mp h
  exact lw_w i hi h1
/-- the words of a contract for the method y with code b, L locals, answer r -/
abbrev ws_ (y : MethodName) (b : ByteArray) (L : Nat) (r : Option FieldType) : List Cond := Cond.code y b L r :: lw_all
theorem lw_meth {y : MethodName} {b : ByteArray} {L : Nat} {r : Option FieldType} (h : Cond.code y b L r ∈ lw_all) : GoodIn lw_all (ws_ y b L r) := by
  intro w hw
  rcases List.mem_cons.mp hw with e | e
  · rw [e]
    exact lw_self _ h
  · exact lw_self _ e
theorem lw_app {a c : List Cond} (ha : ∀ w ∈ a, w ∈ lw_all) (hc : GoodIn lw_all c) : GoodIn lw_all (a ++ c) := by
  intro w hw
  rcases List.mem_append.mp hw with e | e
  · exact lw_self w (ha w e)
  · exact hc w e
/-- what a call through an object asks: cwV n hts (lw_V ..) -/
theorem lw_V {own : String} {idx : Nat} {C : String} {y : MethodName} {b : ByteArray} {L : Nat} {r : Option FieldType} (h1 : Cond.methodLink own idx y ∈ lw_all) (h2 : Cond.instanceMethod y ∈ lw_all) (h3 : Cond.selects C y y ∈ lw_all) (h4 : Cond.initialized C ∈ lw_all) (h5 : Cond.code y b L r ∈ lw_all) : GoodIn lw_all (wsV own idx C y (ws_ y b L r)) := by
  refine lw_app ?_ (lw_meth h5)
  intro w hw
  simp only [List.mem_cons, List.not_mem_nil, or_false] at hw
  rcases hw with e | e | e | e
  · rw [e]; exact h1
  · rw [e]; exact h2
  · rw [e]; exact h3
  · rw [e]; exact h4
/-- what a static call asks: va_cwS n hts (lw_S ..) -/
theorem lw_S {own : String} {idx : Nat} {y : MethodName} {b : ByteArray} {L : Nat} {r : Option FieldType} (h1 : Cond.methodLink own idx y ∈ lw_all) (h2 : Cond.static y ∈ lw_all) (h3 : Cond.initialized y.cls ∈ lw_all) (h4 : Cond.code y b L r ∈ lw_all) : GoodIn lw_all (va_wsS own idx y (ws_ y b L r)) := by
  refine lw_app ?_ (lw_meth h4)
  intro w hw
  simp only [List.mem_cons, List.not_mem_nil, or_false] at hw
  rcases hw with e | e | e
  · rw [e]; exact h1
  · rw [e]; exact h2
  · rw [e]; exact h3
/-- the words of a contract for a method WITH HANDLERS (hh: its table) -/
abbrev wsW_ (y : MethodName) (b : ByteArray) (L : Nat) (r : Option FieldType) (hh : List (Nat × Nat × Nat × Nat)) : List Cond := Cond.codeWith y b L r hh :: lw_all
theorem lw_methW {y : MethodName} {b : ByteArray} {L : Nat} {r : Option FieldType} {hh : List (Nat × Nat × Nat × Nat)} (h : Cond.codeWith y b L r hh ∈ lw_all) : GoodIn lw_all (wsW_ y b L r hh) := by
  intro w hw
  rcases List.mem_cons.mp hw with e | e
  · rw [e]
    exact lw_self _ h
  · exact lw_self _ e
/-- any list of words by their places (lw_in), good -/
theorem lw_good {ws : List Cond} (h : ∀ w ∈ ws, w ∈ lw_all) : GoodIn lw_all ws := fun w hw => lw_self w (h w hw)
/-- what a call of a method with handlers asks: vx_cwVW n hts (lw_VW ..), vx_cwSW n hts (lw_SW ..) -/
theorem lw_VW {own : String} {idx : Nat} {C : String} {y : MethodName} {b : ByteArray} {L : Nat} {r : Option FieldType} {hh : List (Nat × Nat × Nat × Nat)} (h1 : Cond.methodLink own idx y ∈ lw_all) (h2 : Cond.instanceMethod y ∈ lw_all) (h3 : Cond.selects C y y ∈ lw_all) (h4 : Cond.initialized C ∈ lw_all) (h5 : Cond.codeWith y b L r hh ∈ lw_all) : GoodIn lw_all (wsV own idx C y (wsW_ y b L r hh)) := by
  refine lw_app ?_ (lw_methW h5)
  intro w hw
  simp only [List.mem_cons, List.not_mem_nil, or_false] at hw
  rcases hw with e | e | e | e
  · rw [e]; exact h1
  · rw [e]; exact h2
  · rw [e]; exact h3
  · rw [e]; exact h4
theorem lw_SW {own : String} {idx : Nat} {y : MethodName} {b : ByteArray} {L : Nat} {r : Option FieldType} {hh : List (Nat × Nat × Nat × Nat)} (h1 : Cond.methodLink own idx y ∈ lw_all) (h2 : Cond.static y ∈ lw_all) (h3 : Cond.initialized y.cls ∈ lw_all) (h4 : Cond.codeWith y b L r hh ∈ lw_all) : GoodIn lw_all (va_wsS own idx y (wsW_ y b L r hh)) := by
  refine lw_app ?_ (lw_methW h4)
  intro w hw
  simp only [List.mem_cons, List.not_mem_nil, or_false] at hw
  rcases hw with e | e | e
  · rw [e]; exact h1
  · rw [e]; exact h2
  · rw [e]; exact h3
/-- a word by its place in its run of the tables -/
theorem lw_at {r : List Cond} (hr : ∀ w ∈ r, w ∈ lw_tbl) {w : Cond} (i : Nat) (h : r[i]? = some w) : w ∈ lw_tbl := hr w (List.mem_of_getElem? h)
theorem lw_g {w : Cond} (h : w ∈ lw_tbl) (g : goodWord w = true) : w ∈ lw_all := List.mem_filter.mpr ⟨h, g⟩
theorem lw_ms : ∀ w ∈ k2_sels lw_privs, w ∈ lw_tbl := fun w h => show w ∈ k2_sels lw_privs ++ tables_1 from List.mem_append_left _ h
theorem lw_m1 : ∀ w ∈ tables_1_1, w ∈ lw_tbl := fun w h => show w ∈ k2_sels lw_privs ++ tables_1 from List.mem_append_right (k2_sels lw_privs) (show w ∈ tables_1 from List.mem_append_left _ h)
theorem lw_m2 : ∀ w ∈ tables_1_2, w ∈ lw_tbl := fun w h => show w ∈ k2_sels lw_privs ++ tables_1 from List.mem_append_right (k2_sels lw_privs) (show w ∈ tables_1 from List.mem_append_right _ h)
theorem qs0 : (Cond.selects "DataflowStore" ⟨"DataflowStore", "restart", "()V"⟩ ⟨"DataflowStore", "restart", "()V"⟩) ∈ lw_all := lw_g (lw_at lw_ms 0 rfl) rfl
theorem qs1 : (Cond.selects "DataflowStore" ⟨"DataflowStore", "isVariable", "(I)Z"⟩ ⟨"DataflowStore", "isVariable", "(I)Z"⟩) ∈ lw_all := lw_g (lw_at lw_ms 1 rfl) rfl
theorem qs2 : (Cond.selects "DataflowStore" ⟨"DataflowStore", "bindNumber", "(II)V"⟩ ⟨"DataflowStore", "bindNumber", "(II)V"⟩) ∈ lw_all := lw_g (lw_at lw_ms 2 rfl) rfl
theorem qs3 : (Cond.selects "DataflowStore" ⟨"DataflowStore", "head", "(I)I"⟩ ⟨"DataflowStore", "head", "(I)I"⟩) ∈ lw_all := lw_g (lw_at lw_ms 3 rfl) rfl
theorem qs4 : (Cond.selects "DataflowStore" ⟨"DataflowStore", "wake", "(I)V"⟩ ⟨"DataflowStore", "wake", "(I)V"⟩) ∈ lw_all := lw_g (lw_at lw_ms 4 rfl) rfl
theorem qs5 : (Cond.selects "DataflowStore" ⟨"DataflowStore", "want", "(II)V"⟩ ⟨"DataflowStore", "want", "(II)V"⟩) ∈ lw_all := lw_g (lw_at lw_ms 5 rfl) rfl
theorem qs6 : (Cond.selects "DataflowStore" ⟨"DataflowStore", "bindCouple", "(III)V"⟩ ⟨"DataflowStore", "bindCouple", "(III)V"⟩) ∈ lw_all := lw_g (lw_at lw_ms 6 rfl) rfl
theorem qs7 : (Cond.selects "DataflowStore" ⟨"DataflowStore", "work", "()V"⟩ ⟨"DataflowStore", "work", "()V"⟩) ∈ lw_all := lw_g (lw_at lw_ms 7 rfl) rfl
theorem qs8 : (Cond.selects "DataflowStore" ⟨"DataflowStore", "join", "(II)V"⟩ ⟨"DataflowStore", "join", "(II)V"⟩) ∈ lw_all := lw_g (lw_at lw_ms 8 rfl) rfl
theorem qs9 : (Cond.selects "DataflowStore" ⟨"DataflowStore", "lowestReady", "()I"⟩ ⟨"DataflowStore", "lowestReady", "()I"⟩) ∈ lw_all := lw_g (lw_at lw_ms 9 rfl) rfl
theorem qs10 : (Cond.selects "DataflowStore" ⟨"DataflowStore", "tryStatement", "(I)V"⟩ ⟨"DataflowStore", "tryStatement", "(I)V"⟩) ∈ lw_all := lw_g (lw_at lw_ms 10 rfl) rfl
theorem qs11 : (Cond.selects "DataflowStore" ⟨"DataflowStore", "computed", "(III)I"⟩ ⟨"DataflowStore", "computed", "(III)I"⟩) ∈ lw_all := lw_g (lw_at lw_ms 11 rfl) rfl
theorem qs12 : (Cond.selects "DataflowStoreModel" ⟨"DataflowStoreModel", "follow", "()V"⟩ ⟨"DataflowStoreModel", "follow", "()V"⟩) ∈ lw_all := lw_g (lw_at lw_ms 12 rfl) rfl
theorem qs13 : (Cond.selects "DataflowStoreModel" ⟨"DataflowStoreModel", "ready", "(I)Z"⟩ ⟨"DataflowStoreModel", "ready", "(I)Z"⟩) ∈ lw_all := lw_g (lw_at lw_ms 13 rfl) rfl
theorem qs14 : (Cond.selects "DataflowStoreModel" ⟨"DataflowStoreModel", "apply", "(I)V"⟩ ⟨"DataflowStoreModel", "apply", "(I)V"⟩) ∈ lw_all := lw_g (lw_at lw_ms 14 rfl) rfl
theorem qs15 : (Cond.selects "DataflowStoreModel" ⟨"DataflowStoreModel", "join", "(II)V"⟩ ⟨"DataflowStoreModel", "join", "(II)V"⟩) ∈ lw_all := lw_g (lw_at lw_ms 15 rfl) rfl
theorem qs16 : (Cond.selects "DataflowStoreModel" ⟨"DataflowStoreModel", "beInt", "(II)V"⟩ ⟨"DataflowStoreModel", "beInt", "(II)V"⟩) ∈ lw_all := lw_g (lw_at lw_ms 16 rfl) rfl
theorem qs17 : (Cond.selects "DataflowStoreModel" ⟨"DataflowStoreModel", "bePair", "(III)V"⟩ ⟨"DataflowStoreModel", "bePair", "(III)V"⟩) ∈ lw_all := lw_g (lw_at lw_ms 17 rfl) rfl
theorem qs18 : (Cond.selects "DataflowStoreModel" ⟨"DataflowStoreModel", "fits", "(IIII)Z"⟩ ⟨"DataflowStoreModel", "fits", "(IIII)Z"⟩) ∈ lw_all := lw_g (lw_at lw_ms 18 rfl) rfl
theorem qs19 : (Cond.selects "DataflowStoreModel" ⟨"DataflowStoreModel", "isVariable", "(I)Z"⟩ ⟨"DataflowStoreModel", "isVariable", "(I)Z"⟩) ∈ lw_all := lw_g (lw_at lw_ms 19 rfl) rfl
end
section
/-! DataflowStore -/
set_option maxRecDepth 100000
def RX0 : String := "DataflowStore"
def TX0 : u_T := fun k => match k with
  | 0 => ("DataflowStore", "statementCount", "I", false)
  | 1 => ("DataflowStore", "kind", "[B", true)
  | 2 => ("DataflowStore", "target", "[B", true)
  | 3 => ("DataflowStore", "sourceY", "[B", true)
  | 4 => ("DataflowStore", "sourceZ", "[B", true)
  | 5 => ("DataflowStore", "suspended", "J", false)
  | 6 => ("DataflowStore", "leadsTo", "[B", true)
  | 7 => ("DataflowStore", "weight", "[B", true)
  | 8 => ("DataflowStore", "state", "[B", true)
  | 9 => ("DataflowStore", "number", "[I", true)
  | 10 => ("DataflowStore", "left", "[B", true)
  | 11 => ("DataflowStore", "right", "[B", true)
  | 12 => ("DataflowStore", "waiters", "[J", true)
  | 13 => ("DataflowStore", "joinCount", "I", false)
  | 14 => ("DataflowStore", "joinA", "[B", true)
  | 15 => ("DataflowStore", "joinB", "[B", true)
  | 16 => ("DataflowStore", "ready", "J", false)
  | _ => ("DataflowStore", "broken", "Z", false)
def tyX0 : Nat → FieldType := fun k => match k with
  | 0 => .int
  | 1 => .array .byte
  | 2 => .array .byte
  | 3 => .array .byte
  | 4 => .array .byte
  | 5 => .long
  | 6 => .array .byte
  | 7 => .array .byte
  | 8 => .array .byte
  | 9 => .array .int
  | 10 => .array .byte
  | 11 => .array .byte
  | 12 => .array .long
  | 13 => .int
  | 14 => .array .byte
  | 15 => .array .byte
  | 16 => .long
  | _ => .boolean
abbrev wsX00 : List Cond := u_ws RX0 TX0 18
set_option maxRecDepth 100000 in
theorem nmX0 : ∀ a, a < 18 → ∀ b, b < 18 → a ≠ b → (TX0 a).2.1 ≠ (TX0 b).2.1 := by decide +kernel
set_option maxRecDepth 100000 in
theorem tyX0_ok : ∀ k, k < 18 → parseFieldDescriptor (TX0 k).2.2.1 = some (tyX0 k) := by decide +kernel
theorem q90 : (Jvm.Cond.arrayClass Jvm.ClassFile.FieldType.byte) ∈ lw_all := lw_g (lw_at lw_m1 70 rfl) rfl
set_option maxRecDepth 100000
theorem q91 : (Jvm.Cond.arrayClass Jvm.ClassFile.FieldType.int) ∈ lw_all := lw_g (lw_at lw_m1 71 rfl) rfl
theorem q92 : (Jvm.Cond.arrayClass Jvm.ClassFile.FieldType.long) ∈ lw_all := lw_g (lw_at lw_m1 72 rfl) rfl
theorem q244 : (Jvm.Cond.arrayClass Jvm.ClassFile.FieldType.boolean) ∈ lw_all := lw_g (lw_at lw_m1 224 rfl) rfl

/-! java/lang/Object -/
set_option maxRecDepth 100000
def RJ0 : String := "java/lang/Object"
abbrev cJ0_init : ByteArray := object_method_1_code
def yJ0_init : MethodName := ⟨RJ0, "<init>", "()V"⟩
theorem dJ0_init_0 : decode cJ0_init 0 = .ok (.return_, 1) := by decide +kernel
theorem q29 : (Jvm.Cond.instanceMethod ({ cls := "java/lang/Object", name := "<init>", desc := "()V" } : Jvm.MethodName)) ∈ lw_all := lw_g (lw_at lw_m1 9 rfl) rfl
theorem q30 : (Jvm.Cond.code ({ cls := "java/lang/Object", name := "<init>", desc := "()V" } : Jvm.MethodName) object_method_1_code (1 : Nat) (Option.none : Option Jvm.ClassFile.FieldType)) ∈ lw_all := lw_g (lw_at lw_m1 10 rfl) rfl

theorem q21 : (Jvm.Cond.initialized "DataflowStore") ∈ lw_all := lw_g (lw_at lw_m1 1 rfl) rfl
theorem q24 : (Jvm.Cond.instantiable "DataflowStore" (18 : Nat)) ∈ lw_all := lw_g (lw_at lw_m1 4 rfl) rfl
theorem q26 : (Jvm.Cond.instanceMethod ({ cls := "DataflowStore", name := "<init>", desc := "()V" } : Jvm.MethodName)) ∈ lw_all := lw_g (lw_at lw_m1 6 rfl) rfl
theorem q27 : (Jvm.Cond.code ({ cls := "DataflowStore", name := "<init>", desc := "()V" } : Jvm.MethodName) prog_1_method_1_code (1 : Nat) (Option.none : Option Jvm.ClassFile.FieldType)) ∈ lw_all := lw_g (lw_at lw_m1 7 rfl) rfl
theorem q28 : (Jvm.Cond.methodLink "DataflowStore" (1 : Nat) ({ cls := "java/lang/Object", name := "<init>", desc := "()V" } : Jvm.MethodName)) ∈ lw_all := lw_g (lw_at lw_m1 8 rfl) rfl
theorem q31 : (Jvm.Cond.methodLink "DataflowStore" (51 : Nat) ({ cls := "DataflowStore", name := "restart", desc := "()V" } : Jvm.MethodName)) ∈ lw_all := lw_g (lw_at lw_m1 11 rfl) rfl
theorem q32 : (Jvm.Cond.privateMethod ({ cls := "DataflowStore", name := "restart", desc := "()V" } : Jvm.MethodName)) ∈ lw_tbl := lw_at lw_m1 12 rfl
theorem q33 : (Jvm.Cond.instanceMethod ({ cls := "DataflowStore", name := "restart", desc := "()V" } : Jvm.MethodName)) ∈ lw_all := lw_g (lw_at lw_m1 13 rfl) rfl
theorem q34 : (Jvm.Cond.code ({ cls := "DataflowStore", name := "restart", desc := "()V" } : Jvm.MethodName) prog_1_method_2_code (2 : Nat) (Option.none : Option Jvm.ClassFile.FieldType)) ∈ lw_all := lw_g (lw_at lw_m1 14 rfl) rfl
theorem q35 : (Jvm.Cond.fieldLink "DataflowStore" (54 : Nat) "DataflowStore" "statementCount" "I") ∈ lw_all := lw_g (lw_at lw_m1 15 rfl) rfl
theorem q36 : (Jvm.Cond.fieldLink "DataflowStore" (7 : Nat) "DataflowStore" "kind" "[B") ∈ lw_all := lw_g (lw_at lw_m1 16 rfl) rfl
theorem q37 : (Jvm.Cond.fieldLink "DataflowStore" (13 : Nat) "DataflowStore" "target" "[B") ∈ lw_all := lw_g (lw_at lw_m1 17 rfl) rfl
theorem q38 : (Jvm.Cond.fieldLink "DataflowStore" (16 : Nat) "DataflowStore" "sourceY" "[B") ∈ lw_all := lw_g (lw_at lw_m1 18 rfl) rfl
theorem q39 : (Jvm.Cond.fieldLink "DataflowStore" (19 : Nat) "DataflowStore" "sourceZ" "[B") ∈ lw_all := lw_g (lw_at lw_m1 19 rfl) rfl
theorem q40 : (Jvm.Cond.fieldLink "DataflowStore" (58 : Nat) "DataflowStore" "suspended" "J") ∈ lw_all := lw_g (lw_at lw_m1 20 rfl) rfl
theorem q41 : (Jvm.Cond.fieldLink "DataflowStore" (22 : Nat) "DataflowStore" "leadsTo" "[B") ∈ lw_all := lw_g (lw_at lw_m1 21 rfl) rfl
theorem q42 : (Jvm.Cond.fieldLink "DataflowStore" (25 : Nat) "DataflowStore" "weight" "[B") ∈ lw_all := lw_g (lw_at lw_m1 22 rfl) rfl
theorem q43 : (Jvm.Cond.fieldLink "DataflowStore" (28 : Nat) "DataflowStore" "state" "[B") ∈ lw_all := lw_g (lw_at lw_m1 23 rfl) rfl
theorem q44 : (Jvm.Cond.fieldLink "DataflowStore" (31 : Nat) "DataflowStore" "number" "[I") ∈ lw_all := lw_g (lw_at lw_m1 24 rfl) rfl
theorem q45 : (Jvm.Cond.fieldLink "DataflowStore" (35 : Nat) "DataflowStore" "left" "[B") ∈ lw_all := lw_g (lw_at lw_m1 25 rfl) rfl
theorem q46 : (Jvm.Cond.fieldLink "DataflowStore" (38 : Nat) "DataflowStore" "right" "[B") ∈ lw_all := lw_g (lw_at lw_m1 26 rfl) rfl
theorem q47 : (Jvm.Cond.fieldLink "DataflowStore" (41 : Nat) "DataflowStore" "waiters" "[J") ∈ lw_all := lw_g (lw_at lw_m1 27 rfl) rfl
theorem q48 : (Jvm.Cond.fieldLink "DataflowStore" (69 : Nat) "DataflowStore" "joinCount" "I") ∈ lw_all := lw_g (lw_at lw_m1 28 rfl) rfl
theorem q49 : (Jvm.Cond.fieldLink "DataflowStore" (45 : Nat) "DataflowStore" "joinA" "[B") ∈ lw_all := lw_g (lw_at lw_m1 29 rfl) rfl
theorem q50 : (Jvm.Cond.fieldLink "DataflowStore" (48 : Nat) "DataflowStore" "joinB" "[B") ∈ lw_all := lw_g (lw_at lw_m1 30 rfl) rfl
theorem q51 : (Jvm.Cond.fieldLink "DataflowStore" (66 : Nat) "DataflowStore" "ready" "J") ∈ lw_all := lw_g (lw_at lw_m1 31 rfl) rfl
theorem q52 : (Jvm.Cond.fieldLink "DataflowStore" (62 : Nat) "DataflowStore" "broken" "Z") ∈ lw_all := lw_g (lw_at lw_m1 32 rfl) rfl
theorem q53 : (Jvm.Cond.lays "DataflowStore" "DataflowStore" "statementCount" "I") ∈ lw_all := lw_g (lw_at lw_m1 33 rfl) rfl
theorem q54 : (Jvm.Cond.soleField "DataflowStore" "statementCount") ∈ lw_all := lw_g (lw_at lw_m1 34 rfl) rfl
theorem q55 : (Jvm.Cond.laysFinal "DataflowStore" "DataflowStore" "kind" "[B") ∈ lw_all := lw_g (lw_at lw_m1 35 rfl) rfl
theorem q56 : (Jvm.Cond.soleField "DataflowStore" "kind") ∈ lw_all := lw_g (lw_at lw_m1 36 rfl) rfl
theorem q57 : (Jvm.Cond.laysFinal "DataflowStore" "DataflowStore" "target" "[B") ∈ lw_all := lw_g (lw_at lw_m1 37 rfl) rfl
theorem q58 : (Jvm.Cond.soleField "DataflowStore" "target") ∈ lw_all := lw_g (lw_at lw_m1 38 rfl) rfl
theorem q59 : (Jvm.Cond.laysFinal "DataflowStore" "DataflowStore" "sourceY" "[B") ∈ lw_all := lw_g (lw_at lw_m1 39 rfl) rfl
theorem q60 : (Jvm.Cond.soleField "DataflowStore" "sourceY") ∈ lw_all := lw_g (lw_at lw_m1 40 rfl) rfl
theorem q61 : (Jvm.Cond.laysFinal "DataflowStore" "DataflowStore" "sourceZ" "[B") ∈ lw_all := lw_g (lw_at lw_m1 41 rfl) rfl
theorem q62 : (Jvm.Cond.soleField "DataflowStore" "sourceZ") ∈ lw_all := lw_g (lw_at lw_m1 42 rfl) rfl
theorem q63 : (Jvm.Cond.lays "DataflowStore" "DataflowStore" "suspended" "J") ∈ lw_all := lw_g (lw_at lw_m1 43 rfl) rfl
theorem q64 : (Jvm.Cond.soleField "DataflowStore" "suspended") ∈ lw_all := lw_g (lw_at lw_m1 44 rfl) rfl
theorem q65 : (Jvm.Cond.laysFinal "DataflowStore" "DataflowStore" "leadsTo" "[B") ∈ lw_all := lw_g (lw_at lw_m1 45 rfl) rfl
theorem q66 : (Jvm.Cond.soleField "DataflowStore" "leadsTo") ∈ lw_all := lw_g (lw_at lw_m1 46 rfl) rfl
theorem q67 : (Jvm.Cond.laysFinal "DataflowStore" "DataflowStore" "weight" "[B") ∈ lw_all := lw_g (lw_at lw_m1 47 rfl) rfl
theorem q68 : (Jvm.Cond.soleField "DataflowStore" "weight") ∈ lw_all := lw_g (lw_at lw_m1 48 rfl) rfl
theorem q69 : (Jvm.Cond.laysFinal "DataflowStore" "DataflowStore" "state" "[B") ∈ lw_all := lw_g (lw_at lw_m1 49 rfl) rfl
theorem q70 : (Jvm.Cond.soleField "DataflowStore" "state") ∈ lw_all := lw_g (lw_at lw_m1 50 rfl) rfl
theorem q71 : (Jvm.Cond.laysFinal "DataflowStore" "DataflowStore" "number" "[I") ∈ lw_all := lw_g (lw_at lw_m1 51 rfl) rfl
theorem q72 : (Jvm.Cond.soleField "DataflowStore" "number") ∈ lw_all := lw_g (lw_at lw_m1 52 rfl) rfl
theorem q73 : (Jvm.Cond.laysFinal "DataflowStore" "DataflowStore" "left" "[B") ∈ lw_all := lw_g (lw_at lw_m1 53 rfl) rfl
theorem q74 : (Jvm.Cond.soleField "DataflowStore" "left") ∈ lw_all := lw_g (lw_at lw_m1 54 rfl) rfl
theorem q75 : (Jvm.Cond.laysFinal "DataflowStore" "DataflowStore" "right" "[B") ∈ lw_all := lw_g (lw_at lw_m1 55 rfl) rfl
theorem q76 : (Jvm.Cond.soleField "DataflowStore" "right") ∈ lw_all := lw_g (lw_at lw_m1 56 rfl) rfl
theorem q77 : (Jvm.Cond.laysFinal "DataflowStore" "DataflowStore" "waiters" "[J") ∈ lw_all := lw_g (lw_at lw_m1 57 rfl) rfl
theorem q78 : (Jvm.Cond.soleField "DataflowStore" "waiters") ∈ lw_all := lw_g (lw_at lw_m1 58 rfl) rfl
theorem q79 : (Jvm.Cond.lays "DataflowStore" "DataflowStore" "joinCount" "I") ∈ lw_all := lw_g (lw_at lw_m1 59 rfl) rfl
theorem q80 : (Jvm.Cond.soleField "DataflowStore" "joinCount") ∈ lw_all := lw_g (lw_at lw_m1 60 rfl) rfl
theorem q81 : (Jvm.Cond.laysFinal "DataflowStore" "DataflowStore" "joinA" "[B") ∈ lw_all := lw_g (lw_at lw_m1 61 rfl) rfl
theorem q82 : (Jvm.Cond.soleField "DataflowStore" "joinA") ∈ lw_all := lw_g (lw_at lw_m1 62 rfl) rfl
theorem q83 : (Jvm.Cond.laysFinal "DataflowStore" "DataflowStore" "joinB" "[B") ∈ lw_all := lw_g (lw_at lw_m1 63 rfl) rfl
theorem q84 : (Jvm.Cond.soleField "DataflowStore" "joinB") ∈ lw_all := lw_g (lw_at lw_m1 64 rfl) rfl
theorem q85 : (Jvm.Cond.lays "DataflowStore" "DataflowStore" "ready" "J") ∈ lw_all := lw_g (lw_at lw_m1 65 rfl) rfl
theorem q86 : (Jvm.Cond.soleField "DataflowStore" "ready") ∈ lw_all := lw_g (lw_at lw_m1 66 rfl) rfl
theorem q87 : (Jvm.Cond.lays "DataflowStore" "DataflowStore" "broken" "Z") ∈ lw_all := lw_g (lw_at lw_m1 67 rfl) rfl
theorem q88 : (Jvm.Cond.soleField "DataflowStore" "broken") ∈ lw_all := lw_g (lw_at lw_m1 68 rfl) rfl
theorem q89 : (Jvm.Cond.superclass "DataflowStore" "java/lang/Object") ∈ lw_all := lw_g (lw_at lw_m1 69 rfl) rfl
theorem q94 : (Jvm.Cond.instanceMethod ({ cls := "DataflowStore", name := "tell", desc := "(IIII)I" } : Jvm.MethodName)) ∈ lw_all := lw_g (lw_at lw_m1 74 rfl) rfl
theorem q95 : (Jvm.Cond.selects "DataflowStore" ({ cls := "DataflowStore", name := "tell", desc := "(IIII)I" } : Jvm.MethodName) ({ cls := "DataflowStore", name := "tell", desc := "(IIII)I" } : Jvm.MethodName)) ∈ lw_all := lw_g (lw_at lw_m1 75 rfl) rfl
theorem q96 : (Jvm.Cond.code ({ cls := "DataflowStore", name := "tell", desc := "(IIII)I" } : Jvm.MethodName) prog_1_method_3_code (7 : Nat) (Option.some Jvm.ClassFile.FieldType.int)) ∈ lw_all := lw_g (lw_at lw_m1 76 rfl) rfl
theorem q97 : (Jvm.Cond.methodLink "DataflowStore" (72 : Nat) ({ cls := "DataflowStore", name := "isVariable", desc := "(I)Z" } : Jvm.MethodName)) ∈ lw_all := lw_g (lw_at lw_m1 77 rfl) rfl
theorem q98 : (Jvm.Cond.privateMethod ({ cls := "DataflowStore", name := "isVariable", desc := "(I)Z" } : Jvm.MethodName)) ∈ lw_tbl := lw_at lw_m1 78 rfl
theorem q99 : (Jvm.Cond.instanceMethod ({ cls := "DataflowStore", name := "isVariable", desc := "(I)Z" } : Jvm.MethodName)) ∈ lw_all := lw_g (lw_at lw_m1 79 rfl) rfl
theorem q100 : (Jvm.Cond.code ({ cls := "DataflowStore", name := "isVariable", desc := "(I)Z" } : Jvm.MethodName) prog_1_method_4_code (2 : Nat) (Option.some Jvm.ClassFile.FieldType.boolean)) ∈ lw_all := lw_g (lw_at lw_m1 80 rfl) rfl
theorem q101 : (Jvm.Cond.methodLink "DataflowStore" (76 : Nat) ({ cls := "DataflowStore", name := "bindNumber", desc := "(II)V" } : Jvm.MethodName)) ∈ lw_all := lw_g (lw_at lw_m1 81 rfl) rfl
theorem q102 : (Jvm.Cond.privateMethod ({ cls := "DataflowStore", name := "bindNumber", desc := "(II)V" } : Jvm.MethodName)) ∈ lw_tbl := lw_at lw_m1 82 rfl
theorem q103 : (Jvm.Cond.instanceMethod ({ cls := "DataflowStore", name := "bindNumber", desc := "(II)V" } : Jvm.MethodName)) ∈ lw_all := lw_g (lw_at lw_m1 83 rfl) rfl
theorem q104 : (Jvm.Cond.code ({ cls := "DataflowStore", name := "bindNumber", desc := "(II)V" } : Jvm.MethodName) prog_1_method_16_code (4 : Nat) (Option.none : Option Jvm.ClassFile.FieldType)) ∈ lw_all := lw_g (lw_at lw_m1 84 rfl) rfl
theorem q105 : (Jvm.Cond.methodLink "DataflowStore" (90 : Nat) ({ cls := "DataflowStore", name := "head", desc := "(I)I" } : Jvm.MethodName)) ∈ lw_all := lw_g (lw_at lw_m1 85 rfl) rfl
theorem q106 : (Jvm.Cond.privateMethod ({ cls := "DataflowStore", name := "head", desc := "(I)I" } : Jvm.MethodName)) ∈ lw_tbl := lw_at lw_m1 86 rfl
theorem q107 : (Jvm.Cond.instanceMethod ({ cls := "DataflowStore", name := "head", desc := "(I)I" } : Jvm.MethodName)) ∈ lw_all := lw_g (lw_at lw_m1 87 rfl) rfl
theorem q108 : (Jvm.Cond.code ({ cls := "DataflowStore", name := "head", desc := "(I)I" } : Jvm.MethodName) prog_1_method_13_code (3 : Nat) (Option.some Jvm.ClassFile.FieldType.int)) ∈ lw_all := lw_g (lw_at lw_m1 88 rfl) rfl
theorem q109 : (Jvm.Cond.methodLink "DataflowStore" (94 : Nat) ({ cls := "DataflowStore", name := "wake", desc := "(I)V" } : Jvm.MethodName)) ∈ lw_all := lw_g (lw_at lw_m1 89 rfl) rfl
theorem q110 : (Jvm.Cond.privateMethod ({ cls := "DataflowStore", name := "wake", desc := "(I)V" } : Jvm.MethodName)) ∈ lw_tbl := lw_at lw_m1 90 rfl
theorem q111 : (Jvm.Cond.instanceMethod ({ cls := "DataflowStore", name := "wake", desc := "(I)V" } : Jvm.MethodName)) ∈ lw_all := lw_g (lw_at lw_m1 91 rfl) rfl
theorem q112 : (Jvm.Cond.code ({ cls := "DataflowStore", name := "wake", desc := "(I)V" } : Jvm.MethodName) prog_1_method_15_code (2 : Nat) (Option.none : Option Jvm.ClassFile.FieldType)) ∈ lw_all := lw_g (lw_at lw_m1 92 rfl) rfl
theorem q113 : (Jvm.Cond.methodLink "DataflowStore" (80 : Nat) ({ cls := "DataflowStore", name := "want", desc := "(II)V" } : Jvm.MethodName)) ∈ lw_all := lw_g (lw_at lw_m1 93 rfl) rfl
theorem q114 : (Jvm.Cond.privateMethod ({ cls := "DataflowStore", name := "want", desc := "(II)V" } : Jvm.MethodName)) ∈ lw_tbl := lw_at lw_m1 94 rfl
theorem q115 : (Jvm.Cond.instanceMethod ({ cls := "DataflowStore", name := "want", desc := "(II)V" } : Jvm.MethodName)) ∈ lw_all := lw_g (lw_at lw_m1 95 rfl) rfl
theorem q116 : (Jvm.Cond.code ({ cls := "DataflowStore", name := "want", desc := "(II)V" } : Jvm.MethodName) prog_1_method_14_code (3 : Nat) (Option.none : Option Jvm.ClassFile.FieldType)) ∈ lw_all := lw_g (lw_at lw_m1 96 rfl) rfl
theorem q117 : (Jvm.Cond.methodLink "DataflowStore" (83 : Nat) ({ cls := "DataflowStore", name := "bindCouple", desc := "(III)V" } : Jvm.MethodName)) ∈ lw_all := lw_g (lw_at lw_m1 97 rfl) rfl
theorem q118 : (Jvm.Cond.privateMethod ({ cls := "DataflowStore", name := "bindCouple", desc := "(III)V" } : Jvm.MethodName)) ∈ lw_tbl := lw_at lw_m1 98 rfl
theorem q119 : (Jvm.Cond.instanceMethod ({ cls := "DataflowStore", name := "bindCouple", desc := "(III)V" } : Jvm.MethodName)) ∈ lw_all := lw_g (lw_at lw_m1 99 rfl) rfl
theorem q120 : (Jvm.Cond.code ({ cls := "DataflowStore", name := "bindCouple", desc := "(III)V" } : Jvm.MethodName) prog_1_method_17_code (5 : Nat) (Option.none : Option Jvm.ClassFile.FieldType)) ∈ lw_all := lw_g (lw_at lw_m1 100 rfl) rfl
theorem q121 : (Jvm.Cond.methodLink "DataflowStore" (87 : Nat) ({ cls := "DataflowStore", name := "work", desc := "()V" } : Jvm.MethodName)) ∈ lw_all := lw_g (lw_at lw_m1 101 rfl) rfl
theorem q122 : (Jvm.Cond.privateMethod ({ cls := "DataflowStore", name := "work", desc := "()V" } : Jvm.MethodName)) ∈ lw_tbl := lw_at lw_m1 102 rfl
theorem q123 : (Jvm.Cond.instanceMethod ({ cls := "DataflowStore", name := "work", desc := "()V" } : Jvm.MethodName)) ∈ lw_all := lw_g (lw_at lw_m1 103 rfl) rfl
theorem q124 : (Jvm.Cond.code ({ cls := "DataflowStore", name := "work", desc := "()V" } : Jvm.MethodName) prog_1_method_19_code (2 : Nat) (Option.none : Option Jvm.ClassFile.FieldType)) ∈ lw_all := lw_g (lw_at lw_m1 104 rfl) rfl
theorem q125 : (Jvm.Cond.methodLink "DataflowStore" (98 : Nat) ({ cls := "DataflowStore", name := "join", desc := "(II)V" } : Jvm.MethodName)) ∈ lw_all := lw_g (lw_at lw_m1 105 rfl) rfl
theorem q126 : (Jvm.Cond.privateMethod ({ cls := "DataflowStore", name := "join", desc := "(II)V" } : Jvm.MethodName)) ∈ lw_tbl := lw_at lw_m1 106 rfl
theorem q127 : (Jvm.Cond.instanceMethod ({ cls := "DataflowStore", name := "join", desc := "(II)V" } : Jvm.MethodName)) ∈ lw_all := lw_g (lw_at lw_m1 107 rfl) rfl
theorem q128 : (Jvm.Cond.code ({ cls := "DataflowStore", name := "join", desc := "(II)V" } : Jvm.MethodName) prog_1_method_18_code (7 : Nat) (Option.none : Option Jvm.ClassFile.FieldType)) ∈ lw_all := lw_g (lw_at lw_m1 108 rfl) rfl
theorem q129 : (Jvm.Cond.methodLink "DataflowStore" (101 : Nat) ({ cls := "DataflowStore", name := "lowestReady", desc := "()I" } : Jvm.MethodName)) ∈ lw_all := lw_g (lw_at lw_m1 109 rfl) rfl
theorem q130 : (Jvm.Cond.privateMethod ({ cls := "DataflowStore", name := "lowestReady", desc := "()I" } : Jvm.MethodName)) ∈ lw_tbl := lw_at lw_m1 110 rfl
theorem q131 : (Jvm.Cond.instanceMethod ({ cls := "DataflowStore", name := "lowestReady", desc := "()I" } : Jvm.MethodName)) ∈ lw_all := lw_g (lw_at lw_m1 111 rfl) rfl
theorem q132 : (Jvm.Cond.code ({ cls := "DataflowStore", name := "lowestReady", desc := "()I" } : Jvm.MethodName) prog_1_method_20_code (2 : Nat) (Option.some Jvm.ClassFile.FieldType.int)) ∈ lw_all := lw_g (lw_at lw_m1 112 rfl) rfl
theorem q133 : (Jvm.Cond.constantLong "DataflowStore" (105 : Nat) (-1 : Int64)) ∈ lw_all := lw_g (lw_at lw_m1 113 rfl) rfl
theorem q134 : (Jvm.Cond.methodLink "DataflowStore" (107 : Nat) ({ cls := "DataflowStore", name := "tryStatement", desc := "(I)V" } : Jvm.MethodName)) ∈ lw_all := lw_g (lw_at lw_m1 114 rfl) rfl
theorem q135 : (Jvm.Cond.privateMethod ({ cls := "DataflowStore", name := "tryStatement", desc := "(I)V" } : Jvm.MethodName)) ∈ lw_tbl := lw_at lw_m1 115 rfl
theorem q136 : (Jvm.Cond.instanceMethod ({ cls := "DataflowStore", name := "tryStatement", desc := "(I)V" } : Jvm.MethodName)) ∈ lw_all := lw_g (lw_at lw_m1 116 rfl) rfl
theorem q137 : (Jvm.Cond.code ({ cls := "DataflowStore", name := "tryStatement", desc := "(I)V" } : Jvm.MethodName) prog_1_method_21_code (7 : Nat) (Option.none : Option Jvm.ClassFile.FieldType)) ∈ lw_all := lw_g (lw_at lw_m1 117 rfl) rfl
theorem q138 : (Jvm.Cond.methodLink "DataflowStore" (110 : Nat) ({ cls := "DataflowStore", name := "computed", desc := "(III)I" } : Jvm.MethodName)) ∈ lw_all := lw_g (lw_at lw_m1 118 rfl) rfl
theorem q139 : (Jvm.Cond.privateMethod ({ cls := "DataflowStore", name := "computed", desc := "(III)I" } : Jvm.MethodName)) ∈ lw_tbl := lw_at lw_m1 119 rfl
theorem q140 : (Jvm.Cond.instanceMethod ({ cls := "DataflowStore", name := "computed", desc := "(III)I" } : Jvm.MethodName)) ∈ lw_all := lw_g (lw_at lw_m1 120 rfl) rfl
theorem q141 : (Jvm.Cond.code ({ cls := "DataflowStore", name := "computed", desc := "(III)I" } : Jvm.MethodName) prog_1_method_22_code (4 : Nat) (Option.some Jvm.ClassFile.FieldType.int)) ∈ lw_all := lw_g (lw_at lw_m1 121 rfl) rfl
theorem q143 : (Jvm.Cond.instanceMethod ({ cls := "DataflowStore", name := "failed", desc := "()Z" } : Jvm.MethodName)) ∈ lw_all := lw_g (lw_at lw_m1 123 rfl) rfl
theorem q144 : (Jvm.Cond.selects "DataflowStore" ({ cls := "DataflowStore", name := "failed", desc := "()Z" } : Jvm.MethodName) ({ cls := "DataflowStore", name := "failed", desc := "()Z" } : Jvm.MethodName)) ∈ lw_all := lw_g (lw_at lw_m1 124 rfl) rfl
theorem q145 : (Jvm.Cond.code ({ cls := "DataflowStore", name := "failed", desc := "()Z" } : Jvm.MethodName) prog_1_method_5_code (1 : Nat) (Option.some Jvm.ClassFile.FieldType.boolean)) ∈ lw_all := lw_g (lw_at lw_m1 125 rfl) rfl
theorem q147 : (Jvm.Cond.instanceMethod ({ cls := "DataflowStore", name := "state", desc := "(I)I" } : Jvm.MethodName)) ∈ lw_all := lw_g (lw_at lw_m1 127 rfl) rfl
theorem q148 : (Jvm.Cond.selects "DataflowStore" ({ cls := "DataflowStore", name := "state", desc := "(I)I" } : Jvm.MethodName) ({ cls := "DataflowStore", name := "state", desc := "(I)I" } : Jvm.MethodName)) ∈ lw_all := lw_g (lw_at lw_m1 128 rfl) rfl
theorem q149 : (Jvm.Cond.code ({ cls := "DataflowStore", name := "state", desc := "(I)I" } : Jvm.MethodName) prog_1_method_6_code (2 : Nat) (Option.some Jvm.ClassFile.FieldType.int)) ∈ lw_all := lw_g (lw_at lw_m1 129 rfl) rfl
theorem q151 : (Jvm.Cond.instanceMethod ({ cls := "DataflowStore", name := "value", desc := "(I)I" } : Jvm.MethodName)) ∈ lw_all := lw_g (lw_at lw_m1 131 rfl) rfl
theorem q152 : (Jvm.Cond.selects "DataflowStore" ({ cls := "DataflowStore", name := "value", desc := "(I)I" } : Jvm.MethodName) ({ cls := "DataflowStore", name := "value", desc := "(I)I" } : Jvm.MethodName)) ∈ lw_all := lw_g (lw_at lw_m1 132 rfl) rfl
theorem q153 : (Jvm.Cond.code ({ cls := "DataflowStore", name := "value", desc := "(I)I" } : Jvm.MethodName) prog_1_method_7_code (3 : Nat) (Option.some Jvm.ClassFile.FieldType.int)) ∈ lw_all := lw_g (lw_at lw_m1 133 rfl) rfl
theorem q155 : (Jvm.Cond.instanceMethod ({ cls := "DataflowStore", name := "linked", desc := "(II)Z" } : Jvm.MethodName)) ∈ lw_all := lw_g (lw_at lw_m1 135 rfl) rfl
theorem q156 : (Jvm.Cond.selects "DataflowStore" ({ cls := "DataflowStore", name := "linked", desc := "(II)Z" } : Jvm.MethodName) ({ cls := "DataflowStore", name := "linked", desc := "(II)Z" } : Jvm.MethodName)) ∈ lw_all := lw_g (lw_at lw_m1 136 rfl) rfl
theorem q157 : (Jvm.Cond.code ({ cls := "DataflowStore", name := "linked", desc := "(II)Z" } : Jvm.MethodName) prog_1_method_8_code (3 : Nat) (Option.some Jvm.ClassFile.FieldType.boolean)) ∈ lw_all := lw_g (lw_at lw_m1 137 rfl) rfl
theorem q159 : (Jvm.Cond.instanceMethod ({ cls := "DataflowStore", name := "part", desc := "(II)I" } : Jvm.MethodName)) ∈ lw_all := lw_g (lw_at lw_m1 139 rfl) rfl
theorem q160 : (Jvm.Cond.selects "DataflowStore" ({ cls := "DataflowStore", name := "part", desc := "(II)I" } : Jvm.MethodName) ({ cls := "DataflowStore", name := "part", desc := "(II)I" } : Jvm.MethodName)) ∈ lw_all := lw_g (lw_at lw_m1 140 rfl) rfl
theorem q161 : (Jvm.Cond.code ({ cls := "DataflowStore", name := "part", desc := "(II)I" } : Jvm.MethodName) prog_1_method_9_code (6 : Nat) (Option.some Jvm.ClassFile.FieldType.int)) ∈ lw_all := lw_g (lw_at lw_m1 141 rfl) rfl
theorem q163 : (Jvm.Cond.instanceMethod ({ cls := "DataflowStore", name := "waiting", desc := "()I" } : Jvm.MethodName)) ∈ lw_all := lw_g (lw_at lw_m1 143 rfl) rfl
theorem q164 : (Jvm.Cond.selects "DataflowStore" ({ cls := "DataflowStore", name := "waiting", desc := "()I" } : Jvm.MethodName) ({ cls := "DataflowStore", name := "waiting", desc := "()I" } : Jvm.MethodName)) ∈ lw_all := lw_g (lw_at lw_m1 144 rfl) rfl
theorem q165 : (Jvm.Cond.code ({ cls := "DataflowStore", name := "waiting", desc := "()I" } : Jvm.MethodName) prog_1_method_10_code (3 : Nat) (Option.some Jvm.ClassFile.FieldType.int)) ∈ lw_all := lw_g (lw_at lw_m1 145 rfl) rfl
theorem q167 : (Jvm.Cond.instanceMethod ({ cls := "DataflowStore", name := "classes", desc := "()I" } : Jvm.MethodName)) ∈ lw_all := lw_g (lw_at lw_m1 147 rfl) rfl
theorem q168 : (Jvm.Cond.selects "DataflowStore" ({ cls := "DataflowStore", name := "classes", desc := "()I" } : Jvm.MethodName) ({ cls := "DataflowStore", name := "classes", desc := "()I" } : Jvm.MethodName)) ∈ lw_all := lw_g (lw_at lw_m1 148 rfl) rfl
theorem q169 : (Jvm.Cond.code ({ cls := "DataflowStore", name := "classes", desc := "()I" } : Jvm.MethodName) prog_1_method_11_code (3 : Nat) (Option.some Jvm.ClassFile.FieldType.int)) ∈ lw_all := lw_g (lw_at lw_m1 149 rfl) rfl
theorem q171 : (Jvm.Cond.instanceMethod ({ cls := "DataflowStore", name := "clear", desc := "()I" } : Jvm.MethodName)) ∈ lw_all := lw_g (lw_at lw_m1 151 rfl) rfl
theorem q172 : (Jvm.Cond.selects "DataflowStore" ({ cls := "DataflowStore", name := "clear", desc := "()I" } : Jvm.MethodName) ({ cls := "DataflowStore", name := "clear", desc := "()I" } : Jvm.MethodName)) ∈ lw_all := lw_g (lw_at lw_m1 152 rfl) rfl
theorem q173 : (Jvm.Cond.code ({ cls := "DataflowStore", name := "clear", desc := "()I" } : Jvm.MethodName) prog_1_method_12_code (2 : Nat) (Option.some Jvm.ClassFile.FieldType.int)) ∈ lw_all := lw_g (lw_at lw_m1 153 rfl) rfl
theorem in_X0 : ∀ w ∈ wsX00, w ∈ lw_all := lw_in wsX00 [53, 55, 57, 59, 61, 63, 65, 67, 69, 71, 73, 75, 77, 79, 81, 83, 85, 87] (by decide +kernel) (by decide +kernel)
end
section
set_option maxRecDepth 100000
abbrev cX0_init : ByteArray := prog_1_method_1_code
def yX0_init : MethodName := ⟨RX0, "<init>", "()V"⟩
theorem dX0_init_0 : decode cX0_init 0 = .ok (.aload_n 0, 1) := by decide +kernel
theorem dX0_init_1 : decode cX0_init 1 = .ok (.invokespecial 1, 3) := by decide +kernel
theorem dX0_init_4 : decode cX0_init 4 = .ok (.aload_n 0, 1) := by decide +kernel
theorem dX0_init_5 : decode cX0_init 5 = .ok (.bipush 40, 2) := by decide +kernel
theorem dX0_init_7 : decode cX0_init 7 = .ok (.newarray .byte, 2) := by decide +kernel
theorem dX0_init_9 : decode cX0_init 9 = .ok (.putfield 7, 3) := by decide +kernel
theorem dX0_init_12 : decode cX0_init 12 = .ok (.aload_n 0, 1) := by decide +kernel
theorem dX0_init_13 : decode cX0_init 13 = .ok (.bipush 40, 2) := by decide +kernel
theorem dX0_init_15 : decode cX0_init 15 = .ok (.newarray .byte, 2) := by decide +kernel
theorem dX0_init_17 : decode cX0_init 17 = .ok (.putfield 13, 3) := by decide +kernel
theorem dX0_init_20 : decode cX0_init 20 = .ok (.aload_n 0, 1) := by decide +kernel
theorem dX0_init_21 : decode cX0_init 21 = .ok (.bipush 40, 2) := by decide +kernel
theorem dX0_init_23 : decode cX0_init 23 = .ok (.newarray .byte, 2) := by decide +kernel
theorem dX0_init_25 : decode cX0_init 25 = .ok (.putfield 16, 3) := by decide +kernel
theorem dX0_init_28 : decode cX0_init 28 = .ok (.aload_n 0, 1) := by decide +kernel
theorem dX0_init_29 : decode cX0_init 29 = .ok (.bipush 40, 2) := by decide +kernel
theorem dX0_init_31 : decode cX0_init 31 = .ok (.newarray .byte, 2) := by decide +kernel
theorem dX0_init_33 : decode cX0_init 33 = .ok (.putfield 19, 3) := by decide +kernel
theorem dX0_init_36 : decode cX0_init 36 = .ok (.aload_n 0, 1) := by decide +kernel
theorem dX0_init_37 : decode cX0_init 37 = .ok (.bipush 12, 2) := by decide +kernel
theorem dX0_init_39 : decode cX0_init 39 = .ok (.newarray .byte, 2) := by decide +kernel
theorem dX0_init_41 : decode cX0_init 41 = .ok (.putfield 22, 3) := by decide +kernel
theorem dX0_init_44 : decode cX0_init 44 = .ok (.aload_n 0, 1) := by decide +kernel
theorem dX0_init_45 : decode cX0_init 45 = .ok (.bipush 12, 2) := by decide +kernel
theorem dX0_init_47 : decode cX0_init 47 = .ok (.newarray .byte, 2) := by decide +kernel
theorem dX0_init_49 : decode cX0_init 49 = .ok (.putfield 25, 3) := by decide +kernel
theorem dX0_init_52 : decode cX0_init 52 = .ok (.aload_n 0, 1) := by decide +kernel
theorem dX0_init_53 : decode cX0_init 53 = .ok (.bipush 12, 2) := by decide +kernel
theorem dX0_init_55 : decode cX0_init 55 = .ok (.newarray .byte, 2) := by decide +kernel
theorem dX0_init_57 : decode cX0_init 57 = .ok (.putfield 28, 3) := by decide +kernel
theorem dX0_init_60 : decode cX0_init 60 = .ok (.aload_n 0, 1) := by decide +kernel
theorem dX0_init_61 : decode cX0_init 61 = .ok (.bipush 12, 2) := by decide +kernel
theorem dX0_init_63 : decode cX0_init 63 = .ok (.newarray .int, 2) := by decide +kernel
theorem dX0_init_65 : decode cX0_init 65 = .ok (.putfield 31, 3) := by decide +kernel
theorem dX0_init_68 : decode cX0_init 68 = .ok (.aload_n 0, 1) := by decide +kernel
theorem dX0_init_69 : decode cX0_init 69 = .ok (.bipush 12, 2) := by decide +kernel
theorem dX0_init_71 : decode cX0_init 71 = .ok (.newarray .byte, 2) := by decide +kernel
theorem dX0_init_73 : decode cX0_init 73 = .ok (.putfield 35, 3) := by decide +kernel
theorem dX0_init_76 : decode cX0_init 76 = .ok (.aload_n 0, 1) := by decide +kernel
theorem dX0_init_77 : decode cX0_init 77 = .ok (.bipush 12, 2) := by decide +kernel
theorem dX0_init_79 : decode cX0_init 79 = .ok (.newarray .byte, 2) := by decide +kernel
theorem dX0_init_81 : decode cX0_init 81 = .ok (.putfield 38, 3) := by decide +kernel
theorem dX0_init_84 : decode cX0_init 84 = .ok (.aload_n 0, 1) := by decide +kernel
theorem dX0_init_85 : decode cX0_init 85 = .ok (.bipush 12, 2) := by decide +kernel
theorem dX0_init_87 : decode cX0_init 87 = .ok (.newarray .long, 2) := by decide +kernel
theorem dX0_init_89 : decode cX0_init 89 = .ok (.putfield 41, 3) := by decide +kernel
theorem dX0_init_92 : decode cX0_init 92 = .ok (.aload_n 0, 1) := by decide +kernel
theorem dX0_init_93 : decode cX0_init 93 = .ok (.bipush 40, 2) := by decide +kernel
theorem dX0_init_95 : decode cX0_init 95 = .ok (.newarray .byte, 2) := by decide +kernel
theorem dX0_init_97 : decode cX0_init 97 = .ok (.putfield 45, 3) := by decide +kernel
theorem dX0_init_100 : decode cX0_init 100 = .ok (.aload_n 0, 1) := by decide +kernel
theorem dX0_init_101 : decode cX0_init 101 = .ok (.bipush 40, 2) := by decide +kernel
theorem dX0_init_103 : decode cX0_init 103 = .ok (.newarray .byte, 2) := by decide +kernel
theorem dX0_init_105 : decode cX0_init 105 = .ok (.putfield 48, 3) := by decide +kernel
theorem dX0_init_108 : decode cX0_init 108 = .ok (.aload_n 0, 1) := by decide +kernel
theorem dX0_init_109 : decode cX0_init 109 = .ok (.invokevirtual 51, 3) := by decide +kernel
theorem dX0_init_112 : decode cX0_init 112 = .ok (.return_, 1) := by decide +kernel
abbrev cX0_restart : ByteArray := prog_1_method_2_code
def yX0_restart : MethodName := ⟨RX0, "restart", "()V"⟩
theorem dX0_restart_0 : decode cX0_restart 0 = .ok (.aload_n 0, 1) := by decide +kernel
theorem dX0_restart_1 : decode cX0_restart 1 = .ok (.iconst 0, 1) := by decide +kernel
theorem dX0_restart_2 : decode cX0_restart 2 = .ok (.putfield 54, 3) := by decide +kernel
theorem dX0_restart_5 : decode cX0_restart 5 = .ok (.aload_n 0, 1) := by decide +kernel
theorem dX0_restart_6 : decode cX0_restart 6 = .ok (.lconst 0, 1) := by decide +kernel
theorem dX0_restart_7 : decode cX0_restart 7 = .ok (.putfield 58, 3) := by decide +kernel
theorem dX0_restart_10 : decode cX0_restart 10 = .ok (.aload_n 0, 1) := by decide +kernel
theorem dX0_restart_11 : decode cX0_restart 11 = .ok (.iconst 0, 1) := by decide +kernel
theorem dX0_restart_12 : decode cX0_restart 12 = .ok (.putfield 62, 3) := by decide +kernel
theorem dX0_restart_15 : decode cX0_restart 15 = .ok (.aload_n 0, 1) := by decide +kernel
theorem dX0_restart_16 : decode cX0_restart 16 = .ok (.lconst 0, 1) := by decide +kernel
theorem dX0_restart_17 : decode cX0_restart 17 = .ok (.putfield 66, 3) := by decide +kernel
theorem dX0_restart_20 : decode cX0_restart 20 = .ok (.aload_n 0, 1) := by decide +kernel
theorem dX0_restart_21 : decode cX0_restart 21 = .ok (.iconst 0, 1) := by decide +kernel
theorem dX0_restart_22 : decode cX0_restart 22 = .ok (.putfield 69, 3) := by decide +kernel
theorem dX0_restart_25 : decode cX0_restart 25 = .ok (.iconst 0, 1) := by decide +kernel
theorem dX0_restart_26 : decode cX0_restart 26 = .ok (.istore_n 1, 1) := by decide +kernel
theorem dX0_restart_27 : decode cX0_restart 27 = .ok (.iload_n 1, 1) := by decide +kernel
theorem dX0_restart_28 : decode cX0_restart 28 = .ok (.bipush 12, 2) := by decide +kernel
theorem dX0_restart_30 : decode cX0_restart 30 = .ok (.if_icmp .ge 38, 3) := by decide +kernel
theorem dX0_restart_33 : decode cX0_restart 33 = .ok (.aload_n 0, 1) := by decide +kernel
theorem dX0_restart_34 : decode cX0_restart 34 = .ok (.getfield 22, 3) := by decide +kernel
theorem dX0_restart_37 : decode cX0_restart 37 = .ok (.iload_n 1, 1) := by decide +kernel
theorem dX0_restart_38 : decode cX0_restart 38 = .ok (.iload_n 1, 1) := by decide +kernel
theorem dX0_restart_39 : decode cX0_restart 39 = .ok (.i2b, 1) := by decide +kernel
theorem dX0_restart_40 : decode cX0_restart 40 = .ok (.bastore, 1) := by decide +kernel
theorem dX0_restart_41 : decode cX0_restart 41 = .ok (.aload_n 0, 1) := by decide +kernel
theorem dX0_restart_42 : decode cX0_restart 42 = .ok (.getfield 25, 3) := by decide +kernel
theorem dX0_restart_45 : decode cX0_restart 45 = .ok (.iload_n 1, 1) := by decide +kernel
theorem dX0_restart_46 : decode cX0_restart 46 = .ok (.iconst 1, 1) := by decide +kernel
theorem dX0_restart_47 : decode cX0_restart 47 = .ok (.bastore, 1) := by decide +kernel
theorem dX0_restart_48 : decode cX0_restart 48 = .ok (.aload_n 0, 1) := by decide +kernel
theorem dX0_restart_49 : decode cX0_restart 49 = .ok (.getfield 28, 3) := by decide +kernel
theorem dX0_restart_52 : decode cX0_restart 52 = .ok (.iload_n 1, 1) := by decide +kernel
theorem dX0_restart_53 : decode cX0_restart 53 = .ok (.iconst 0, 1) := by decide +kernel
theorem dX0_restart_54 : decode cX0_restart 54 = .ok (.bastore, 1) := by decide +kernel
theorem dX0_restart_55 : decode cX0_restart 55 = .ok (.aload_n 0, 1) := by decide +kernel
theorem dX0_restart_56 : decode cX0_restart 56 = .ok (.getfield 41, 3) := by decide +kernel
theorem dX0_restart_59 : decode cX0_restart 59 = .ok (.iload_n 1, 1) := by decide +kernel
theorem dX0_restart_60 : decode cX0_restart 60 = .ok (.lconst 0, 1) := by decide +kernel
theorem dX0_restart_61 : decode cX0_restart 61 = .ok (.lastore, 1) := by decide +kernel
theorem dX0_restart_62 : decode cX0_restart 62 = .ok (.iinc 1 1, 3) := by decide +kernel
theorem dX0_restart_65 : decode cX0_restart 65 = .ok (.goto (-38), 3) := by decide +kernel
theorem dX0_restart_68 : decode cX0_restart 68 = .ok (.return_, 1) := by decide +kernel
abbrev cX0_tell : ByteArray := prog_1_method_3_code
def yX0_tell : MethodName := ⟨RX0, "tell", "(IIII)I"⟩
theorem dX0_tell_0 : decode cX0_tell 0 = .ok (.aload_n 0, 1) := by decide +kernel
theorem dX0_tell_1 : decode cX0_tell 1 = .ok (.getfield 62, 3) := by decide +kernel
theorem dX0_tell_4 : decode cX0_tell 4 = .ok (.ifCond .eq 6, 3) := by decide +kernel
theorem dX0_tell_7 : decode cX0_tell 7 = .ok (.bipush (-3), 2) := by decide +kernel
theorem dX0_tell_9 : decode cX0_tell 9 = .ok (.ireturn, 1) := by decide +kernel
theorem dX0_tell_10 : decode cX0_tell 10 = .ok (.aload_n 0, 1) := by decide +kernel
theorem dX0_tell_11 : decode cX0_tell 11 = .ok (.getfield 54, 3) := by decide +kernel
theorem dX0_tell_14 : decode cX0_tell 14 = .ok (.bipush 40, 2) := by decide +kernel
theorem dX0_tell_16 : decode cX0_tell 16 = .ok (.if_icmp .lt 6, 3) := by decide +kernel
theorem dX0_tell_19 : decode cX0_tell 19 = .ok (.bipush (-2), 2) := by decide +kernel
theorem dX0_tell_21 : decode cX0_tell 21 = .ok (.ireturn, 1) := by decide +kernel
theorem dX0_tell_22 : decode cX0_tell 22 = .ok (.iload_n 1, 1) := by decide +kernel
theorem dX0_tell_23 : decode cX0_tell 23 = .ok (.ifCond .lt 17, 3) := by decide +kernel
theorem dX0_tell_26 : decode cX0_tell 26 = .ok (.iload_n 1, 1) := by decide +kernel
theorem dX0_tell_27 : decode cX0_tell 27 = .ok (.bipush 7, 2) := by decide +kernel
theorem dX0_tell_29 : decode cX0_tell 29 = .ok (.if_icmp .gt 11, 3) := by decide +kernel
theorem dX0_tell_32 : decode cX0_tell 32 = .ok (.aload_n 0, 1) := by decide +kernel
theorem dX0_tell_33 : decode cX0_tell 33 = .ok (.iload_n 2, 1) := by decide +kernel
theorem dX0_tell_34 : decode cX0_tell 34 = .ok (.invokevirtual 72, 3) := by decide +kernel
theorem dX0_tell_37 : decode cX0_tell 37 = .ok (.ifCond .ne 5, 3) := by decide +kernel
theorem dX0_tell_40 : decode cX0_tell 40 = .ok (.iconst (-1), 1) := by decide +kernel
theorem dX0_tell_41 : decode cX0_tell 41 = .ok (.ireturn, 1) := by decide +kernel
theorem dX0_tell_42 : decode cX0_tell 42 = .ok (.iload_n 1, 1) := by decide +kernel
theorem dX0_tell_43 : decode cX0_tell 43 = .ok (.iconst 1, 1) := by decide +kernel
theorem dX0_tell_44 : decode cX0_tell 44 = .ok (.if_icmp .eq 13, 3) := by decide +kernel
theorem dX0_tell_47 : decode cX0_tell 47 = .ok (.aload_n 0, 1) := by decide +kernel
theorem dX0_tell_48 : decode cX0_tell 48 = .ok (.iload_n 3, 1) := by decide +kernel
theorem dX0_tell_49 : decode cX0_tell 49 = .ok (.invokevirtual 72, 3) := by decide +kernel
theorem dX0_tell_52 : decode cX0_tell 52 = .ok (.ifCond .ne 5, 3) := by decide +kernel
theorem dX0_tell_55 : decode cX0_tell 55 = .ok (.iconst (-1), 1) := by decide +kernel
theorem dX0_tell_56 : decode cX0_tell 56 = .ok (.ireturn, 1) := by decide +kernel
theorem dX0_tell_57 : decode cX0_tell 57 = .ok (.iload_n 1, 1) := by decide +kernel
theorem dX0_tell_58 : decode cX0_tell 58 = .ok (.iconst 2, 1) := by decide +kernel
theorem dX0_tell_59 : decode cX0_tell 59 = .ok (.if_icmp .eq 19, 3) := by decide +kernel
theorem dX0_tell_62 : decode cX0_tell 62 = .ok (.iload_n 1, 1) := by decide +kernel
theorem dX0_tell_63 : decode cX0_tell 63 = .ok (.iconst 3, 1) := by decide +kernel
theorem dX0_tell_64 : decode cX0_tell 64 = .ok (.if_icmp .eq 14, 3) := by decide +kernel
theorem dX0_tell_67 : decode cX0_tell 67 = .ok (.iload_n 1, 1) := by decide +kernel
theorem dX0_tell_68 : decode cX0_tell 68 = .ok (.iconst 4, 1) := by decide +kernel
theorem dX0_tell_69 : decode cX0_tell 69 = .ok (.if_icmp .eq 9, 3) := by decide +kernel
theorem dX0_tell_72 : decode cX0_tell 72 = .ok (.iload_n 1, 1) := by decide +kernel
theorem dX0_tell_73 : decode cX0_tell 73 = .ok (.bipush 7, 2) := by decide +kernel
theorem dX0_tell_75 : decode cX0_tell 75 = .ok (.if_icmp .ne 7, 3) := by decide +kernel
theorem dX0_tell_78 : decode cX0_tell 78 = .ok (.iconst 1, 1) := by decide +kernel
theorem dX0_tell_79 : decode cX0_tell 79 = .ok (.goto 4, 3) := by decide +kernel
theorem dX0_tell_82 : decode cX0_tell 82 = .ok (.iconst 0, 1) := by decide +kernel
theorem dX0_tell_83 : decode cX0_tell 83 = .ok (.istore 5, 2) := by decide +kernel
theorem dX0_tell_85 : decode cX0_tell 85 = .ok (.iload 5, 2) := by decide +kernel
theorem dX0_tell_87 : decode cX0_tell 87 = .ok (.ifCond .eq 14, 3) := by decide +kernel
theorem dX0_tell_90 : decode cX0_tell 90 = .ok (.aload_n 0, 1) := by decide +kernel
theorem dX0_tell_91 : decode cX0_tell 91 = .ok (.iload 4, 2) := by decide +kernel
theorem dX0_tell_93 : decode cX0_tell 93 = .ok (.invokevirtual 72, 3) := by decide +kernel
theorem dX0_tell_96 : decode cX0_tell 96 = .ok (.ifCond .ne 5, 3) := by decide +kernel
theorem dX0_tell_99 : decode cX0_tell 99 = .ok (.iconst (-1), 1) := by decide +kernel
theorem dX0_tell_100 : decode cX0_tell 100 = .ok (.ireturn, 1) := by decide +kernel
theorem dX0_tell_101 : decode cX0_tell 101 = .ok (.aload_n 0, 1) := by decide +kernel
theorem dX0_tell_102 : decode cX0_tell 102 = .ok (.getfield 54, 3) := by decide +kernel
theorem dX0_tell_105 : decode cX0_tell 105 = .ok (.istore 6, 2) := by decide +kernel
theorem dX0_tell_107 : decode cX0_tell 107 = .ok (.aload_n 0, 1) := by decide +kernel
theorem dX0_tell_108 : decode cX0_tell 108 = .ok (.dup, 1) := by decide +kernel
theorem dX0_tell_109 : decode cX0_tell 109 = .ok (.getfield 54, 3) := by decide +kernel
theorem dX0_tell_112 : decode cX0_tell 112 = .ok (.iconst 1, 1) := by decide +kernel
theorem dX0_tell_113 : decode cX0_tell 113 = .ok (.iadd, 1) := by decide +kernel
theorem dX0_tell_114 : decode cX0_tell 114 = .ok (.putfield 54, 3) := by decide +kernel
theorem dX0_tell_117 : decode cX0_tell 117 = .ok (.aload_n 0, 1) := by decide +kernel
theorem dX0_tell_118 : decode cX0_tell 118 = .ok (.getfield 7, 3) := by decide +kernel
theorem dX0_tell_121 : decode cX0_tell 121 = .ok (.iload 6, 2) := by decide +kernel
theorem dX0_tell_123 : decode cX0_tell 123 = .ok (.iload_n 1, 1) := by decide +kernel
theorem dX0_tell_124 : decode cX0_tell 124 = .ok (.i2b, 1) := by decide +kernel
theorem dX0_tell_125 : decode cX0_tell 125 = .ok (.bastore, 1) := by decide +kernel
theorem dX0_tell_126 : decode cX0_tell 126 = .ok (.aload_n 0, 1) := by decide +kernel
theorem dX0_tell_127 : decode cX0_tell 127 = .ok (.getfield 13, 3) := by decide +kernel
theorem dX0_tell_130 : decode cX0_tell 130 = .ok (.iload 6, 2) := by decide +kernel
theorem dX0_tell_132 : decode cX0_tell 132 = .ok (.iload_n 2, 1) := by decide +kernel
theorem dX0_tell_133 : decode cX0_tell 133 = .ok (.i2b, 1) := by decide +kernel
theorem dX0_tell_134 : decode cX0_tell 134 = .ok (.bastore, 1) := by decide +kernel
theorem dX0_tell_135 : decode cX0_tell 135 = .ok (.iload_n 1, 1) := by decide +kernel
theorem dX0_tell_136 : decode cX0_tell 136 = .ok (.iconst 1, 1) := by decide +kernel
theorem dX0_tell_137 : decode cX0_tell 137 = .ok (.if_icmp .ne 12, 3) := by decide +kernel
theorem dX0_tell_140 : decode cX0_tell 140 = .ok (.aload_n 0, 1) := by decide +kernel
theorem dX0_tell_141 : decode cX0_tell 141 = .ok (.iload_n 2, 1) := by decide +kernel
theorem dX0_tell_142 : decode cX0_tell 142 = .ok (.iload_n 3, 1) := by decide +kernel
theorem dX0_tell_143 : decode cX0_tell 143 = .ok (.invokevirtual 76, 3) := by decide +kernel
theorem dX0_tell_146 : decode cX0_tell 146 = .ok (.goto 86, 3) := by decide +kernel
theorem dX0_tell_149 : decode cX0_tell 149 = .ok (.iload_n 1, 1) := by decide +kernel
theorem dX0_tell_150 : decode cX0_tell 150 = .ok (.ifCond .ne 12, 3) := by decide +kernel
theorem dX0_tell_153 : decode cX0_tell 153 = .ok (.aload_n 0, 1) := by decide +kernel
theorem dX0_tell_154 : decode cX0_tell 154 = .ok (.iload_n 2, 1) := by decide +kernel
theorem dX0_tell_155 : decode cX0_tell 155 = .ok (.iload_n 3, 1) := by decide +kernel
theorem dX0_tell_156 : decode cX0_tell 156 = .ok (.invokevirtual 80, 3) := by decide +kernel
theorem dX0_tell_159 : decode cX0_tell 159 = .ok (.goto 73, 3) := by decide +kernel
theorem dX0_tell_162 : decode cX0_tell 162 = .ok (.iload_n 1, 1) := by decide +kernel
theorem dX0_tell_163 : decode cX0_tell 163 = .ok (.iconst 2, 1) := by decide +kernel
theorem dX0_tell_164 : decode cX0_tell 164 = .ok (.if_icmp .ne 14, 3) := by decide +kernel
theorem dX0_tell_167 : decode cX0_tell 167 = .ok (.aload_n 0, 1) := by decide +kernel
theorem dX0_tell_168 : decode cX0_tell 168 = .ok (.iload_n 2, 1) := by decide +kernel
theorem dX0_tell_169 : decode cX0_tell 169 = .ok (.iload_n 3, 1) := by decide +kernel
theorem dX0_tell_170 : decode cX0_tell 170 = .ok (.iload 4, 2) := by decide +kernel
theorem dX0_tell_172 : decode cX0_tell 172 = .ok (.invokevirtual 83, 3) := by decide +kernel
theorem dX0_tell_175 : decode cX0_tell 175 = .ok (.goto 57, 3) := by decide +kernel
theorem dX0_tell_178 : decode cX0_tell 178 = .ok (.aload_n 0, 1) := by decide +kernel
theorem dX0_tell_179 : decode cX0_tell 179 = .ok (.getfield 16, 3) := by decide +kernel
theorem dX0_tell_182 : decode cX0_tell 182 = .ok (.iload 6, 2) := by decide +kernel
theorem dX0_tell_184 : decode cX0_tell 184 = .ok (.iload_n 3, 1) := by decide +kernel
theorem dX0_tell_185 : decode cX0_tell 185 = .ok (.i2b, 1) := by decide +kernel
theorem dX0_tell_186 : decode cX0_tell 186 = .ok (.bastore, 1) := by decide +kernel
theorem dX0_tell_187 : decode cX0_tell 187 = .ok (.aload_n 0, 1) := by decide +kernel
theorem dX0_tell_188 : decode cX0_tell 188 = .ok (.getfield 19, 3) := by decide +kernel
theorem dX0_tell_191 : decode cX0_tell 191 = .ok (.iload 6, 2) := by decide +kernel
theorem dX0_tell_193 : decode cX0_tell 193 = .ok (.iload 5, 2) := by decide +kernel
theorem dX0_tell_195 : decode cX0_tell 195 = .ok (.ifCond .eq 8, 3) := by decide +kernel
theorem dX0_tell_198 : decode cX0_tell 198 = .ok (.iload 4, 2) := by decide +kernel
theorem dX0_tell_200 : decode cX0_tell 200 = .ok (.goto 4, 3) := by decide +kernel
theorem dX0_tell_203 : decode cX0_tell 203 = .ok (.iload_n 3, 1) := by decide +kernel
theorem dX0_tell_204 : decode cX0_tell 204 = .ok (.i2b, 1) := by decide +kernel
theorem dX0_tell_205 : decode cX0_tell 205 = .ok (.bastore, 1) := by decide +kernel
theorem dX0_tell_206 : decode cX0_tell 206 = .ok (.aload_n 0, 1) := by decide +kernel
theorem dX0_tell_207 : decode cX0_tell 207 = .ok (.dup, 1) := by decide +kernel
theorem dX0_tell_208 : decode cX0_tell 208 = .ok (.getfield 58, 3) := by decide +kernel
theorem dX0_tell_211 : decode cX0_tell 211 = .ok (.lconst 1, 1) := by decide +kernel
theorem dX0_tell_212 : decode cX0_tell 212 = .ok (.iload 6, 2) := by decide +kernel
theorem dX0_tell_214 : decode cX0_tell 214 = .ok (.lshl, 1) := by decide +kernel
theorem dX0_tell_215 : decode cX0_tell 215 = .ok (.lor, 1) := by decide +kernel
theorem dX0_tell_216 : decode cX0_tell 216 = .ok (.putfield 58, 3) := by decide +kernel
theorem dX0_tell_219 : decode cX0_tell 219 = .ok (.aload_n 0, 1) := by decide +kernel
theorem dX0_tell_220 : decode cX0_tell 220 = .ok (.dup, 1) := by decide +kernel
theorem dX0_tell_221 : decode cX0_tell 221 = .ok (.getfield 66, 3) := by decide +kernel
theorem dX0_tell_224 : decode cX0_tell 224 = .ok (.lconst 1, 1) := by decide +kernel
theorem dX0_tell_225 : decode cX0_tell 225 = .ok (.iload 6, 2) := by decide +kernel
theorem dX0_tell_227 : decode cX0_tell 227 = .ok (.lshl, 1) := by decide +kernel
theorem dX0_tell_228 : decode cX0_tell 228 = .ok (.lor, 1) := by decide +kernel
theorem dX0_tell_229 : decode cX0_tell 229 = .ok (.putfield 66, 3) := by decide +kernel
theorem dX0_tell_232 : decode cX0_tell 232 = .ok (.aload_n 0, 1) := by decide +kernel
theorem dX0_tell_233 : decode cX0_tell 233 = .ok (.invokevirtual 87, 3) := by decide +kernel
theorem dX0_tell_236 : decode cX0_tell 236 = .ok (.aload_n 0, 1) := by decide +kernel
theorem dX0_tell_237 : decode cX0_tell 237 = .ok (.getfield 62, 3) := by decide +kernel
theorem dX0_tell_240 : decode cX0_tell 240 = .ok (.ifCond .eq 8, 3) := by decide +kernel
theorem dX0_tell_243 : decode cX0_tell 243 = .ok (.bipush (-3), 2) := by decide +kernel
theorem dX0_tell_245 : decode cX0_tell 245 = .ok (.goto 7, 3) := by decide +kernel
theorem dX0_tell_248 : decode cX0_tell 248 = .ok (.aload_n 0, 1) := by decide +kernel
theorem dX0_tell_249 : decode cX0_tell 249 = .ok (.getfield 54, 3) := by decide +kernel
theorem dX0_tell_252 : decode cX0_tell 252 = .ok (.ireturn, 1) := by decide +kernel
abbrev cX0_isVariable : ByteArray := prog_1_method_4_code
def yX0_isVariable : MethodName := ⟨RX0, "isVariable", "(I)Z"⟩
theorem dX0_isVariable_0 : decode cX0_isVariable 0 = .ok (.iload_n 1, 1) := by decide +kernel
theorem dX0_isVariable_1 : decode cX0_isVariable 1 = .ok (.ifCond .lt 13, 3) := by decide +kernel
theorem dX0_isVariable_4 : decode cX0_isVariable 4 = .ok (.iload_n 1, 1) := by decide +kernel
theorem dX0_isVariable_5 : decode cX0_isVariable 5 = .ok (.bipush 11, 2) := by decide +kernel
theorem dX0_isVariable_7 : decode cX0_isVariable 7 = .ok (.if_icmp .gt 7, 3) := by decide +kernel
theorem dX0_isVariable_10 : decode cX0_isVariable 10 = .ok (.iconst 1, 1) := by decide +kernel
theorem dX0_isVariable_11 : decode cX0_isVariable 11 = .ok (.goto 4, 3) := by decide +kernel
theorem dX0_isVariable_14 : decode cX0_isVariable 14 = .ok (.iconst 0, 1) := by decide +kernel
theorem dX0_isVariable_15 : decode cX0_isVariable 15 = .ok (.ireturn, 1) := by decide +kernel
abbrev cX0_bindNumber : ByteArray := prog_1_method_16_code
def yX0_bindNumber : MethodName := ⟨RX0, "bindNumber", "(II)V"⟩
theorem dX0_bindNumber_0 : decode cX0_bindNumber 0 = .ok (.aload_n 0, 1) := by decide +kernel
theorem dX0_bindNumber_1 : decode cX0_bindNumber 1 = .ok (.iload_n 1, 1) := by decide +kernel
theorem dX0_bindNumber_2 : decode cX0_bindNumber 2 = .ok (.invokevirtual 90, 3) := by decide +kernel
theorem dX0_bindNumber_5 : decode cX0_bindNumber 5 = .ok (.istore_n 3, 1) := by decide +kernel
theorem dX0_bindNumber_6 : decode cX0_bindNumber 6 = .ok (.aload_n 0, 1) := by decide +kernel
theorem dX0_bindNumber_7 : decode cX0_bindNumber 7 = .ok (.getfield 28, 3) := by decide +kernel
theorem dX0_bindNumber_10 : decode cX0_bindNumber 10 = .ok (.iload_n 3, 1) := by decide +kernel
theorem dX0_bindNumber_11 : decode cX0_bindNumber 11 = .ok (.baload, 1) := by decide +kernel
theorem dX0_bindNumber_12 : decode cX0_bindNumber 12 = .ok (.ifCond .ne 25, 3) := by decide +kernel
theorem dX0_bindNumber_15 : decode cX0_bindNumber 15 = .ok (.aload_n 0, 1) := by decide +kernel
theorem dX0_bindNumber_16 : decode cX0_bindNumber 16 = .ok (.getfield 28, 3) := by decide +kernel
theorem dX0_bindNumber_19 : decode cX0_bindNumber 19 = .ok (.iload_n 3, 1) := by decide +kernel
theorem dX0_bindNumber_20 : decode cX0_bindNumber 20 = .ok (.iconst 1, 1) := by decide +kernel
theorem dX0_bindNumber_21 : decode cX0_bindNumber 21 = .ok (.bastore, 1) := by decide +kernel
theorem dX0_bindNumber_22 : decode cX0_bindNumber 22 = .ok (.aload_n 0, 1) := by decide +kernel
theorem dX0_bindNumber_23 : decode cX0_bindNumber 23 = .ok (.getfield 31, 3) := by decide +kernel
theorem dX0_bindNumber_26 : decode cX0_bindNumber 26 = .ok (.iload_n 3, 1) := by decide +kernel
theorem dX0_bindNumber_27 : decode cX0_bindNumber 27 = .ok (.iload_n 2, 1) := by decide +kernel
theorem dX0_bindNumber_28 : decode cX0_bindNumber 28 = .ok (.iastore, 1) := by decide +kernel
theorem dX0_bindNumber_29 : decode cX0_bindNumber 29 = .ok (.aload_n 0, 1) := by decide +kernel
theorem dX0_bindNumber_30 : decode cX0_bindNumber 30 = .ok (.iload_n 3, 1) := by decide +kernel
theorem dX0_bindNumber_31 : decode cX0_bindNumber 31 = .ok (.invokevirtual 94, 3) := by decide +kernel
theorem dX0_bindNumber_34 : decode cX0_bindNumber 34 = .ok (.goto 28, 3) := by decide +kernel
theorem dX0_bindNumber_37 : decode cX0_bindNumber 37 = .ok (.aload_n 0, 1) := by decide +kernel
theorem dX0_bindNumber_38 : decode cX0_bindNumber 38 = .ok (.getfield 28, 3) := by decide +kernel
theorem dX0_bindNumber_41 : decode cX0_bindNumber 41 = .ok (.iload_n 3, 1) := by decide +kernel
theorem dX0_bindNumber_42 : decode cX0_bindNumber 42 = .ok (.baload, 1) := by decide +kernel
theorem dX0_bindNumber_43 : decode cX0_bindNumber 43 = .ok (.iconst 2, 1) := by decide +kernel
theorem dX0_bindNumber_44 : decode cX0_bindNumber 44 = .ok (.if_icmp .eq 13, 3) := by decide +kernel
theorem dX0_bindNumber_47 : decode cX0_bindNumber 47 = .ok (.aload_n 0, 1) := by decide +kernel
theorem dX0_bindNumber_48 : decode cX0_bindNumber 48 = .ok (.getfield 31, 3) := by decide +kernel
theorem dX0_bindNumber_51 : decode cX0_bindNumber 51 = .ok (.iload_n 3, 1) := by decide +kernel
theorem dX0_bindNumber_52 : decode cX0_bindNumber 52 = .ok (.iaload, 1) := by decide +kernel
theorem dX0_bindNumber_53 : decode cX0_bindNumber 53 = .ok (.iload_n 2, 1) := by decide +kernel
theorem dX0_bindNumber_54 : decode cX0_bindNumber 54 = .ok (.if_icmp .eq 8, 3) := by decide +kernel
theorem dX0_bindNumber_57 : decode cX0_bindNumber 57 = .ok (.aload_n 0, 1) := by decide +kernel
theorem dX0_bindNumber_58 : decode cX0_bindNumber 58 = .ok (.iconst 1, 1) := by decide +kernel
theorem dX0_bindNumber_59 : decode cX0_bindNumber 59 = .ok (.putfield 62, 3) := by decide +kernel
theorem dX0_bindNumber_62 : decode cX0_bindNumber 62 = .ok (.return_, 1) := by decide +kernel
end
section
set_option maxRecDepth 100000
abbrev cX0_head : ByteArray := prog_1_method_13_code
def yX0_head : MethodName := ⟨RX0, "head", "(I)I"⟩
theorem dX0_head_0 : decode cX0_head 0 = .ok (.iload_n 1, 1) := by decide +kernel
theorem dX0_head_1 : decode cX0_head 1 = .ok (.istore_n 2, 1) := by decide +kernel
theorem dX0_head_2 : decode cX0_head 2 = .ok (.aload_n 0, 1) := by decide +kernel
theorem dX0_head_3 : decode cX0_head 3 = .ok (.getfield 22, 3) := by decide +kernel
theorem dX0_head_6 : decode cX0_head 6 = .ok (.iload_n 2, 1) := by decide +kernel
theorem dX0_head_7 : decode cX0_head 7 = .ok (.baload, 1) := by decide +kernel
theorem dX0_head_8 : decode cX0_head 8 = .ok (.iload_n 2, 1) := by decide +kernel
theorem dX0_head_9 : decode cX0_head 9 = .ok (.if_icmp .eq 30, 3) := by decide +kernel
theorem dX0_head_12 : decode cX0_head 12 = .ok (.aload_n 0, 1) := by decide +kernel
theorem dX0_head_13 : decode cX0_head 13 = .ok (.getfield 22, 3) := by decide +kernel
theorem dX0_head_16 : decode cX0_head 16 = .ok (.iload_n 2, 1) := by decide +kernel
theorem dX0_head_17 : decode cX0_head 17 = .ok (.aload_n 0, 1) := by decide +kernel
theorem dX0_head_18 : decode cX0_head 18 = .ok (.getfield 22, 3) := by decide +kernel
theorem dX0_head_21 : decode cX0_head 21 = .ok (.aload_n 0, 1) := by decide +kernel
theorem dX0_head_22 : decode cX0_head 22 = .ok (.getfield 22, 3) := by decide +kernel
theorem dX0_head_25 : decode cX0_head 25 = .ok (.iload_n 2, 1) := by decide +kernel
theorem dX0_head_26 : decode cX0_head 26 = .ok (.baload, 1) := by decide +kernel
theorem dX0_head_27 : decode cX0_head 27 = .ok (.baload, 1) := by decide +kernel
theorem dX0_head_28 : decode cX0_head 28 = .ok (.bastore, 1) := by decide +kernel
theorem dX0_head_29 : decode cX0_head 29 = .ok (.aload_n 0, 1) := by decide +kernel
theorem dX0_head_30 : decode cX0_head 30 = .ok (.getfield 22, 3) := by decide +kernel
theorem dX0_head_33 : decode cX0_head 33 = .ok (.iload_n 2, 1) := by decide +kernel
theorem dX0_head_34 : decode cX0_head 34 = .ok (.baload, 1) := by decide +kernel
theorem dX0_head_35 : decode cX0_head 35 = .ok (.istore_n 2, 1) := by decide +kernel
theorem dX0_head_36 : decode cX0_head 36 = .ok (.goto (-34), 3) := by decide +kernel
theorem dX0_head_39 : decode cX0_head 39 = .ok (.iload_n 2, 1) := by decide +kernel
theorem dX0_head_40 : decode cX0_head 40 = .ok (.ireturn, 1) := by decide +kernel
abbrev cX0_wake : ByteArray := prog_1_method_15_code
def yX0_wake : MethodName := ⟨RX0, "wake", "(I)V"⟩
theorem dX0_wake_0 : decode cX0_wake 0 = .ok (.aload_n 0, 1) := by decide +kernel
theorem dX0_wake_1 : decode cX0_wake 1 = .ok (.dup, 1) := by decide +kernel
theorem dX0_wake_2 : decode cX0_wake 2 = .ok (.getfield 66, 3) := by decide +kernel
theorem dX0_wake_5 : decode cX0_wake 5 = .ok (.aload_n 0, 1) := by decide +kernel
theorem dX0_wake_6 : decode cX0_wake 6 = .ok (.getfield 41, 3) := by decide +kernel
theorem dX0_wake_9 : decode cX0_wake 9 = .ok (.iload_n 1, 1) := by decide +kernel
theorem dX0_wake_10 : decode cX0_wake 10 = .ok (.laload, 1) := by decide +kernel
theorem dX0_wake_11 : decode cX0_wake 11 = .ok (.aload_n 0, 1) := by decide +kernel
theorem dX0_wake_12 : decode cX0_wake 12 = .ok (.getfield 58, 3) := by decide +kernel
theorem dX0_wake_15 : decode cX0_wake 15 = .ok (.land, 1) := by decide +kernel
theorem dX0_wake_16 : decode cX0_wake 16 = .ok (.lor, 1) := by decide +kernel
theorem dX0_wake_17 : decode cX0_wake 17 = .ok (.putfield 66, 3) := by decide +kernel
theorem dX0_wake_20 : decode cX0_wake 20 = .ok (.aload_n 0, 1) := by decide +kernel
theorem dX0_wake_21 : decode cX0_wake 21 = .ok (.getfield 41, 3) := by decide +kernel
theorem dX0_wake_24 : decode cX0_wake 24 = .ok (.iload_n 1, 1) := by decide +kernel
theorem dX0_wake_25 : decode cX0_wake 25 = .ok (.lconst 0, 1) := by decide +kernel
theorem dX0_wake_26 : decode cX0_wake 26 = .ok (.lastore, 1) := by decide +kernel
theorem dX0_wake_27 : decode cX0_wake 27 = .ok (.return_, 1) := by decide +kernel
abbrev cX0_want : ByteArray := prog_1_method_14_code
def yX0_want : MethodName := ⟨RX0, "want", "(II)V"⟩
theorem dX0_want_0 : decode cX0_want 0 = .ok (.aload_n 0, 1) := by decide +kernel
theorem dX0_want_1 : decode cX0_want 1 = .ok (.getfield 45, 3) := by decide +kernel
theorem dX0_want_4 : decode cX0_want 4 = .ok (.aload_n 0, 1) := by decide +kernel
theorem dX0_want_5 : decode cX0_want 5 = .ok (.getfield 69, 3) := by decide +kernel
theorem dX0_want_8 : decode cX0_want 8 = .ok (.iload_n 1, 1) := by decide +kernel
theorem dX0_want_9 : decode cX0_want 9 = .ok (.i2b, 1) := by decide +kernel
theorem dX0_want_10 : decode cX0_want 10 = .ok (.bastore, 1) := by decide +kernel
theorem dX0_want_11 : decode cX0_want 11 = .ok (.aload_n 0, 1) := by decide +kernel
theorem dX0_want_12 : decode cX0_want 12 = .ok (.getfield 48, 3) := by decide +kernel
theorem dX0_want_15 : decode cX0_want 15 = .ok (.aload_n 0, 1) := by decide +kernel
theorem dX0_want_16 : decode cX0_want 16 = .ok (.getfield 69, 3) := by decide +kernel
theorem dX0_want_19 : decode cX0_want 19 = .ok (.iload_n 2, 1) := by decide +kernel
theorem dX0_want_20 : decode cX0_want 20 = .ok (.i2b, 1) := by decide +kernel
theorem dX0_want_21 : decode cX0_want 21 = .ok (.bastore, 1) := by decide +kernel
theorem dX0_want_22 : decode cX0_want 22 = .ok (.aload_n 0, 1) := by decide +kernel
theorem dX0_want_23 : decode cX0_want 23 = .ok (.dup, 1) := by decide +kernel
theorem dX0_want_24 : decode cX0_want 24 = .ok (.getfield 69, 3) := by decide +kernel
theorem dX0_want_27 : decode cX0_want 27 = .ok (.iconst 1, 1) := by decide +kernel
theorem dX0_want_28 : decode cX0_want 28 = .ok (.iadd, 1) := by decide +kernel
theorem dX0_want_29 : decode cX0_want 29 = .ok (.putfield 69, 3) := by decide +kernel
theorem dX0_want_32 : decode cX0_want 32 = .ok (.return_, 1) := by decide +kernel
abbrev cX0_bindCouple : ByteArray := prog_1_method_17_code
def yX0_bindCouple : MethodName := ⟨RX0, "bindCouple", "(III)V"⟩
theorem dX0_bindCouple_0 : decode cX0_bindCouple 0 = .ok (.aload_n 0, 1) := by decide +kernel
theorem dX0_bindCouple_1 : decode cX0_bindCouple 1 = .ok (.iload_n 1, 1) := by decide +kernel
theorem dX0_bindCouple_2 : decode cX0_bindCouple 2 = .ok (.invokevirtual 90, 3) := by decide +kernel
theorem dX0_bindCouple_5 : decode cX0_bindCouple 5 = .ok (.istore 4, 2) := by decide +kernel
theorem dX0_bindCouple_7 : decode cX0_bindCouple 7 = .ok (.aload_n 0, 1) := by decide +kernel
theorem dX0_bindCouple_8 : decode cX0_bindCouple 8 = .ok (.getfield 28, 3) := by decide +kernel
theorem dX0_bindCouple_11 : decode cX0_bindCouple 11 = .ok (.iload 4, 2) := by decide +kernel
theorem dX0_bindCouple_13 : decode cX0_bindCouple 13 = .ok (.baload, 1) := by decide +kernel
theorem dX0_bindCouple_14 : decode cX0_bindCouple 14 = .ok (.ifCond .ne 38, 3) := by decide +kernel
theorem dX0_bindCouple_17 : decode cX0_bindCouple 17 = .ok (.aload_n 0, 1) := by decide +kernel
theorem dX0_bindCouple_18 : decode cX0_bindCouple 18 = .ok (.getfield 28, 3) := by decide +kernel
theorem dX0_bindCouple_21 : decode cX0_bindCouple 21 = .ok (.iload 4, 2) := by decide +kernel
theorem dX0_bindCouple_23 : decode cX0_bindCouple 23 = .ok (.iconst 2, 1) := by decide +kernel
theorem dX0_bindCouple_24 : decode cX0_bindCouple 24 = .ok (.bastore, 1) := by decide +kernel
theorem dX0_bindCouple_25 : decode cX0_bindCouple 25 = .ok (.aload_n 0, 1) := by decide +kernel
theorem dX0_bindCouple_26 : decode cX0_bindCouple 26 = .ok (.getfield 35, 3) := by decide +kernel
theorem dX0_bindCouple_29 : decode cX0_bindCouple 29 = .ok (.iload 4, 2) := by decide +kernel
theorem dX0_bindCouple_31 : decode cX0_bindCouple 31 = .ok (.iload_n 2, 1) := by decide +kernel
theorem dX0_bindCouple_32 : decode cX0_bindCouple 32 = .ok (.i2b, 1) := by decide +kernel
theorem dX0_bindCouple_33 : decode cX0_bindCouple 33 = .ok (.bastore, 1) := by decide +kernel
theorem dX0_bindCouple_34 : decode cX0_bindCouple 34 = .ok (.aload_n 0, 1) := by decide +kernel
theorem dX0_bindCouple_35 : decode cX0_bindCouple 35 = .ok (.getfield 38, 3) := by decide +kernel
theorem dX0_bindCouple_38 : decode cX0_bindCouple 38 = .ok (.iload 4, 2) := by decide +kernel
theorem dX0_bindCouple_40 : decode cX0_bindCouple 40 = .ok (.iload_n 3, 1) := by decide +kernel
theorem dX0_bindCouple_41 : decode cX0_bindCouple 41 = .ok (.i2b, 1) := by decide +kernel
theorem dX0_bindCouple_42 : decode cX0_bindCouple 42 = .ok (.bastore, 1) := by decide +kernel
theorem dX0_bindCouple_43 : decode cX0_bindCouple 43 = .ok (.aload_n 0, 1) := by decide +kernel
theorem dX0_bindCouple_44 : decode cX0_bindCouple 44 = .ok (.iload 4, 2) := by decide +kernel
theorem dX0_bindCouple_46 : decode cX0_bindCouple 46 = .ok (.invokevirtual 94, 3) := by decide +kernel
theorem dX0_bindCouple_49 : decode cX0_bindCouple 49 = .ok (.goto 46, 3) := by decide +kernel
theorem dX0_bindCouple_52 : decode cX0_bindCouple 52 = .ok (.aload_n 0, 1) := by decide +kernel
theorem dX0_bindCouple_53 : decode cX0_bindCouple 53 = .ok (.getfield 28, 3) := by decide +kernel
theorem dX0_bindCouple_56 : decode cX0_bindCouple 56 = .ok (.iload 4, 2) := by decide +kernel
theorem dX0_bindCouple_58 : decode cX0_bindCouple 58 = .ok (.baload, 1) := by decide +kernel
theorem dX0_bindCouple_59 : decode cX0_bindCouple 59 = .ok (.iconst 2, 1) := by decide +kernel
theorem dX0_bindCouple_60 : decode cX0_bindCouple 60 = .ok (.if_icmp .ne 30, 3) := by decide +kernel
theorem dX0_bindCouple_63 : decode cX0_bindCouple 63 = .ok (.aload_n 0, 1) := by decide +kernel
theorem dX0_bindCouple_64 : decode cX0_bindCouple 64 = .ok (.aload_n 0, 1) := by decide +kernel
theorem dX0_bindCouple_65 : decode cX0_bindCouple 65 = .ok (.getfield 35, 3) := by decide +kernel
theorem dX0_bindCouple_68 : decode cX0_bindCouple 68 = .ok (.iload 4, 2) := by decide +kernel
theorem dX0_bindCouple_70 : decode cX0_bindCouple 70 = .ok (.baload, 1) := by decide +kernel
theorem dX0_bindCouple_71 : decode cX0_bindCouple 71 = .ok (.iload_n 2, 1) := by decide +kernel
theorem dX0_bindCouple_72 : decode cX0_bindCouple 72 = .ok (.invokevirtual 80, 3) := by decide +kernel
theorem dX0_bindCouple_75 : decode cX0_bindCouple 75 = .ok (.aload_n 0, 1) := by decide +kernel
theorem dX0_bindCouple_76 : decode cX0_bindCouple 76 = .ok (.aload_n 0, 1) := by decide +kernel
theorem dX0_bindCouple_77 : decode cX0_bindCouple 77 = .ok (.getfield 38, 3) := by decide +kernel
theorem dX0_bindCouple_80 : decode cX0_bindCouple 80 = .ok (.iload 4, 2) := by decide +kernel
theorem dX0_bindCouple_82 : decode cX0_bindCouple 82 = .ok (.baload, 1) := by decide +kernel
theorem dX0_bindCouple_83 : decode cX0_bindCouple 83 = .ok (.iload_n 3, 1) := by decide +kernel
theorem dX0_bindCouple_84 : decode cX0_bindCouple 84 = .ok (.invokevirtual 80, 3) := by decide +kernel
theorem dX0_bindCouple_87 : decode cX0_bindCouple 87 = .ok (.goto 8, 3) := by decide +kernel
theorem dX0_bindCouple_90 : decode cX0_bindCouple 90 = .ok (.aload_n 0, 1) := by decide +kernel
theorem dX0_bindCouple_91 : decode cX0_bindCouple 91 = .ok (.iconst 1, 1) := by decide +kernel
theorem dX0_bindCouple_92 : decode cX0_bindCouple 92 = .ok (.putfield 62, 3) := by decide +kernel
theorem dX0_bindCouple_95 : decode cX0_bindCouple 95 = .ok (.return_, 1) := by decide +kernel
abbrev cX0_work : ByteArray := prog_1_method_19_code
def yX0_work : MethodName := ⟨RX0, "work", "()V"⟩
theorem dX0_work_0 : decode cX0_work 0 = .ok (.aload_n 0, 1) := by decide +kernel
theorem dX0_work_1 : decode cX0_work 1 = .ok (.getfield 62, 3) := by decide +kernel
theorem dX0_work_4 : decode cX0_work 4 = .ok (.ifCond .ne 90, 3) := by decide +kernel
theorem dX0_work_7 : decode cX0_work 7 = .ok (.aload_n 0, 1) := by decide +kernel
theorem dX0_work_8 : decode cX0_work 8 = .ok (.getfield 69, 3) := by decide +kernel
theorem dX0_work_11 : decode cX0_work 11 = .ok (.ifCond .gt 12, 3) := by decide +kernel
theorem dX0_work_14 : decode cX0_work 14 = .ok (.aload_n 0, 1) := by decide +kernel
theorem dX0_work_15 : decode cX0_work 15 = .ok (.getfield 66, 3) := by decide +kernel
theorem dX0_work_18 : decode cX0_work 18 = .ok (.lconst 0, 1) := by decide +kernel
theorem dX0_work_19 : decode cX0_work 19 = .ok (.lcmp, 1) := by decide +kernel
theorem dX0_work_20 : decode cX0_work 20 = .ok (.ifCond .eq 74, 3) := by decide +kernel
theorem dX0_work_23 : decode cX0_work 23 = .ok (.aload_n 0, 1) := by decide +kernel
theorem dX0_work_24 : decode cX0_work 24 = .ok (.getfield 69, 3) := by decide +kernel
theorem dX0_work_27 : decode cX0_work 27 = .ok (.ifCond .le 38, 3) := by decide +kernel
theorem dX0_work_30 : decode cX0_work 30 = .ok (.aload_n 0, 1) := by decide +kernel
theorem dX0_work_31 : decode cX0_work 31 = .ok (.dup, 1) := by decide +kernel
theorem dX0_work_32 : decode cX0_work 32 = .ok (.getfield 69, 3) := by decide +kernel
theorem dX0_work_35 : decode cX0_work 35 = .ok (.iconst 1, 1) := by decide +kernel
theorem dX0_work_36 : decode cX0_work 36 = .ok (.isub, 1) := by decide +kernel
theorem dX0_work_37 : decode cX0_work 37 = .ok (.putfield 69, 3) := by decide +kernel
theorem dX0_work_40 : decode cX0_work 40 = .ok (.aload_n 0, 1) := by decide +kernel
theorem dX0_work_41 : decode cX0_work 41 = .ok (.aload_n 0, 1) := by decide +kernel
theorem dX0_work_42 : decode cX0_work 42 = .ok (.getfield 45, 3) := by decide +kernel
theorem dX0_work_45 : decode cX0_work 45 = .ok (.aload_n 0, 1) := by decide +kernel
theorem dX0_work_46 : decode cX0_work 46 = .ok (.getfield 69, 3) := by decide +kernel
theorem dX0_work_49 : decode cX0_work 49 = .ok (.baload, 1) := by decide +kernel
theorem dX0_work_50 : decode cX0_work 50 = .ok (.aload_n 0, 1) := by decide +kernel
theorem dX0_work_51 : decode cX0_work 51 = .ok (.getfield 48, 3) := by decide +kernel
theorem dX0_work_54 : decode cX0_work 54 = .ok (.aload_n 0, 1) := by decide +kernel
theorem dX0_work_55 : decode cX0_work 55 = .ok (.getfield 69, 3) := by decide +kernel
theorem dX0_work_58 : decode cX0_work 58 = .ok (.baload, 1) := by decide +kernel
theorem dX0_work_59 : decode cX0_work 59 = .ok (.invokevirtual 98, 3) := by decide +kernel
theorem dX0_work_62 : decode cX0_work 62 = .ok (.goto (-62), 3) := by decide +kernel
theorem dX0_work_65 : decode cX0_work 65 = .ok (.aload_n 0, 1) := by decide +kernel
theorem dX0_work_66 : decode cX0_work 66 = .ok (.invokevirtual 101, 3) := by decide +kernel
theorem dX0_work_69 : decode cX0_work 69 = .ok (.istore_n 1, 1) := by decide +kernel
theorem dX0_work_70 : decode cX0_work 70 = .ok (.aload_n 0, 1) := by decide +kernel
theorem dX0_work_71 : decode cX0_work 71 = .ok (.dup, 1) := by decide +kernel
theorem dX0_work_72 : decode cX0_work 72 = .ok (.getfield 66, 3) := by decide +kernel
theorem dX0_work_75 : decode cX0_work 75 = .ok (.lconst 1, 1) := by decide +kernel
theorem dX0_work_76 : decode cX0_work 76 = .ok (.iload_n 1, 1) := by decide +kernel
theorem dX0_work_77 : decode cX0_work 77 = .ok (.lshl, 1) := by decide +kernel
theorem dX0_work_78 : decode cX0_work 78 = .ok (.ldc2_w 105, 3) := by decide +kernel
theorem dX0_work_81 : decode cX0_work 81 = .ok (.lxor, 1) := by decide +kernel
theorem dX0_work_82 : decode cX0_work 82 = .ok (.land, 1) := by decide +kernel
theorem dX0_work_83 : decode cX0_work 83 = .ok (.putfield 66, 3) := by decide +kernel
theorem dX0_work_86 : decode cX0_work 86 = .ok (.aload_n 0, 1) := by decide +kernel
theorem dX0_work_87 : decode cX0_work 87 = .ok (.iload_n 1, 1) := by decide +kernel
theorem dX0_work_88 : decode cX0_work 88 = .ok (.invokevirtual 107, 3) := by decide +kernel
theorem dX0_work_91 : decode cX0_work 91 = .ok (.goto (-91), 3) := by decide +kernel
theorem dX0_work_94 : decode cX0_work 94 = .ok (.return_, 1) := by decide +kernel
abbrev cX0_join : ByteArray := prog_1_method_18_code
def yX0_join : MethodName := ⟨RX0, "join", "(II)V"⟩
theorem dX0_join_0 : decode cX0_join 0 = .ok (.aload_n 0, 1) := by decide +kernel
theorem dX0_join_1 : decode cX0_join 1 = .ok (.iload_n 1, 1) := by decide +kernel
theorem dX0_join_2 : decode cX0_join 2 = .ok (.invokevirtual 90, 3) := by decide +kernel
theorem dX0_join_5 : decode cX0_join 5 = .ok (.istore_n 3, 1) := by decide +kernel
theorem dX0_join_6 : decode cX0_join 6 = .ok (.aload_n 0, 1) := by decide +kernel
theorem dX0_join_7 : decode cX0_join 7 = .ok (.iload_n 2, 1) := by decide +kernel
theorem dX0_join_8 : decode cX0_join 8 = .ok (.invokevirtual 90, 3) := by decide +kernel
theorem dX0_join_11 : decode cX0_join 11 = .ok (.istore 4, 2) := by decide +kernel
theorem dX0_join_13 : decode cX0_join 13 = .ok (.iload_n 3, 1) := by decide +kernel
theorem dX0_join_14 : decode cX0_join 14 = .ok (.iload 4, 2) := by decide +kernel
theorem dX0_join_16 : decode cX0_join 16 = .ok (.if_icmp .ne 4, 3) := by decide +kernel
theorem dX0_join_19 : decode cX0_join 19 = .ok (.return_, 1) := by decide +kernel
theorem dX0_join_20 : decode cX0_join 20 = .ok (.aload_n 0, 1) := by decide +kernel
theorem dX0_join_21 : decode cX0_join 21 = .ok (.getfield 25, 3) := by decide +kernel
theorem dX0_join_24 : decode cX0_join 24 = .ok (.iload_n 3, 1) := by decide +kernel
theorem dX0_join_25 : decode cX0_join 25 = .ok (.baload, 1) := by decide +kernel
theorem dX0_join_26 : decode cX0_join 26 = .ok (.aload_n 0, 1) := by decide +kernel
theorem dX0_join_27 : decode cX0_join 27 = .ok (.getfield 25, 3) := by decide +kernel
theorem dX0_join_30 : decode cX0_join 30 = .ok (.iload 4, 2) := by decide +kernel
theorem dX0_join_32 : decode cX0_join 32 = .ok (.baload, 1) := by decide +kernel
theorem dX0_join_33 : decode cX0_join 33 = .ok (.if_icmp .lt 7, 3) := by decide +kernel
theorem dX0_join_36 : decode cX0_join 36 = .ok (.iload_n 3, 1) := by decide +kernel
theorem dX0_join_37 : decode cX0_join 37 = .ok (.goto 5, 3) := by decide +kernel
theorem dX0_join_40 : decode cX0_join 40 = .ok (.iload 4, 2) := by decide +kernel
theorem dX0_join_42 : decode cX0_join 42 = .ok (.istore 5, 2) := by decide +kernel
theorem dX0_join_44 : decode cX0_join 44 = .ok (.iload 5, 2) := by decide +kernel
theorem dX0_join_46 : decode cX0_join 46 = .ok (.iload_n 3, 1) := by decide +kernel
theorem dX0_join_47 : decode cX0_join 47 = .ok (.if_icmp .ne 8, 3) := by decide +kernel
theorem dX0_join_50 : decode cX0_join 50 = .ok (.iload 4, 2) := by decide +kernel
theorem dX0_join_52 : decode cX0_join 52 = .ok (.goto 4, 3) := by decide +kernel
theorem dX0_join_55 : decode cX0_join 55 = .ok (.iload_n 3, 1) := by decide +kernel
theorem dX0_join_56 : decode cX0_join 56 = .ok (.istore 6, 2) := by decide +kernel
theorem dX0_join_58 : decode cX0_join 58 = .ok (.aload_n 0, 1) := by decide +kernel
theorem dX0_join_59 : decode cX0_join 59 = .ok (.getfield 22, 3) := by decide +kernel
theorem dX0_join_62 : decode cX0_join 62 = .ok (.iload 6, 2) := by decide +kernel
theorem dX0_join_64 : decode cX0_join 64 = .ok (.iload 5, 2) := by decide +kernel
theorem dX0_join_66 : decode cX0_join 66 = .ok (.i2b, 1) := by decide +kernel
theorem dX0_join_67 : decode cX0_join 67 = .ok (.bastore, 1) := by decide +kernel
theorem dX0_join_68 : decode cX0_join 68 = .ok (.aload_n 0, 1) := by decide +kernel
theorem dX0_join_69 : decode cX0_join 69 = .ok (.getfield 25, 3) := by decide +kernel
theorem dX0_join_72 : decode cX0_join 72 = .ok (.iload 5, 2) := by decide +kernel
theorem dX0_join_74 : decode cX0_join 74 = .ok (.dup2, 1) := by decide +kernel
theorem dX0_join_75 : decode cX0_join 75 = .ok (.baload, 1) := by decide +kernel
theorem dX0_join_76 : decode cX0_join 76 = .ok (.aload_n 0, 1) := by decide +kernel
theorem dX0_join_77 : decode cX0_join 77 = .ok (.getfield 25, 3) := by decide +kernel
theorem dX0_join_80 : decode cX0_join 80 = .ok (.iload 6, 2) := by decide +kernel
theorem dX0_join_82 : decode cX0_join 82 = .ok (.baload, 1) := by decide +kernel
theorem dX0_join_83 : decode cX0_join 83 = .ok (.iadd, 1) := by decide +kernel
theorem dX0_join_84 : decode cX0_join 84 = .ok (.i2b, 1) := by decide +kernel
theorem dX0_join_85 : decode cX0_join 85 = .ok (.bastore, 1) := by decide +kernel
theorem dX0_join_86 : decode cX0_join 86 = .ok (.aload_n 0, 1) := by decide +kernel
theorem dX0_join_87 : decode cX0_join 87 = .ok (.getfield 41, 3) := by decide +kernel
theorem dX0_join_90 : decode cX0_join 90 = .ok (.iload 5, 2) := by decide +kernel
theorem dX0_join_92 : decode cX0_join 92 = .ok (.dup2, 1) := by decide +kernel
theorem dX0_join_93 : decode cX0_join 93 = .ok (.laload, 1) := by decide +kernel
theorem dX0_join_94 : decode cX0_join 94 = .ok (.aload_n 0, 1) := by decide +kernel
theorem dX0_join_95 : decode cX0_join 95 = .ok (.getfield 41, 3) := by decide +kernel
theorem dX0_join_98 : decode cX0_join 98 = .ok (.iload 6, 2) := by decide +kernel
theorem dX0_join_100 : decode cX0_join 100 = .ok (.laload, 1) := by decide +kernel
theorem dX0_join_101 : decode cX0_join 101 = .ok (.lor, 1) := by decide +kernel
theorem dX0_join_102 : decode cX0_join 102 = .ok (.lastore, 1) := by decide +kernel
theorem dX0_join_103 : decode cX0_join 103 = .ok (.aload_n 0, 1) := by decide +kernel
theorem dX0_join_104 : decode cX0_join 104 = .ok (.getfield 28, 3) := by decide +kernel
theorem dX0_join_107 : decode cX0_join 107 = .ok (.iload 6, 2) := by decide +kernel
theorem dX0_join_109 : decode cX0_join 109 = .ok (.baload, 1) := by decide +kernel
theorem dX0_join_110 : decode cX0_join 110 = .ok (.iconst 1, 1) := by decide +kernel
theorem dX0_join_111 : decode cX0_join 111 = .ok (.if_icmp .ne 16, 3) := by decide +kernel
theorem dX0_join_114 : decode cX0_join 114 = .ok (.aload_n 0, 1) := by decide +kernel
theorem dX0_join_115 : decode cX0_join 115 = .ok (.iload 5, 2) := by decide +kernel
theorem dX0_join_117 : decode cX0_join 117 = .ok (.aload_n 0, 1) := by decide +kernel
theorem dX0_join_118 : decode cX0_join 118 = .ok (.getfield 31, 3) := by decide +kernel
theorem dX0_join_121 : decode cX0_join 121 = .ok (.iload 6, 2) := by decide +kernel
theorem dX0_join_123 : decode cX0_join 123 = .ok (.iaload, 1) := by decide +kernel
theorem dX0_join_124 : decode cX0_join 124 = .ok (.invokevirtual 76, 3) := by decide +kernel
theorem dX0_join_127 : decode cX0_join 127 = .ok (.aload_n 0, 1) := by decide +kernel
theorem dX0_join_128 : decode cX0_join 128 = .ok (.getfield 28, 3) := by decide +kernel
theorem dX0_join_131 : decode cX0_join 131 = .ok (.iload 6, 2) := by decide +kernel
theorem dX0_join_133 : decode cX0_join 133 = .ok (.baload, 1) := by decide +kernel
theorem dX0_join_134 : decode cX0_join 134 = .ok (.iconst 2, 1) := by decide +kernel
theorem dX0_join_135 : decode cX0_join 135 = .ok (.if_icmp .ne 23, 3) := by decide +kernel
theorem dX0_join_138 : decode cX0_join 138 = .ok (.aload_n 0, 1) := by decide +kernel
theorem dX0_join_139 : decode cX0_join 139 = .ok (.iload 5, 2) := by decide +kernel
theorem dX0_join_141 : decode cX0_join 141 = .ok (.aload_n 0, 1) := by decide +kernel
theorem dX0_join_142 : decode cX0_join 142 = .ok (.getfield 35, 3) := by decide +kernel
theorem dX0_join_145 : decode cX0_join 145 = .ok (.iload 6, 2) := by decide +kernel
theorem dX0_join_147 : decode cX0_join 147 = .ok (.baload, 1) := by decide +kernel
theorem dX0_join_148 : decode cX0_join 148 = .ok (.aload_n 0, 1) := by decide +kernel
theorem dX0_join_149 : decode cX0_join 149 = .ok (.getfield 38, 3) := by decide +kernel
theorem dX0_join_152 : decode cX0_join 152 = .ok (.iload 6, 2) := by decide +kernel
theorem dX0_join_154 : decode cX0_join 154 = .ok (.baload, 1) := by decide +kernel
theorem dX0_join_155 : decode cX0_join 155 = .ok (.invokevirtual 83, 3) := by decide +kernel
theorem dX0_join_158 : decode cX0_join 158 = .ok (.aload_n 0, 1) := by decide +kernel
theorem dX0_join_159 : decode cX0_join 159 = .ok (.getfield 28, 3) := by decide +kernel
theorem dX0_join_162 : decode cX0_join 162 = .ok (.iload 5, 2) := by decide +kernel
theorem dX0_join_164 : decode cX0_join 164 = .ok (.baload, 1) := by decide +kernel
theorem dX0_join_165 : decode cX0_join 165 = .ok (.ifCond .eq 9, 3) := by decide +kernel
theorem dX0_join_168 : decode cX0_join 168 = .ok (.aload_n 0, 1) := by decide +kernel
theorem dX0_join_169 : decode cX0_join 169 = .ok (.iload 5, 2) := by decide +kernel
theorem dX0_join_171 : decode cX0_join 171 = .ok (.invokevirtual 94, 3) := by decide +kernel
theorem dX0_join_174 : decode cX0_join 174 = .ok (.return_, 1) := by decide +kernel
abbrev cX0_lowestReady : ByteArray := prog_1_method_20_code
def yX0_lowestReady : MethodName := ⟨RX0, "lowestReady", "()I"⟩
theorem dX0_lowestReady_0 : decode cX0_lowestReady 0 = .ok (.iconst 0, 1) := by decide +kernel
theorem dX0_lowestReady_1 : decode cX0_lowestReady 1 = .ok (.istore_n 1, 1) := by decide +kernel
theorem dX0_lowestReady_2 : decode cX0_lowestReady 2 = .ok (.iload_n 1, 1) := by decide +kernel
theorem dX0_lowestReady_3 : decode cX0_lowestReady 3 = .ok (.bipush 39, 2) := by decide +kernel
theorem dX0_lowestReady_5 : decode cX0_lowestReady 5 = .ok (.if_icmp .ge 22, 3) := by decide +kernel
theorem dX0_lowestReady_8 : decode cX0_lowestReady 8 = .ok (.aload_n 0, 1) := by decide +kernel
theorem dX0_lowestReady_9 : decode cX0_lowestReady 9 = .ok (.getfield 66, 3) := by decide +kernel
theorem dX0_lowestReady_12 : decode cX0_lowestReady 12 = .ok (.iload_n 1, 1) := by decide +kernel
theorem dX0_lowestReady_13 : decode cX0_lowestReady 13 = .ok (.lushr, 1) := by decide +kernel
theorem dX0_lowestReady_14 : decode cX0_lowestReady 14 = .ok (.lconst 1, 1) := by decide +kernel
theorem dX0_lowestReady_15 : decode cX0_lowestReady 15 = .ok (.land, 1) := by decide +kernel
theorem dX0_lowestReady_16 : decode cX0_lowestReady 16 = .ok (.lconst 0, 1) := by decide +kernel
theorem dX0_lowestReady_17 : decode cX0_lowestReady 17 = .ok (.lcmp, 1) := by decide +kernel
theorem dX0_lowestReady_18 : decode cX0_lowestReady 18 = .ok (.ifCond .ne 9, 3) := by decide +kernel
theorem dX0_lowestReady_21 : decode cX0_lowestReady 21 = .ok (.iinc 1 1, 3) := by decide +kernel
theorem dX0_lowestReady_24 : decode cX0_lowestReady 24 = .ok (.goto (-22), 3) := by decide +kernel
theorem dX0_lowestReady_27 : decode cX0_lowestReady 27 = .ok (.iload_n 1, 1) := by decide +kernel
theorem dX0_lowestReady_28 : decode cX0_lowestReady 28 = .ok (.ireturn, 1) := by decide +kernel
end
section
set_option maxRecDepth 100000
abbrev cX0_tryStatement : ByteArray := prog_1_method_21_code
def yX0_tryStatement : MethodName := ⟨RX0, "tryStatement", "(I)V"⟩
theorem dX0_tryStatement_0 : decode cX0_tryStatement 0 = .ok (.aload_n 0, 1) := by decide +kernel
theorem dX0_tryStatement_1 : decode cX0_tryStatement 1 = .ok (.aload_n 0, 1) := by decide +kernel
theorem dX0_tryStatement_2 : decode cX0_tryStatement 2 = .ok (.getfield 16, 3) := by decide +kernel
theorem dX0_tryStatement_5 : decode cX0_tryStatement 5 = .ok (.iload_n 1, 1) := by decide +kernel
theorem dX0_tryStatement_6 : decode cX0_tryStatement 6 = .ok (.baload, 1) := by decide +kernel
theorem dX0_tryStatement_7 : decode cX0_tryStatement 7 = .ok (.invokevirtual 90, 3) := by decide +kernel
theorem dX0_tryStatement_10 : decode cX0_tryStatement 10 = .ok (.istore_n 2, 1) := by decide +kernel
theorem dX0_tryStatement_11 : decode cX0_tryStatement 11 = .ok (.aload_n 0, 1) := by decide +kernel
theorem dX0_tryStatement_12 : decode cX0_tryStatement 12 = .ok (.aload_n 0, 1) := by decide +kernel
theorem dX0_tryStatement_13 : decode cX0_tryStatement 13 = .ok (.getfield 19, 3) := by decide +kernel
theorem dX0_tryStatement_16 : decode cX0_tryStatement 16 = .ok (.iload_n 1, 1) := by decide +kernel
theorem dX0_tryStatement_17 : decode cX0_tryStatement 17 = .ok (.baload, 1) := by decide +kernel
theorem dX0_tryStatement_18 : decode cX0_tryStatement 18 = .ok (.invokevirtual 90, 3) := by decide +kernel
theorem dX0_tryStatement_21 : decode cX0_tryStatement 21 = .ok (.istore_n 3, 1) := by decide +kernel
theorem dX0_tryStatement_22 : decode cX0_tryStatement 22 = .ok (.aload_n 0, 1) := by decide +kernel
theorem dX0_tryStatement_23 : decode cX0_tryStatement 23 = .ok (.getfield 7, 3) := by decide +kernel
theorem dX0_tryStatement_26 : decode cX0_tryStatement 26 = .ok (.iload_n 1, 1) := by decide +kernel
theorem dX0_tryStatement_27 : decode cX0_tryStatement 27 = .ok (.baload, 1) := by decide +kernel
theorem dX0_tryStatement_28 : decode cX0_tryStatement 28 = .ok (.iconst 5, 1) := by decide +kernel
theorem dX0_tryStatement_29 : decode cX0_tryStatement 29 = .ok (.if_icmp .eq 14, 3) := by decide +kernel
theorem dX0_tryStatement_32 : decode cX0_tryStatement 32 = .ok (.aload_n 0, 1) := by decide +kernel
theorem dX0_tryStatement_33 : decode cX0_tryStatement 33 = .ok (.getfield 7, 3) := by decide +kernel
theorem dX0_tryStatement_36 : decode cX0_tryStatement 36 = .ok (.iload_n 1, 1) := by decide +kernel
theorem dX0_tryStatement_37 : decode cX0_tryStatement 37 = .ok (.baload, 1) := by decide +kernel
theorem dX0_tryStatement_38 : decode cX0_tryStatement 38 = .ok (.bipush 6, 2) := by decide +kernel
theorem dX0_tryStatement_40 : decode cX0_tryStatement 40 = .ok (.if_icmp .ne 7, 3) := by decide +kernel
theorem dX0_tryStatement_43 : decode cX0_tryStatement 43 = .ok (.iconst 1, 1) := by decide +kernel
theorem dX0_tryStatement_44 : decode cX0_tryStatement 44 = .ok (.goto 4, 3) := by decide +kernel
theorem dX0_tryStatement_47 : decode cX0_tryStatement 47 = .ok (.iconst 0, 1) := by decide +kernel
theorem dX0_tryStatement_48 : decode cX0_tryStatement 48 = .ok (.istore 4, 2) := by decide +kernel
theorem dX0_tryStatement_50 : decode cX0_tryStatement 50 = .ok (.iload 4, 2) := by decide +kernel
theorem dX0_tryStatement_52 : decode cX0_tryStatement 52 = .ok (.ifCond .eq 7, 3) := by decide +kernel
theorem dX0_tryStatement_55 : decode cX0_tryStatement 55 = .ok (.iconst 2, 1) := by decide +kernel
theorem dX0_tryStatement_56 : decode cX0_tryStatement 56 = .ok (.goto 4, 3) := by decide +kernel
theorem dX0_tryStatement_59 : decode cX0_tryStatement 59 = .ok (.iconst 1, 1) := by decide +kernel
theorem dX0_tryStatement_60 : decode cX0_tryStatement 60 = .ok (.istore 5, 2) := by decide +kernel
theorem dX0_tryStatement_62 : decode cX0_tryStatement 62 = .ok (.aload_n 0, 1) := by decide +kernel
theorem dX0_tryStatement_63 : decode cX0_tryStatement 63 = .ok (.getfield 28, 3) := by decide +kernel
theorem dX0_tryStatement_66 : decode cX0_tryStatement 66 = .ok (.iload_n 2, 1) := by decide +kernel
theorem dX0_tryStatement_67 : decode cX0_tryStatement 67 = .ok (.baload, 1) := by decide +kernel
theorem dX0_tryStatement_68 : decode cX0_tryStatement 68 = .ok (.ifCond .eq 12, 3) := by decide +kernel
theorem dX0_tryStatement_71 : decode cX0_tryStatement 71 = .ok (.aload_n 0, 1) := by decide +kernel
theorem dX0_tryStatement_72 : decode cX0_tryStatement 72 = .ok (.getfield 28, 3) := by decide +kernel
theorem dX0_tryStatement_75 : decode cX0_tryStatement 75 = .ok (.iload_n 3, 1) := by decide +kernel
theorem dX0_tryStatement_76 : decode cX0_tryStatement 76 = .ok (.baload, 1) := by decide +kernel
theorem dX0_tryStatement_77 : decode cX0_tryStatement 77 = .ok (.ifCond .ne 29, 3) := by decide +kernel
theorem dX0_tryStatement_80 : decode cX0_tryStatement 80 = .ok (.aload_n 0, 1) := by decide +kernel
theorem dX0_tryStatement_81 : decode cX0_tryStatement 81 = .ok (.getfield 41, 3) := by decide +kernel
theorem dX0_tryStatement_84 : decode cX0_tryStatement 84 = .ok (.aload_n 0, 1) := by decide +kernel
theorem dX0_tryStatement_85 : decode cX0_tryStatement 85 = .ok (.getfield 28, 3) := by decide +kernel
theorem dX0_tryStatement_88 : decode cX0_tryStatement 88 = .ok (.iload_n 2, 1) := by decide +kernel
theorem dX0_tryStatement_89 : decode cX0_tryStatement 89 = .ok (.baload, 1) := by decide +kernel
theorem dX0_tryStatement_90 : decode cX0_tryStatement 90 = .ok (.ifCond .ne 7, 3) := by decide +kernel
theorem dX0_tryStatement_93 : decode cX0_tryStatement 93 = .ok (.iload_n 2, 1) := by decide +kernel
theorem dX0_tryStatement_94 : decode cX0_tryStatement 94 = .ok (.goto 4, 3) := by decide +kernel
theorem dX0_tryStatement_97 : decode cX0_tryStatement 97 = .ok (.iload_n 3, 1) := by decide +kernel
theorem dX0_tryStatement_98 : decode cX0_tryStatement 98 = .ok (.dup2, 1) := by decide +kernel
theorem dX0_tryStatement_99 : decode cX0_tryStatement 99 = .ok (.laload, 1) := by decide +kernel
theorem dX0_tryStatement_100 : decode cX0_tryStatement 100 = .ok (.lconst 1, 1) := by decide +kernel
theorem dX0_tryStatement_101 : decode cX0_tryStatement 101 = .ok (.iload_n 1, 1) := by decide +kernel
theorem dX0_tryStatement_102 : decode cX0_tryStatement 102 = .ok (.lshl, 1) := by decide +kernel
theorem dX0_tryStatement_103 : decode cX0_tryStatement 103 = .ok (.lor, 1) := by decide +kernel
theorem dX0_tryStatement_104 : decode cX0_tryStatement 104 = .ok (.lastore, 1) := by decide +kernel
theorem dX0_tryStatement_105 : decode cX0_tryStatement 105 = .ok (.return_, 1) := by decide +kernel
theorem dX0_tryStatement_106 : decode cX0_tryStatement 106 = .ok (.aload_n 0, 1) := by decide +kernel
theorem dX0_tryStatement_107 : decode cX0_tryStatement 107 = .ok (.getfield 28, 3) := by decide +kernel
theorem dX0_tryStatement_110 : decode cX0_tryStatement 110 = .ok (.iload_n 2, 1) := by decide +kernel
theorem dX0_tryStatement_111 : decode cX0_tryStatement 111 = .ok (.baload, 1) := by decide +kernel
theorem dX0_tryStatement_112 : decode cX0_tryStatement 112 = .ok (.iload 5, 2) := by decide +kernel
theorem dX0_tryStatement_114 : decode cX0_tryStatement 114 = .ok (.if_icmp .ne 14, 3) := by decide +kernel
theorem dX0_tryStatement_117 : decode cX0_tryStatement 117 = .ok (.aload_n 0, 1) := by decide +kernel
theorem dX0_tryStatement_118 : decode cX0_tryStatement 118 = .ok (.getfield 28, 3) := by decide +kernel
theorem dX0_tryStatement_121 : decode cX0_tryStatement 121 = .ok (.iload_n 3, 1) := by decide +kernel
theorem dX0_tryStatement_122 : decode cX0_tryStatement 122 = .ok (.baload, 1) := by decide +kernel
theorem dX0_tryStatement_123 : decode cX0_tryStatement 123 = .ok (.iload 5, 2) := by decide +kernel
theorem dX0_tryStatement_125 : decode cX0_tryStatement 125 = .ok (.if_icmp .eq 4, 3) := by decide +kernel
theorem dX0_tryStatement_128 : decode cX0_tryStatement 128 = .ok (.return_, 1) := by decide +kernel
theorem dX0_tryStatement_129 : decode cX0_tryStatement 129 = .ok (.aload_n 0, 1) := by decide +kernel
theorem dX0_tryStatement_130 : decode cX0_tryStatement 130 = .ok (.dup, 1) := by decide +kernel
theorem dX0_tryStatement_131 : decode cX0_tryStatement 131 = .ok (.getfield 58, 3) := by decide +kernel
theorem dX0_tryStatement_134 : decode cX0_tryStatement 134 = .ok (.lconst 1, 1) := by decide +kernel
theorem dX0_tryStatement_135 : decode cX0_tryStatement 135 = .ok (.iload_n 1, 1) := by decide +kernel
theorem dX0_tryStatement_136 : decode cX0_tryStatement 136 = .ok (.lshl, 1) := by decide +kernel
theorem dX0_tryStatement_137 : decode cX0_tryStatement 137 = .ok (.ldc2_w 105, 3) := by decide +kernel
theorem dX0_tryStatement_140 : decode cX0_tryStatement 140 = .ok (.lxor, 1) := by decide +kernel
theorem dX0_tryStatement_141 : decode cX0_tryStatement 141 = .ok (.land, 1) := by decide +kernel
theorem dX0_tryStatement_142 : decode cX0_tryStatement 142 = .ok (.putfield 58, 3) := by decide +kernel
theorem dX0_tryStatement_145 : decode cX0_tryStatement 145 = .ok (.iload 4, 2) := by decide +kernel
theorem dX0_tryStatement_147 : decode cX0_tryStatement 147 = .ok (.ifCond .eq 39, 3) := by decide +kernel
theorem dX0_tryStatement_150 : decode cX0_tryStatement 150 = .ok (.aload_n 0, 1) := by decide +kernel
theorem dX0_tryStatement_151 : decode cX0_tryStatement 151 = .ok (.aload_n 0, 1) := by decide +kernel
theorem dX0_tryStatement_152 : decode cX0_tryStatement 152 = .ok (.getfield 13, 3) := by decide +kernel
theorem dX0_tryStatement_155 : decode cX0_tryStatement 155 = .ok (.iload_n 1, 1) := by decide +kernel
theorem dX0_tryStatement_156 : decode cX0_tryStatement 156 = .ok (.baload, 1) := by decide +kernel
theorem dX0_tryStatement_157 : decode cX0_tryStatement 157 = .ok (.aload_n 0, 1) := by decide +kernel
theorem dX0_tryStatement_158 : decode cX0_tryStatement 158 = .ok (.getfield 7, 3) := by decide +kernel
theorem dX0_tryStatement_161 : decode cX0_tryStatement 161 = .ok (.iload_n 1, 1) := by decide +kernel
theorem dX0_tryStatement_162 : decode cX0_tryStatement 162 = .ok (.baload, 1) := by decide +kernel
theorem dX0_tryStatement_163 : decode cX0_tryStatement 163 = .ok (.iconst 5, 1) := by decide +kernel
theorem dX0_tryStatement_164 : decode cX0_tryStatement 164 = .ok (.if_icmp .ne 12, 3) := by decide +kernel
theorem dX0_tryStatement_167 : decode cX0_tryStatement 167 = .ok (.aload_n 0, 1) := by decide +kernel
theorem dX0_tryStatement_168 : decode cX0_tryStatement 168 = .ok (.getfield 35, 3) := by decide +kernel
theorem dX0_tryStatement_171 : decode cX0_tryStatement 171 = .ok (.iload_n 2, 1) := by decide +kernel
theorem dX0_tryStatement_172 : decode cX0_tryStatement 172 = .ok (.baload, 1) := by decide +kernel
theorem dX0_tryStatement_173 : decode cX0_tryStatement 173 = .ok (.goto 9, 3) := by decide +kernel
theorem dX0_tryStatement_176 : decode cX0_tryStatement 176 = .ok (.aload_n 0, 1) := by decide +kernel
theorem dX0_tryStatement_177 : decode cX0_tryStatement 177 = .ok (.getfield 38, 3) := by decide +kernel
theorem dX0_tryStatement_180 : decode cX0_tryStatement 180 = .ok (.iload_n 2, 1) := by decide +kernel
theorem dX0_tryStatement_181 : decode cX0_tryStatement 181 = .ok (.baload, 1) := by decide +kernel
theorem dX0_tryStatement_182 : decode cX0_tryStatement 182 = .ok (.invokevirtual 80, 3) := by decide +kernel
theorem dX0_tryStatement_185 : decode cX0_tryStatement 185 = .ok (.return_, 1) := by decide +kernel
theorem dX0_tryStatement_186 : decode cX0_tryStatement 186 = .ok (.aload_n 0, 1) := by decide +kernel
theorem dX0_tryStatement_187 : decode cX0_tryStatement 187 = .ok (.aload_n 0, 1) := by decide +kernel
theorem dX0_tryStatement_188 : decode cX0_tryStatement 188 = .ok (.getfield 7, 3) := by decide +kernel
theorem dX0_tryStatement_191 : decode cX0_tryStatement 191 = .ok (.iload_n 1, 1) := by decide +kernel
theorem dX0_tryStatement_192 : decode cX0_tryStatement 192 = .ok (.baload, 1) := by decide +kernel
theorem dX0_tryStatement_193 : decode cX0_tryStatement 193 = .ok (.aload_n 0, 1) := by decide +kernel
theorem dX0_tryStatement_194 : decode cX0_tryStatement 194 = .ok (.getfield 31, 3) := by decide +kernel
theorem dX0_tryStatement_197 : decode cX0_tryStatement 197 = .ok (.iload_n 2, 1) := by decide +kernel
theorem dX0_tryStatement_198 : decode cX0_tryStatement 198 = .ok (.iaload, 1) := by decide +kernel
theorem dX0_tryStatement_199 : decode cX0_tryStatement 199 = .ok (.aload_n 0, 1) := by decide +kernel
theorem dX0_tryStatement_200 : decode cX0_tryStatement 200 = .ok (.getfield 31, 3) := by decide +kernel
theorem dX0_tryStatement_203 : decode cX0_tryStatement 203 = .ok (.iload_n 3, 1) := by decide +kernel
theorem dX0_tryStatement_204 : decode cX0_tryStatement 204 = .ok (.iaload, 1) := by decide +kernel
theorem dX0_tryStatement_205 : decode cX0_tryStatement 205 = .ok (.invokevirtual 110, 3) := by decide +kernel
theorem dX0_tryStatement_208 : decode cX0_tryStatement 208 = .ok (.istore 6, 2) := by decide +kernel
theorem dX0_tryStatement_210 : decode cX0_tryStatement 210 = .ok (.aload_n 0, 1) := by decide +kernel
theorem dX0_tryStatement_211 : decode cX0_tryStatement 211 = .ok (.aload_n 0, 1) := by decide +kernel
theorem dX0_tryStatement_212 : decode cX0_tryStatement 212 = .ok (.getfield 13, 3) := by decide +kernel
theorem dX0_tryStatement_215 : decode cX0_tryStatement 215 = .ok (.iload_n 1, 1) := by decide +kernel
theorem dX0_tryStatement_216 : decode cX0_tryStatement 216 = .ok (.baload, 1) := by decide +kernel
theorem dX0_tryStatement_217 : decode cX0_tryStatement 217 = .ok (.iload 6, 2) := by decide +kernel
theorem dX0_tryStatement_219 : decode cX0_tryStatement 219 = .ok (.invokevirtual 76, 3) := by decide +kernel
theorem dX0_tryStatement_222 : decode cX0_tryStatement 222 = .ok (.return_, 1) := by decide +kernel
abbrev cX0_computed : ByteArray := prog_1_method_22_code
def yX0_computed : MethodName := ⟨RX0, "computed", "(III)I"⟩
theorem dX0_computed_0 : decode cX0_computed 0 = .ok (.iload_n 1, 1) := by decide +kernel
theorem dX0_computed_1 : decode cX0_computed 1 = .ok (.iconst 3, 1) := by decide +kernel
theorem dX0_computed_2 : decode cX0_computed 2 = .ok (.if_icmp .ne 7, 3) := by decide +kernel
theorem dX0_computed_5 : decode cX0_computed 5 = .ok (.iload_n 2, 1) := by decide +kernel
theorem dX0_computed_6 : decode cX0_computed 6 = .ok (.iload_n 3, 1) := by decide +kernel
theorem dX0_computed_7 : decode cX0_computed 7 = .ok (.iadd, 1) := by decide +kernel
theorem dX0_computed_8 : decode cX0_computed 8 = .ok (.ireturn, 1) := by decide +kernel
theorem dX0_computed_9 : decode cX0_computed 9 = .ok (.iload_n 1, 1) := by decide +kernel
theorem dX0_computed_10 : decode cX0_computed 10 = .ok (.iconst 4, 1) := by decide +kernel
theorem dX0_computed_11 : decode cX0_computed 11 = .ok (.if_icmp .ne 7, 3) := by decide +kernel
theorem dX0_computed_14 : decode cX0_computed 14 = .ok (.iload_n 2, 1) := by decide +kernel
theorem dX0_computed_15 : decode cX0_computed 15 = .ok (.iload_n 3, 1) := by decide +kernel
theorem dX0_computed_16 : decode cX0_computed 16 = .ok (.imul, 1) := by decide +kernel
theorem dX0_computed_17 : decode cX0_computed 17 = .ok (.ireturn, 1) := by decide +kernel
theorem dX0_computed_18 : decode cX0_computed 18 = .ok (.iload_n 2, 1) := by decide +kernel
theorem dX0_computed_19 : decode cX0_computed 19 = .ok (.iload_n 3, 1) := by decide +kernel
theorem dX0_computed_20 : decode cX0_computed 20 = .ok (.if_icmp .ne 7, 3) := by decide +kernel
theorem dX0_computed_23 : decode cX0_computed 23 = .ok (.iconst 1, 1) := by decide +kernel
theorem dX0_computed_24 : decode cX0_computed 24 = .ok (.goto 4, 3) := by decide +kernel
theorem dX0_computed_27 : decode cX0_computed 27 = .ok (.iconst 0, 1) := by decide +kernel
theorem dX0_computed_28 : decode cX0_computed 28 = .ok (.ireturn, 1) := by decide +kernel
abbrev cX0_failed : ByteArray := prog_1_method_5_code
def yX0_failed : MethodName := ⟨RX0, "failed", "()Z"⟩
theorem dX0_failed_0 : decode cX0_failed 0 = .ok (.aload_n 0, 1) := by decide +kernel
theorem dX0_failed_1 : decode cX0_failed 1 = .ok (.getfield 62, 3) := by decide +kernel
theorem dX0_failed_4 : decode cX0_failed 4 = .ok (.ireturn, 1) := by decide +kernel
abbrev cX0_state : ByteArray := prog_1_method_6_code
def yX0_state : MethodName := ⟨RX0, "state", "(I)I"⟩
theorem dX0_state_0 : decode cX0_state 0 = .ok (.aload_n 0, 1) := by decide +kernel
theorem dX0_state_1 : decode cX0_state 1 = .ok (.getfield 62, 3) := by decide +kernel
theorem dX0_state_4 : decode cX0_state 4 = .ok (.ifCond .eq 6, 3) := by decide +kernel
theorem dX0_state_7 : decode cX0_state 7 = .ok (.bipush (-3), 2) := by decide +kernel
theorem dX0_state_9 : decode cX0_state 9 = .ok (.ireturn, 1) := by decide +kernel
theorem dX0_state_10 : decode cX0_state 10 = .ok (.aload_n 0, 1) := by decide +kernel
theorem dX0_state_11 : decode cX0_state 11 = .ok (.iload_n 1, 1) := by decide +kernel
theorem dX0_state_12 : decode cX0_state 12 = .ok (.invokevirtual 72, 3) := by decide +kernel
theorem dX0_state_15 : decode cX0_state 15 = .ok (.ifCond .ne 5, 3) := by decide +kernel
theorem dX0_state_18 : decode cX0_state 18 = .ok (.iconst (-1), 1) := by decide +kernel
theorem dX0_state_19 : decode cX0_state 19 = .ok (.ireturn, 1) := by decide +kernel
theorem dX0_state_20 : decode cX0_state 20 = .ok (.aload_n 0, 1) := by decide +kernel
theorem dX0_state_21 : decode cX0_state 21 = .ok (.getfield 28, 3) := by decide +kernel
theorem dX0_state_24 : decode cX0_state 24 = .ok (.aload_n 0, 1) := by decide +kernel
theorem dX0_state_25 : decode cX0_state 25 = .ok (.iload_n 1, 1) := by decide +kernel
theorem dX0_state_26 : decode cX0_state 26 = .ok (.invokevirtual 90, 3) := by decide +kernel
theorem dX0_state_29 : decode cX0_state 29 = .ok (.baload, 1) := by decide +kernel
theorem dX0_state_30 : decode cX0_state 30 = .ok (.ireturn, 1) := by decide +kernel
abbrev cX0_value : ByteArray := prog_1_method_7_code
def yX0_value : MethodName := ⟨RX0, "value", "(I)I"⟩
theorem dX0_value_0 : decode cX0_value 0 = .ok (.aload_n 0, 1) := by decide +kernel
theorem dX0_value_1 : decode cX0_value 1 = .ok (.iload_n 1, 1) := by decide +kernel
theorem dX0_value_2 : decode cX0_value 2 = .ok (.invokevirtual 72, 3) := by decide +kernel
theorem dX0_value_5 : decode cX0_value 5 = .ok (.ifCond .eq 10, 3) := by decide +kernel
theorem dX0_value_8 : decode cX0_value 8 = .ok (.aload_n 0, 1) := by decide +kernel
theorem dX0_value_9 : decode cX0_value 9 = .ok (.getfield 62, 3) := by decide +kernel
theorem dX0_value_12 : decode cX0_value 12 = .ok (.ifCond .eq 5, 3) := by decide +kernel
theorem dX0_value_15 : decode cX0_value 15 = .ok (.iconst 0, 1) := by decide +kernel
theorem dX0_value_16 : decode cX0_value 16 = .ok (.ireturn, 1) := by decide +kernel
theorem dX0_value_17 : decode cX0_value 17 = .ok (.aload_n 0, 1) := by decide +kernel
theorem dX0_value_18 : decode cX0_value 18 = .ok (.iload_n 1, 1) := by decide +kernel
theorem dX0_value_19 : decode cX0_value 19 = .ok (.invokevirtual 90, 3) := by decide +kernel
theorem dX0_value_22 : decode cX0_value 22 = .ok (.istore_n 2, 1) := by decide +kernel
theorem dX0_value_23 : decode cX0_value 23 = .ok (.aload_n 0, 1) := by decide +kernel
theorem dX0_value_24 : decode cX0_value 24 = .ok (.getfield 28, 3) := by decide +kernel
theorem dX0_value_27 : decode cX0_value 27 = .ok (.iload_n 2, 1) := by decide +kernel
theorem dX0_value_28 : decode cX0_value 28 = .ok (.baload, 1) := by decide +kernel
theorem dX0_value_29 : decode cX0_value 29 = .ok (.iconst 1, 1) := by decide +kernel
theorem dX0_value_30 : decode cX0_value 30 = .ok (.if_icmp .ne 12, 3) := by decide +kernel
theorem dX0_value_33 : decode cX0_value 33 = .ok (.aload_n 0, 1) := by decide +kernel
theorem dX0_value_34 : decode cX0_value 34 = .ok (.getfield 31, 3) := by decide +kernel
theorem dX0_value_37 : decode cX0_value 37 = .ok (.iload_n 2, 1) := by decide +kernel
theorem dX0_value_38 : decode cX0_value 38 = .ok (.iaload, 1) := by decide +kernel
theorem dX0_value_39 : decode cX0_value 39 = .ok (.goto 4, 3) := by decide +kernel
theorem dX0_value_42 : decode cX0_value 42 = .ok (.iconst 0, 1) := by decide +kernel
theorem dX0_value_43 : decode cX0_value 43 = .ok (.ireturn, 1) := by decide +kernel
abbrev cX0_linked : ByteArray := prog_1_method_8_code
def yX0_linked : MethodName := ⟨RX0, "linked", "(II)Z"⟩
theorem dX0_linked_0 : decode cX0_linked 0 = .ok (.aload_n 0, 1) := by decide +kernel
theorem dX0_linked_1 : decode cX0_linked 1 = .ok (.iload_n 1, 1) := by decide +kernel
theorem dX0_linked_2 : decode cX0_linked 2 = .ok (.invokevirtual 72, 3) := by decide +kernel
theorem dX0_linked_5 : decode cX0_linked 5 = .ok (.ifCond .eq 35, 3) := by decide +kernel
theorem dX0_linked_8 : decode cX0_linked 8 = .ok (.aload_n 0, 1) := by decide +kernel
theorem dX0_linked_9 : decode cX0_linked 9 = .ok (.iload_n 2, 1) := by decide +kernel
theorem dX0_linked_10 : decode cX0_linked 10 = .ok (.invokevirtual 72, 3) := by decide +kernel
theorem dX0_linked_13 : decode cX0_linked 13 = .ok (.ifCond .eq 27, 3) := by decide +kernel
theorem dX0_linked_16 : decode cX0_linked 16 = .ok (.aload_n 0, 1) := by decide +kernel
theorem dX0_linked_17 : decode cX0_linked 17 = .ok (.getfield 62, 3) := by decide +kernel
theorem dX0_linked_20 : decode cX0_linked 20 = .ok (.ifCond .ne 20, 3) := by decide +kernel
theorem dX0_linked_23 : decode cX0_linked 23 = .ok (.aload_n 0, 1) := by decide +kernel
theorem dX0_linked_24 : decode cX0_linked 24 = .ok (.iload_n 1, 1) := by decide +kernel
theorem dX0_linked_25 : decode cX0_linked 25 = .ok (.invokevirtual 90, 3) := by decide +kernel
theorem dX0_linked_28 : decode cX0_linked 28 = .ok (.aload_n 0, 1) := by decide +kernel
theorem dX0_linked_29 : decode cX0_linked 29 = .ok (.iload_n 2, 1) := by decide +kernel
theorem dX0_linked_30 : decode cX0_linked 30 = .ok (.invokevirtual 90, 3) := by decide +kernel
theorem dX0_linked_33 : decode cX0_linked 33 = .ok (.if_icmp .ne 7, 3) := by decide +kernel
theorem dX0_linked_36 : decode cX0_linked 36 = .ok (.iconst 1, 1) := by decide +kernel
theorem dX0_linked_37 : decode cX0_linked 37 = .ok (.goto 4, 3) := by decide +kernel
theorem dX0_linked_40 : decode cX0_linked 40 = .ok (.iconst 0, 1) := by decide +kernel
theorem dX0_linked_41 : decode cX0_linked 41 = .ok (.ireturn, 1) := by decide +kernel
abbrev cX0_part : ByteArray := prog_1_method_9_code
def yX0_part : MethodName := ⟨RX0, "part", "(II)I"⟩
theorem dX0_part_0 : decode cX0_part 0 = .ok (.aload_n 0, 1) := by decide +kernel
theorem dX0_part_1 : decode cX0_part 1 = .ok (.iload_n 1, 1) := by decide +kernel
theorem dX0_part_2 : decode cX0_part 2 = .ok (.invokevirtual 72, 3) := by decide +kernel
theorem dX0_part_5 : decode cX0_part 5 = .ok (.ifCond .eq 19, 3) := by decide +kernel
theorem dX0_part_8 : decode cX0_part 8 = .ok (.aload_n 0, 1) := by decide +kernel
theorem dX0_part_9 : decode cX0_part 9 = .ok (.getfield 62, 3) := by decide +kernel
theorem dX0_part_12 : decode cX0_part 12 = .ok (.ifCond .ne 12, 3) := by decide +kernel
theorem dX0_part_15 : decode cX0_part 15 = .ok (.iload_n 2, 1) := by decide +kernel
theorem dX0_part_16 : decode cX0_part 16 = .ok (.ifCond .lt 8, 3) := by decide +kernel
theorem dX0_part_19 : decode cX0_part 19 = .ok (.iload_n 2, 1) := by decide +kernel
theorem dX0_part_20 : decode cX0_part 20 = .ok (.iconst 1, 1) := by decide +kernel
theorem dX0_part_21 : decode cX0_part 21 = .ok (.if_icmp .le 5, 3) := by decide +kernel
theorem dX0_part_24 : decode cX0_part 24 = .ok (.iconst (-1), 1) := by decide +kernel
theorem dX0_part_25 : decode cX0_part 25 = .ok (.ireturn, 1) := by decide +kernel
theorem dX0_part_26 : decode cX0_part 26 = .ok (.aload_n 0, 1) := by decide +kernel
theorem dX0_part_27 : decode cX0_part 27 = .ok (.iload_n 1, 1) := by decide +kernel
theorem dX0_part_28 : decode cX0_part 28 = .ok (.invokevirtual 90, 3) := by decide +kernel
theorem dX0_part_31 : decode cX0_part 31 = .ok (.istore_n 3, 1) := by decide +kernel
theorem dX0_part_32 : decode cX0_part 32 = .ok (.aload_n 0, 1) := by decide +kernel
theorem dX0_part_33 : decode cX0_part 33 = .ok (.getfield 28, 3) := by decide +kernel
theorem dX0_part_36 : decode cX0_part 36 = .ok (.iload_n 3, 1) := by decide +kernel
theorem dX0_part_37 : decode cX0_part 37 = .ok (.baload, 1) := by decide +kernel
theorem dX0_part_38 : decode cX0_part 38 = .ok (.iconst 2, 1) := by decide +kernel
theorem dX0_part_39 : decode cX0_part 39 = .ok (.if_icmp .eq 5, 3) := by decide +kernel
theorem dX0_part_42 : decode cX0_part 42 = .ok (.iconst (-1), 1) := by decide +kernel
theorem dX0_part_43 : decode cX0_part 43 = .ok (.ireturn, 1) := by decide +kernel
theorem dX0_part_44 : decode cX0_part 44 = .ok (.aload_n 0, 1) := by decide +kernel
theorem dX0_part_45 : decode cX0_part 45 = .ok (.iload_n 2, 1) := by decide +kernel
theorem dX0_part_46 : decode cX0_part 46 = .ok (.ifCond .ne 12, 3) := by decide +kernel
theorem dX0_part_49 : decode cX0_part 49 = .ok (.aload_n 0, 1) := by decide +kernel
theorem dX0_part_50 : decode cX0_part 50 = .ok (.getfield 35, 3) := by decide +kernel
theorem dX0_part_53 : decode cX0_part 53 = .ok (.iload_n 3, 1) := by decide +kernel
theorem dX0_part_54 : decode cX0_part 54 = .ok (.baload, 1) := by decide +kernel
theorem dX0_part_55 : decode cX0_part 55 = .ok (.goto 9, 3) := by decide +kernel
theorem dX0_part_58 : decode cX0_part 58 = .ok (.aload_n 0, 1) := by decide +kernel
theorem dX0_part_59 : decode cX0_part 59 = .ok (.getfield 38, 3) := by decide +kernel
theorem dX0_part_62 : decode cX0_part 62 = .ok (.iload_n 3, 1) := by decide +kernel
theorem dX0_part_63 : decode cX0_part 63 = .ok (.baload, 1) := by decide +kernel
theorem dX0_part_64 : decode cX0_part 64 = .ok (.invokevirtual 90, 3) := by decide +kernel
theorem dX0_part_67 : decode cX0_part 67 = .ok (.istore 4, 2) := by decide +kernel
theorem dX0_part_69 : decode cX0_part 69 = .ok (.iconst 0, 1) := by decide +kernel
theorem dX0_part_70 : decode cX0_part 70 = .ok (.istore 5, 2) := by decide +kernel
theorem dX0_part_72 : decode cX0_part 72 = .ok (.aload_n 0, 1) := by decide +kernel
theorem dX0_part_73 : decode cX0_part 73 = .ok (.iload 5, 2) := by decide +kernel
theorem dX0_part_75 : decode cX0_part 75 = .ok (.invokevirtual 90, 3) := by decide +kernel
theorem dX0_part_78 : decode cX0_part 78 = .ok (.iload 4, 2) := by decide +kernel
theorem dX0_part_80 : decode cX0_part 80 = .ok (.if_icmp .eq 9, 3) := by decide +kernel
theorem dX0_part_83 : decode cX0_part 83 = .ok (.iinc 5 1, 3) := by decide +kernel
theorem dX0_part_86 : decode cX0_part 86 = .ok (.goto (-14), 3) := by decide +kernel
theorem dX0_part_89 : decode cX0_part 89 = .ok (.iload 5, 2) := by decide +kernel
theorem dX0_part_91 : decode cX0_part 91 = .ok (.ireturn, 1) := by decide +kernel
abbrev cX0_waiting : ByteArray := prog_1_method_10_code
def yX0_waiting : MethodName := ⟨RX0, "waiting", "()I"⟩
theorem dX0_waiting_0 : decode cX0_waiting 0 = .ok (.aload_n 0, 1) := by decide +kernel
theorem dX0_waiting_1 : decode cX0_waiting 1 = .ok (.getfield 62, 3) := by decide +kernel
theorem dX0_waiting_4 : decode cX0_waiting 4 = .ok (.ifCond .eq 6, 3) := by decide +kernel
theorem dX0_waiting_7 : decode cX0_waiting 7 = .ok (.bipush (-3), 2) := by decide +kernel
theorem dX0_waiting_9 : decode cX0_waiting 9 = .ok (.ireturn, 1) := by decide +kernel
theorem dX0_waiting_10 : decode cX0_waiting 10 = .ok (.iconst 0, 1) := by decide +kernel
theorem dX0_waiting_11 : decode cX0_waiting 11 = .ok (.istore_n 1, 1) := by decide +kernel
theorem dX0_waiting_12 : decode cX0_waiting 12 = .ok (.iconst 0, 1) := by decide +kernel
theorem dX0_waiting_13 : decode cX0_waiting 13 = .ok (.istore_n 2, 1) := by decide +kernel
theorem dX0_waiting_14 : decode cX0_waiting 14 = .ok (.iload_n 2, 1) := by decide +kernel
theorem dX0_waiting_15 : decode cX0_waiting 15 = .ok (.aload_n 0, 1) := by decide +kernel
theorem dX0_waiting_16 : decode cX0_waiting 16 = .ok (.getfield 54, 3) := by decide +kernel
theorem dX0_waiting_19 : decode cX0_waiting 19 = .ok (.if_icmp .ge 21, 3) := by decide +kernel
theorem dX0_waiting_22 : decode cX0_waiting 22 = .ok (.iload_n 1, 1) := by decide +kernel
theorem dX0_waiting_23 : decode cX0_waiting 23 = .ok (.aload_n 0, 1) := by decide +kernel
theorem dX0_waiting_24 : decode cX0_waiting 24 = .ok (.getfield 58, 3) := by decide +kernel
theorem dX0_waiting_27 : decode cX0_waiting 27 = .ok (.iload_n 2, 1) := by decide +kernel
theorem dX0_waiting_28 : decode cX0_waiting 28 = .ok (.lushr, 1) := by decide +kernel
theorem dX0_waiting_29 : decode cX0_waiting 29 = .ok (.lconst 1, 1) := by decide +kernel
theorem dX0_waiting_30 : decode cX0_waiting 30 = .ok (.land, 1) := by decide +kernel
theorem dX0_waiting_31 : decode cX0_waiting 31 = .ok (.l2i, 1) := by decide +kernel
theorem dX0_waiting_32 : decode cX0_waiting 32 = .ok (.iadd, 1) := by decide +kernel
theorem dX0_waiting_33 : decode cX0_waiting 33 = .ok (.istore_n 1, 1) := by decide +kernel
theorem dX0_waiting_34 : decode cX0_waiting 34 = .ok (.iinc 2 1, 3) := by decide +kernel
theorem dX0_waiting_37 : decode cX0_waiting 37 = .ok (.goto (-23), 3) := by decide +kernel
theorem dX0_waiting_40 : decode cX0_waiting 40 = .ok (.iload_n 1, 1) := by decide +kernel
theorem dX0_waiting_41 : decode cX0_waiting 41 = .ok (.ireturn, 1) := by decide +kernel
end
section
set_option maxRecDepth 100000
abbrev cX0_classes : ByteArray := prog_1_method_11_code
def yX0_classes : MethodName := ⟨RX0, "classes", "()I"⟩
theorem dX0_classes_0 : decode cX0_classes 0 = .ok (.aload_n 0, 1) := by decide +kernel
theorem dX0_classes_1 : decode cX0_classes 1 = .ok (.getfield 62, 3) := by decide +kernel
theorem dX0_classes_4 : decode cX0_classes 4 = .ok (.ifCond .eq 6, 3) := by decide +kernel
theorem dX0_classes_7 : decode cX0_classes 7 = .ok (.bipush (-3), 2) := by decide +kernel
theorem dX0_classes_9 : decode cX0_classes 9 = .ok (.ireturn, 1) := by decide +kernel
theorem dX0_classes_10 : decode cX0_classes 10 = .ok (.iconst 0, 1) := by decide +kernel
theorem dX0_classes_11 : decode cX0_classes 11 = .ok (.istore_n 1, 1) := by decide +kernel
theorem dX0_classes_12 : decode cX0_classes 12 = .ok (.iconst 0, 1) := by decide +kernel
theorem dX0_classes_13 : decode cX0_classes 13 = .ok (.istore_n 2, 1) := by decide +kernel
theorem dX0_classes_14 : decode cX0_classes 14 = .ok (.iload_n 2, 1) := by decide +kernel
theorem dX0_classes_15 : decode cX0_classes 15 = .ok (.bipush 12, 2) := by decide +kernel
theorem dX0_classes_17 : decode cX0_classes 17 = .ok (.if_icmp .ge 22, 3) := by decide +kernel
theorem dX0_classes_20 : decode cX0_classes 20 = .ok (.aload_n 0, 1) := by decide +kernel
theorem dX0_classes_21 : decode cX0_classes 21 = .ok (.getfield 22, 3) := by decide +kernel
theorem dX0_classes_24 : decode cX0_classes 24 = .ok (.iload_n 2, 1) := by decide +kernel
theorem dX0_classes_25 : decode cX0_classes 25 = .ok (.baload, 1) := by decide +kernel
theorem dX0_classes_26 : decode cX0_classes 26 = .ok (.iload_n 2, 1) := by decide +kernel
theorem dX0_classes_27 : decode cX0_classes 27 = .ok (.if_icmp .ne 6, 3) := by decide +kernel
theorem dX0_classes_30 : decode cX0_classes 30 = .ok (.iinc 1 1, 3) := by decide +kernel
theorem dX0_classes_33 : decode cX0_classes 33 = .ok (.iinc 2 1, 3) := by decide +kernel
theorem dX0_classes_36 : decode cX0_classes 36 = .ok (.goto (-22), 3) := by decide +kernel
theorem dX0_classes_39 : decode cX0_classes 39 = .ok (.iload_n 1, 1) := by decide +kernel
theorem dX0_classes_40 : decode cX0_classes 40 = .ok (.ireturn, 1) := by decide +kernel
abbrev cX0_clear : ByteArray := prog_1_method_12_code
def yX0_clear : MethodName := ⟨RX0, "clear", "()I"⟩
theorem dX0_clear_0 : decode cX0_clear 0 = .ok (.aload_n 0, 1) := by decide +kernel
theorem dX0_clear_1 : decode cX0_clear 1 = .ok (.getfield 54, 3) := by decide +kernel
theorem dX0_clear_4 : decode cX0_clear 4 = .ok (.istore_n 1, 1) := by decide +kernel
theorem dX0_clear_5 : decode cX0_clear 5 = .ok (.aload_n 0, 1) := by decide +kernel
theorem dX0_clear_6 : decode cX0_clear 6 = .ok (.invokevirtual 51, 3) := by decide +kernel
theorem dX0_clear_9 : decode cX0_clear 9 = .ok (.iload_n 1, 1) := by decide +kernel
theorem dX0_clear_10 : decode cX0_clear 10 = .ok (.ireturn, 1) := by decide +kernel
end
section
/-! DataflowStoreModel -/
set_option maxRecDepth 100000
def RX1 : String := "DataflowStoreModel"
def TX1 : u_T := fun k => match k with
  | 0 => ("DataflowStoreModel", "n", "I", false)
  | 1 => ("DataflowStoreModel", "kind", "[I", false)
  | 2 => ("DataflowStoreModel", "ax", "[I", false)
  | 3 => ("DataflowStoreModel", "ay", "[I", false)
  | 4 => ("DataflowStoreModel", "az", "[I", false)
  | 5 => ("DataflowStoreModel", "least", "[I", false)
  | 6 => ("DataflowStoreModel", "isInt", "[Z", false)
  | 7 => ("DataflowStoreModel", "ints", "[I", false)
  | 8 => ("DataflowStoreModel", "isPair", "[Z", false)
  | 9 => ("DataflowStoreModel", "one", "[I", false)
  | 10 => ("DataflowStoreModel", "two", "[I", false)
  | 11 => ("DataflowStoreModel", "broken", "Z", false)
  | _ => ("DataflowStoreModel", "fresh", "Z", false)
def tyX1 : Nat → FieldType := fun k => match k with
  | 0 => .int
  | 1 => .array .int
  | 2 => .array .int
  | 3 => .array .int
  | 4 => .array .int
  | 5 => .array .int
  | 6 => .array .boolean
  | 7 => .array .int
  | 8 => .array .boolean
  | 9 => .array .int
  | 10 => .array .int
  | 11 => .boolean
  | _ => .boolean
abbrev wsX10 : List Cond := u_ws RX1 TX1 13
set_option maxRecDepth 100000 in
theorem nmX1 : ∀ a, a < 13 → ∀ b, b < 13 → a ≠ b → (TX1 a).2.1 ≠ (TX1 b).2.1 := by decide +kernel
set_option maxRecDepth 100000 in
theorem tyX1_ok : ∀ k, k < 13 → parseFieldDescriptor (TX1 k).2.2.1 = some (tyX1 k) := by decide +kernel
theorem q22 : (Jvm.Cond.initialized "DataflowStoreModel") ∈ lw_all := lw_g (lw_at lw_m1 2 rfl) rfl
theorem q175 : (Jvm.Cond.instantiable "DataflowStoreModel" (13 : Nat)) ∈ lw_all := lw_g (lw_at lw_m1 155 rfl) rfl
theorem q177 : (Jvm.Cond.instanceMethod ({ cls := "DataflowStoreModel", name := "<init>", desc := "()V" } : Jvm.MethodName)) ∈ lw_all := lw_g (lw_at lw_m1 157 rfl) rfl
theorem q178 : (Jvm.Cond.code ({ cls := "DataflowStoreModel", name := "<init>", desc := "()V" } : Jvm.MethodName) prog_3_method_1_code (1 : Nat) (Option.none : Option Jvm.ClassFile.FieldType)) ∈ lw_all := lw_g (lw_at lw_m1 158 rfl) rfl
theorem q179 : (Jvm.Cond.methodLink "DataflowStoreModel" (1 : Nat) ({ cls := "java/lang/Object", name := "<init>", desc := "()V" } : Jvm.MethodName)) ∈ lw_all := lw_g (lw_at lw_m1 159 rfl) rfl
theorem q180 : (Jvm.Cond.methodLink "DataflowStoreModel" (49 : Nat) ({ cls := "DataflowStoreModel", name := "follow", desc := "()V" } : Jvm.MethodName)) ∈ lw_all := lw_g (lw_at lw_m1 160 rfl) rfl
theorem q181 : (Jvm.Cond.privateMethod ({ cls := "DataflowStoreModel", name := "follow", desc := "()V" } : Jvm.MethodName)) ∈ lw_tbl := lw_at lw_m1 161 rfl
theorem q182 : (Jvm.Cond.instanceMethod ({ cls := "DataflowStoreModel", name := "follow", desc := "()V" } : Jvm.MethodName)) ∈ lw_all := lw_g (lw_at lw_m1 162 rfl) rfl
theorem q183 : (Jvm.Cond.code ({ cls := "DataflowStoreModel", name := "follow", desc := "()V" } : Jvm.MethodName) prog_3_method_10_code (3 : Nat) (Option.none : Option Jvm.ClassFile.FieldType)) ∈ lw_all := lw_g (lw_at lw_m1 163 rfl) rfl
theorem q184 : (Jvm.Cond.methodLink "DataflowStoreModel" (74 : Nat) ({ cls := "DataflowStoreModel", name := "ready", desc := "(I)Z" } : Jvm.MethodName)) ∈ lw_all := lw_g (lw_at lw_m1 164 rfl) rfl
theorem q185 : (Jvm.Cond.privateMethod ({ cls := "DataflowStoreModel", name := "ready", desc := "(I)Z" } : Jvm.MethodName)) ∈ lw_tbl := lw_at lw_m1 165 rfl
theorem q186 : (Jvm.Cond.instanceMethod ({ cls := "DataflowStoreModel", name := "ready", desc := "(I)Z" } : Jvm.MethodName)) ∈ lw_all := lw_g (lw_at lw_m1 166 rfl) rfl
theorem q187 : (Jvm.Cond.code ({ cls := "DataflowStoreModel", name := "ready", desc := "(I)Z" } : Jvm.MethodName) prog_3_method_8_code (3 : Nat) (Option.some Jvm.ClassFile.FieldType.boolean)) ∈ lw_all := lw_g (lw_at lw_m1 167 rfl) rfl
theorem q188 : (Jvm.Cond.methodLink "DataflowStoreModel" (77 : Nat) ({ cls := "DataflowStoreModel", name := "apply", desc := "(I)V" } : Jvm.MethodName)) ∈ lw_all := lw_g (lw_at lw_m1 168 rfl) rfl
theorem q189 : (Jvm.Cond.privateMethod ({ cls := "DataflowStoreModel", name := "apply", desc := "(I)V" } : Jvm.MethodName)) ∈ lw_tbl := lw_at lw_m1 169 rfl
theorem q190 : (Jvm.Cond.instanceMethod ({ cls := "DataflowStoreModel", name := "apply", desc := "(I)V" } : Jvm.MethodName)) ∈ lw_all := lw_g (lw_at lw_m1 170 rfl) rfl
theorem q191 : (Jvm.Cond.code ({ cls := "DataflowStoreModel", name := "apply", desc := "(I)V" } : Jvm.MethodName) prog_3_method_9_code (4 : Nat) (Option.none : Option Jvm.ClassFile.FieldType)) ∈ lw_all := lw_g (lw_at lw_m1 171 rfl) rfl
theorem q192 : (Jvm.Cond.methodLink "DataflowStoreModel" (67 : Nat) ({ cls := "DataflowStoreModel", name := "join", desc := "(II)V" } : Jvm.MethodName)) ∈ lw_all := lw_g (lw_at lw_m1 172 rfl) rfl
theorem q193 : (Jvm.Cond.privateMethod ({ cls := "DataflowStoreModel", name := "join", desc := "(II)V" } : Jvm.MethodName)) ∈ lw_tbl := lw_at lw_m1 173 rfl
theorem q194 : (Jvm.Cond.instanceMethod ({ cls := "DataflowStoreModel", name := "join", desc := "(II)V" } : Jvm.MethodName)) ∈ lw_all := lw_g (lw_at lw_m1 174 rfl) rfl
theorem q195 : (Jvm.Cond.code ({ cls := "DataflowStoreModel", name := "join", desc := "(II)V" } : Jvm.MethodName) prog_3_method_5_code (6 : Nat) (Option.none : Option Jvm.ClassFile.FieldType)) ∈ lw_all := lw_g (lw_at lw_m1 175 rfl) rfl
theorem q196 : (Jvm.Cond.methodLink "DataflowStoreModel" (63 : Nat) ({ cls := "DataflowStoreModel", name := "beInt", desc := "(II)V" } : Jvm.MethodName)) ∈ lw_all := lw_g (lw_at lw_m1 176 rfl) rfl
theorem q197 : (Jvm.Cond.privateMethod ({ cls := "DataflowStoreModel", name := "beInt", desc := "(II)V" } : Jvm.MethodName)) ∈ lw_tbl := lw_at lw_m1 177 rfl
theorem q198 : (Jvm.Cond.instanceMethod ({ cls := "DataflowStoreModel", name := "beInt", desc := "(II)V" } : Jvm.MethodName)) ∈ lw_all := lw_g (lw_at lw_m1 178 rfl) rfl
theorem q199 : (Jvm.Cond.code ({ cls := "DataflowStoreModel", name := "beInt", desc := "(II)V" } : Jvm.MethodName) prog_3_method_6_code (4 : Nat) (Option.none : Option Jvm.ClassFile.FieldType)) ∈ lw_all := lw_g (lw_at lw_m1 179 rfl) rfl
theorem q200 : (Jvm.Cond.methodLink "DataflowStoreModel" (70 : Nat) ({ cls := "DataflowStoreModel", name := "bePair", desc := "(III)V" } : Jvm.MethodName)) ∈ lw_all := lw_g (lw_at lw_m1 180 rfl) rfl
theorem q201 : (Jvm.Cond.privateMethod ({ cls := "DataflowStoreModel", name := "bePair", desc := "(III)V" } : Jvm.MethodName)) ∈ lw_tbl := lw_at lw_m1 181 rfl
theorem q202 : (Jvm.Cond.instanceMethod ({ cls := "DataflowStoreModel", name := "bePair", desc := "(III)V" } : Jvm.MethodName)) ∈ lw_all := lw_g (lw_at lw_m1 182 rfl) rfl
theorem q203 : (Jvm.Cond.code ({ cls := "DataflowStoreModel", name := "bePair", desc := "(III)V" } : Jvm.MethodName) prog_3_method_7_code (6 : Nat) (Option.none : Option Jvm.ClassFile.FieldType)) ∈ lw_all := lw_g (lw_at lw_m1 183 rfl) rfl
theorem q204 : (Jvm.Cond.fieldLink "DataflowStoreModel" (7 : Nat) "DataflowStoreModel" "n" "I") ∈ lw_all := lw_g (lw_at lw_m1 184 rfl) rfl
theorem q205 : (Jvm.Cond.fieldLink "DataflowStoreModel" (13 : Nat) "DataflowStoreModel" "kind" "[I") ∈ lw_all := lw_g (lw_at lw_m1 185 rfl) rfl
theorem q206 : (Jvm.Cond.fieldLink "DataflowStoreModel" (17 : Nat) "DataflowStoreModel" "ax" "[I") ∈ lw_all := lw_g (lw_at lw_m1 186 rfl) rfl
theorem q207 : (Jvm.Cond.fieldLink "DataflowStoreModel" (20 : Nat) "DataflowStoreModel" "ay" "[I") ∈ lw_all := lw_g (lw_at lw_m1 187 rfl) rfl
theorem q208 : (Jvm.Cond.fieldLink "DataflowStoreModel" (23 : Nat) "DataflowStoreModel" "az" "[I") ∈ lw_all := lw_g (lw_at lw_m1 188 rfl) rfl
theorem q209 : (Jvm.Cond.fieldLink "DataflowStoreModel" (26 : Nat) "DataflowStoreModel" "least" "[I") ∈ lw_all := lw_g (lw_at lw_m1 189 rfl) rfl
theorem q210 : (Jvm.Cond.fieldLink "DataflowStoreModel" (29 : Nat) "DataflowStoreModel" "isInt" "[Z") ∈ lw_all := lw_g (lw_at lw_m1 190 rfl) rfl
theorem q211 : (Jvm.Cond.fieldLink "DataflowStoreModel" (33 : Nat) "DataflowStoreModel" "ints" "[I") ∈ lw_all := lw_g (lw_at lw_m1 191 rfl) rfl
theorem q212 : (Jvm.Cond.fieldLink "DataflowStoreModel" (36 : Nat) "DataflowStoreModel" "isPair" "[Z") ∈ lw_all := lw_g (lw_at lw_m1 192 rfl) rfl
theorem q213 : (Jvm.Cond.fieldLink "DataflowStoreModel" (39 : Nat) "DataflowStoreModel" "one" "[I") ∈ lw_all := lw_g (lw_at lw_m1 193 rfl) rfl
theorem q214 : (Jvm.Cond.fieldLink "DataflowStoreModel" (42 : Nat) "DataflowStoreModel" "two" "[I") ∈ lw_all := lw_g (lw_at lw_m1 194 rfl) rfl
theorem q215 : (Jvm.Cond.fieldLink "DataflowStoreModel" (45 : Nat) "DataflowStoreModel" "broken" "Z") ∈ lw_all := lw_g (lw_at lw_m1 195 rfl) rfl
theorem q216 : (Jvm.Cond.fieldLink "DataflowStoreModel" (60 : Nat) "DataflowStoreModel" "fresh" "Z") ∈ lw_all := lw_g (lw_at lw_m1 196 rfl) rfl
theorem q217 : (Jvm.Cond.lays "DataflowStoreModel" "DataflowStoreModel" "n" "I") ∈ lw_all := lw_g (lw_at lw_m1 197 rfl) rfl
theorem q218 : (Jvm.Cond.soleField "DataflowStoreModel" "n") ∈ lw_all := lw_g (lw_at lw_m1 198 rfl) rfl
theorem q219 : (Jvm.Cond.lays "DataflowStoreModel" "DataflowStoreModel" "kind" "[I") ∈ lw_all := lw_g (lw_at lw_m1 199 rfl) rfl
theorem q220 : (Jvm.Cond.soleField "DataflowStoreModel" "kind") ∈ lw_all := lw_g (lw_at lw_m1 200 rfl) rfl
theorem q221 : (Jvm.Cond.lays "DataflowStoreModel" "DataflowStoreModel" "ax" "[I") ∈ lw_all := lw_g (lw_at lw_m1 201 rfl) rfl
theorem q222 : (Jvm.Cond.soleField "DataflowStoreModel" "ax") ∈ lw_all := lw_g (lw_at lw_m1 202 rfl) rfl
theorem q223 : (Jvm.Cond.lays "DataflowStoreModel" "DataflowStoreModel" "ay" "[I") ∈ lw_all := lw_g (lw_at lw_m1 203 rfl) rfl
theorem q224 : (Jvm.Cond.soleField "DataflowStoreModel" "ay") ∈ lw_all := lw_g (lw_at lw_m1 204 rfl) rfl
theorem q225 : (Jvm.Cond.lays "DataflowStoreModel" "DataflowStoreModel" "az" "[I") ∈ lw_all := lw_g (lw_at lw_m1 205 rfl) rfl
theorem q226 : (Jvm.Cond.soleField "DataflowStoreModel" "az") ∈ lw_all := lw_g (lw_at lw_m1 206 rfl) rfl
theorem q227 : (Jvm.Cond.lays "DataflowStoreModel" "DataflowStoreModel" "least" "[I") ∈ lw_all := lw_g (lw_at lw_m1 207 rfl) rfl
theorem q228 : (Jvm.Cond.soleField "DataflowStoreModel" "least") ∈ lw_all := lw_g (lw_at lw_m1 208 rfl) rfl
theorem q229 : (Jvm.Cond.lays "DataflowStoreModel" "DataflowStoreModel" "isInt" "[Z") ∈ lw_all := lw_g (lw_at lw_m1 209 rfl) rfl
theorem q230 : (Jvm.Cond.soleField "DataflowStoreModel" "isInt") ∈ lw_all := lw_g (lw_at lw_m1 210 rfl) rfl
theorem q231 : (Jvm.Cond.lays "DataflowStoreModel" "DataflowStoreModel" "ints" "[I") ∈ lw_all := lw_g (lw_at lw_m1 211 rfl) rfl
theorem q232 : (Jvm.Cond.soleField "DataflowStoreModel" "ints") ∈ lw_all := lw_g (lw_at lw_m1 212 rfl) rfl
theorem q233 : (Jvm.Cond.lays "DataflowStoreModel" "DataflowStoreModel" "isPair" "[Z") ∈ lw_all := lw_g (lw_at lw_m1 213 rfl) rfl
theorem q234 : (Jvm.Cond.soleField "DataflowStoreModel" "isPair") ∈ lw_all := lw_g (lw_at lw_m1 214 rfl) rfl
theorem q235 : (Jvm.Cond.lays "DataflowStoreModel" "DataflowStoreModel" "one" "[I") ∈ lw_all := lw_g (lw_at lw_m1 215 rfl) rfl
theorem q236 : (Jvm.Cond.soleField "DataflowStoreModel" "one") ∈ lw_all := lw_g (lw_at lw_m1 216 rfl) rfl
theorem q237 : (Jvm.Cond.lays "DataflowStoreModel" "DataflowStoreModel" "two" "[I") ∈ lw_all := lw_g (lw_at lw_m1 217 rfl) rfl
theorem q238 : (Jvm.Cond.soleField "DataflowStoreModel" "two") ∈ lw_all := lw_g (lw_at lw_m1 218 rfl) rfl
theorem q239 : (Jvm.Cond.lays "DataflowStoreModel" "DataflowStoreModel" "broken" "Z") ∈ lw_all := lw_g (lw_at lw_m1 219 rfl) rfl
theorem q240 : (Jvm.Cond.soleField "DataflowStoreModel" "broken") ∈ lw_all := lw_g (lw_at lw_m1 220 rfl) rfl
theorem q241 : (Jvm.Cond.lays "DataflowStoreModel" "DataflowStoreModel" "fresh" "Z") ∈ lw_all := lw_g (lw_at lw_m1 221 rfl) rfl
theorem q242 : (Jvm.Cond.soleField "DataflowStoreModel" "fresh") ∈ lw_all := lw_g (lw_at lw_m1 222 rfl) rfl
theorem q243 : (Jvm.Cond.superclass "DataflowStoreModel" "java/lang/Object") ∈ lw_all := lw_g (lw_at lw_m1 223 rfl) rfl
theorem q246 : (Jvm.Cond.instanceMethod ({ cls := "DataflowStoreModel", name := "tell", desc := "(IIII)I" } : Jvm.MethodName)) ∈ lw_all := lw_g (lw_at lw_m1 226 rfl) rfl
theorem q247 : (Jvm.Cond.selects "DataflowStoreModel" ({ cls := "DataflowStoreModel", name := "tell", desc := "(IIII)I" } : Jvm.MethodName) ({ cls := "DataflowStoreModel", name := "tell", desc := "(IIII)I" } : Jvm.MethodName)) ∈ lw_all := lw_g (lw_at lw_m1 227 rfl) rfl
theorem q248 : (Jvm.Cond.code ({ cls := "DataflowStoreModel", name := "tell", desc := "(IIII)I" } : Jvm.MethodName) prog_3_method_4_code (5 : Nat) (Option.some Jvm.ClassFile.FieldType.int)) ∈ lw_all := lw_g (lw_at lw_m1 228 rfl) rfl
theorem q249 : (Jvm.Cond.methodLink "DataflowStoreModel" (56 : Nat) ({ cls := "DataflowStoreModel", name := "fits", desc := "(IIII)Z" } : Jvm.MethodName)) ∈ lw_all := lw_g (lw_at lw_m1 229 rfl) rfl
theorem q250 : (Jvm.Cond.privateMethod ({ cls := "DataflowStoreModel", name := "fits", desc := "(IIII)Z" } : Jvm.MethodName)) ∈ lw_tbl := lw_at lw_m1 230 rfl
theorem q251 : (Jvm.Cond.instanceMethod ({ cls := "DataflowStoreModel", name := "fits", desc := "(IIII)Z" } : Jvm.MethodName)) ∈ lw_all := lw_g (lw_at lw_m1 231 rfl) rfl
theorem q252 : (Jvm.Cond.code ({ cls := "DataflowStoreModel", name := "fits", desc := "(IIII)Z" } : Jvm.MethodName) prog_3_method_3_code (5 : Nat) (Option.some Jvm.ClassFile.FieldType.boolean)) ∈ lw_all := lw_g (lw_at lw_m1 232 rfl) rfl
theorem q253 : (Jvm.Cond.methodLink "DataflowStoreModel" (52 : Nat) ({ cls := "DataflowStoreModel", name := "isVariable", desc := "(I)Z" } : Jvm.MethodName)) ∈ lw_all := lw_g (lw_at lw_m1 233 rfl) rfl
theorem q254 : (Jvm.Cond.privateMethod ({ cls := "DataflowStoreModel", name := "isVariable", desc := "(I)Z" } : Jvm.MethodName)) ∈ lw_tbl := lw_at lw_m1 234 rfl
theorem q255 : (Jvm.Cond.instanceMethod ({ cls := "DataflowStoreModel", name := "isVariable", desc := "(I)Z" } : Jvm.MethodName)) ∈ lw_all := lw_g (lw_at lw_m1 235 rfl) rfl
theorem q256 : (Jvm.Cond.code ({ cls := "DataflowStoreModel", name := "isVariable", desc := "(I)Z" } : Jvm.MethodName) prog_3_method_2_code (2 : Nat) (Option.some Jvm.ClassFile.FieldType.boolean)) ∈ lw_all := lw_g (lw_at lw_m1 236 rfl) rfl
theorem q258 : (Jvm.Cond.instanceMethod ({ cls := "DataflowStoreModel", name := "failed", desc := "()Z" } : Jvm.MethodName)) ∈ lw_all := lw_g (lw_at lw_m1 238 rfl) rfl
theorem q259 : (Jvm.Cond.selects "DataflowStoreModel" ({ cls := "DataflowStoreModel", name := "failed", desc := "()Z" } : Jvm.MethodName) ({ cls := "DataflowStoreModel", name := "failed", desc := "()Z" } : Jvm.MethodName)) ∈ lw_all := lw_g (lw_at lw_m1 239 rfl) rfl
theorem q260 : (Jvm.Cond.code ({ cls := "DataflowStoreModel", name := "failed", desc := "()Z" } : Jvm.MethodName) prog_3_method_11_code (1 : Nat) (Option.some Jvm.ClassFile.FieldType.boolean)) ∈ lw_all := lw_g (lw_at lw_m2 0 rfl) rfl
theorem q262 : (Jvm.Cond.instanceMethod ({ cls := "DataflowStoreModel", name := "state", desc := "(I)I" } : Jvm.MethodName)) ∈ lw_all := lw_g (lw_at lw_m2 2 rfl) rfl
theorem q263 : (Jvm.Cond.selects "DataflowStoreModel" ({ cls := "DataflowStoreModel", name := "state", desc := "(I)I" } : Jvm.MethodName) ({ cls := "DataflowStoreModel", name := "state", desc := "(I)I" } : Jvm.MethodName)) ∈ lw_all := lw_g (lw_at lw_m2 3 rfl) rfl
theorem q264 : (Jvm.Cond.code ({ cls := "DataflowStoreModel", name := "state", desc := "(I)I" } : Jvm.MethodName) prog_3_method_12_code (2 : Nat) (Option.some Jvm.ClassFile.FieldType.int)) ∈ lw_all := lw_g (lw_at lw_m2 4 rfl) rfl
theorem q266 : (Jvm.Cond.instanceMethod ({ cls := "DataflowStoreModel", name := "value", desc := "(I)I" } : Jvm.MethodName)) ∈ lw_all := lw_g (lw_at lw_m2 6 rfl) rfl
theorem q267 : (Jvm.Cond.selects "DataflowStoreModel" ({ cls := "DataflowStoreModel", name := "value", desc := "(I)I" } : Jvm.MethodName) ({ cls := "DataflowStoreModel", name := "value", desc := "(I)I" } : Jvm.MethodName)) ∈ lw_all := lw_g (lw_at lw_m2 7 rfl) rfl
theorem q268 : (Jvm.Cond.code ({ cls := "DataflowStoreModel", name := "value", desc := "(I)I" } : Jvm.MethodName) prog_3_method_13_code (2 : Nat) (Option.some Jvm.ClassFile.FieldType.int)) ∈ lw_all := lw_g (lw_at lw_m2 8 rfl) rfl
theorem q270 : (Jvm.Cond.instanceMethod ({ cls := "DataflowStoreModel", name := "linked", desc := "(II)Z" } : Jvm.MethodName)) ∈ lw_all := lw_g (lw_at lw_m2 10 rfl) rfl
theorem q271 : (Jvm.Cond.selects "DataflowStoreModel" ({ cls := "DataflowStoreModel", name := "linked", desc := "(II)Z" } : Jvm.MethodName) ({ cls := "DataflowStoreModel", name := "linked", desc := "(II)Z" } : Jvm.MethodName)) ∈ lw_all := lw_g (lw_at lw_m2 11 rfl) rfl
theorem q272 : (Jvm.Cond.code ({ cls := "DataflowStoreModel", name := "linked", desc := "(II)Z" } : Jvm.MethodName) prog_3_method_14_code (3 : Nat) (Option.some Jvm.ClassFile.FieldType.boolean)) ∈ lw_all := lw_g (lw_at lw_m2 12 rfl) rfl
theorem q274 : (Jvm.Cond.instanceMethod ({ cls := "DataflowStoreModel", name := "part", desc := "(II)I" } : Jvm.MethodName)) ∈ lw_all := lw_g (lw_at lw_m2 14 rfl) rfl
theorem q275 : (Jvm.Cond.selects "DataflowStoreModel" ({ cls := "DataflowStoreModel", name := "part", desc := "(II)I" } : Jvm.MethodName) ({ cls := "DataflowStoreModel", name := "part", desc := "(II)I" } : Jvm.MethodName)) ∈ lw_all := lw_g (lw_at lw_m2 15 rfl) rfl
theorem q276 : (Jvm.Cond.code ({ cls := "DataflowStoreModel", name := "part", desc := "(II)I" } : Jvm.MethodName) prog_3_method_15_code (3 : Nat) (Option.some Jvm.ClassFile.FieldType.int)) ∈ lw_all := lw_g (lw_at lw_m2 16 rfl) rfl
theorem q278 : (Jvm.Cond.instanceMethod ({ cls := "DataflowStoreModel", name := "waiting", desc := "()I" } : Jvm.MethodName)) ∈ lw_all := lw_g (lw_at lw_m2 18 rfl) rfl
theorem q279 : (Jvm.Cond.selects "DataflowStoreModel" ({ cls := "DataflowStoreModel", name := "waiting", desc := "()I" } : Jvm.MethodName) ({ cls := "DataflowStoreModel", name := "waiting", desc := "()I" } : Jvm.MethodName)) ∈ lw_all := lw_g (lw_at lw_m2 19 rfl) rfl
theorem q280 : (Jvm.Cond.code ({ cls := "DataflowStoreModel", name := "waiting", desc := "()I" } : Jvm.MethodName) prog_3_method_16_code (3 : Nat) (Option.some Jvm.ClassFile.FieldType.int)) ∈ lw_all := lw_g (lw_at lw_m2 20 rfl) rfl
theorem q282 : (Jvm.Cond.instanceMethod ({ cls := "DataflowStoreModel", name := "classes", desc := "()I" } : Jvm.MethodName)) ∈ lw_all := lw_g (lw_at lw_m2 22 rfl) rfl
theorem q283 : (Jvm.Cond.selects "DataflowStoreModel" ({ cls := "DataflowStoreModel", name := "classes", desc := "()I" } : Jvm.MethodName) ({ cls := "DataflowStoreModel", name := "classes", desc := "()I" } : Jvm.MethodName)) ∈ lw_all := lw_g (lw_at lw_m2 23 rfl) rfl
theorem q284 : (Jvm.Cond.code ({ cls := "DataflowStoreModel", name := "classes", desc := "()I" } : Jvm.MethodName) prog_3_method_17_code (3 : Nat) (Option.some Jvm.ClassFile.FieldType.int)) ∈ lw_all := lw_g (lw_at lw_m2 24 rfl) rfl
theorem q286 : (Jvm.Cond.instanceMethod ({ cls := "DataflowStoreModel", name := "clear", desc := "()I" } : Jvm.MethodName)) ∈ lw_all := lw_g (lw_at lw_m2 26 rfl) rfl
theorem q287 : (Jvm.Cond.selects "DataflowStoreModel" ({ cls := "DataflowStoreModel", name := "clear", desc := "()I" } : Jvm.MethodName) ({ cls := "DataflowStoreModel", name := "clear", desc := "()I" } : Jvm.MethodName)) ∈ lw_all := lw_g (lw_at lw_m2 27 rfl) rfl
theorem q288 : (Jvm.Cond.code ({ cls := "DataflowStoreModel", name := "clear", desc := "()I" } : Jvm.MethodName) prog_3_method_18_code (2 : Nat) (Option.some Jvm.ClassFile.FieldType.int)) ∈ lw_all := lw_g (lw_at lw_m2 28 rfl) rfl
theorem in_X1 : ∀ w ∈ wsX10, w ∈ lw_all := lw_in wsX10 [217, 219, 221, 223, 225, 227, 229, 231, 233, 235, 237, 239, 241] (by decide +kernel) (by decide +kernel)
end
section
set_option maxRecDepth 100000
abbrev cX1_init : ByteArray := prog_3_method_1_code
def yX1_init : MethodName := ⟨RX1, "<init>", "()V"⟩
theorem dX1_init_0 : decode cX1_init 0 = .ok (.aload_n 0, 1) := by decide +kernel
theorem dX1_init_1 : decode cX1_init 1 = .ok (.invokespecial 1, 3) := by decide +kernel
theorem dX1_init_4 : decode cX1_init 4 = .ok (.aload_n 0, 1) := by decide +kernel
theorem dX1_init_5 : decode cX1_init 5 = .ok (.iconst 0, 1) := by decide +kernel
theorem dX1_init_6 : decode cX1_init 6 = .ok (.putfield 7, 3) := by decide +kernel
theorem dX1_init_9 : decode cX1_init 9 = .ok (.aload_n 0, 1) := by decide +kernel
theorem dX1_init_10 : decode cX1_init 10 = .ok (.bipush 40, 2) := by decide +kernel
theorem dX1_init_12 : decode cX1_init 12 = .ok (.newarray .int, 2) := by decide +kernel
theorem dX1_init_14 : decode cX1_init 14 = .ok (.putfield 13, 3) := by decide +kernel
theorem dX1_init_17 : decode cX1_init 17 = .ok (.aload_n 0, 1) := by decide +kernel
theorem dX1_init_18 : decode cX1_init 18 = .ok (.bipush 40, 2) := by decide +kernel
theorem dX1_init_20 : decode cX1_init 20 = .ok (.newarray .int, 2) := by decide +kernel
theorem dX1_init_22 : decode cX1_init 22 = .ok (.putfield 17, 3) := by decide +kernel
theorem dX1_init_25 : decode cX1_init 25 = .ok (.aload_n 0, 1) := by decide +kernel
theorem dX1_init_26 : decode cX1_init 26 = .ok (.bipush 40, 2) := by decide +kernel
theorem dX1_init_28 : decode cX1_init 28 = .ok (.newarray .int, 2) := by decide +kernel
theorem dX1_init_30 : decode cX1_init 30 = .ok (.putfield 20, 3) := by decide +kernel
theorem dX1_init_33 : decode cX1_init 33 = .ok (.aload_n 0, 1) := by decide +kernel
theorem dX1_init_34 : decode cX1_init 34 = .ok (.bipush 40, 2) := by decide +kernel
theorem dX1_init_36 : decode cX1_init 36 = .ok (.newarray .int, 2) := by decide +kernel
theorem dX1_init_38 : decode cX1_init 38 = .ok (.putfield 23, 3) := by decide +kernel
theorem dX1_init_41 : decode cX1_init 41 = .ok (.aload_n 0, 1) := by decide +kernel
theorem dX1_init_42 : decode cX1_init 42 = .ok (.bipush 12, 2) := by decide +kernel
theorem dX1_init_44 : decode cX1_init 44 = .ok (.newarray .int, 2) := by decide +kernel
theorem dX1_init_46 : decode cX1_init 46 = .ok (.putfield 26, 3) := by decide +kernel
theorem dX1_init_49 : decode cX1_init 49 = .ok (.aload_n 0, 1) := by decide +kernel
theorem dX1_init_50 : decode cX1_init 50 = .ok (.bipush 12, 2) := by decide +kernel
theorem dX1_init_52 : decode cX1_init 52 = .ok (.newarray .boolean, 2) := by decide +kernel
theorem dX1_init_54 : decode cX1_init 54 = .ok (.putfield 29, 3) := by decide +kernel
theorem dX1_init_57 : decode cX1_init 57 = .ok (.aload_n 0, 1) := by decide +kernel
theorem dX1_init_58 : decode cX1_init 58 = .ok (.bipush 12, 2) := by decide +kernel
theorem dX1_init_60 : decode cX1_init 60 = .ok (.newarray .int, 2) := by decide +kernel
theorem dX1_init_62 : decode cX1_init 62 = .ok (.putfield 33, 3) := by decide +kernel
theorem dX1_init_65 : decode cX1_init 65 = .ok (.aload_n 0, 1) := by decide +kernel
theorem dX1_init_66 : decode cX1_init 66 = .ok (.bipush 12, 2) := by decide +kernel
theorem dX1_init_68 : decode cX1_init 68 = .ok (.newarray .boolean, 2) := by decide +kernel
theorem dX1_init_70 : decode cX1_init 70 = .ok (.putfield 36, 3) := by decide +kernel
theorem dX1_init_73 : decode cX1_init 73 = .ok (.aload_n 0, 1) := by decide +kernel
theorem dX1_init_74 : decode cX1_init 74 = .ok (.bipush 12, 2) := by decide +kernel
theorem dX1_init_76 : decode cX1_init 76 = .ok (.newarray .int, 2) := by decide +kernel
theorem dX1_init_78 : decode cX1_init 78 = .ok (.putfield 39, 3) := by decide +kernel
theorem dX1_init_81 : decode cX1_init 81 = .ok (.aload_n 0, 1) := by decide +kernel
theorem dX1_init_82 : decode cX1_init 82 = .ok (.bipush 12, 2) := by decide +kernel
theorem dX1_init_84 : decode cX1_init 84 = .ok (.newarray .int, 2) := by decide +kernel
theorem dX1_init_86 : decode cX1_init 86 = .ok (.putfield 42, 3) := by decide +kernel
theorem dX1_init_89 : decode cX1_init 89 = .ok (.aload_n 0, 1) := by decide +kernel
theorem dX1_init_90 : decode cX1_init 90 = .ok (.iconst 0, 1) := by decide +kernel
theorem dX1_init_91 : decode cX1_init 91 = .ok (.putfield 45, 3) := by decide +kernel
theorem dX1_init_94 : decode cX1_init 94 = .ok (.aload_n 0, 1) := by decide +kernel
theorem dX1_init_95 : decode cX1_init 95 = .ok (.invokevirtual 49, 3) := by decide +kernel
theorem dX1_init_98 : decode cX1_init 98 = .ok (.return_, 1) := by decide +kernel
abbrev cX1_follow : ByteArray := prog_3_method_10_code
def yX1_follow : MethodName := ⟨RX1, "follow", "()V"⟩
theorem dX1_follow_0 : decode cX1_follow 0 = .ok (.iconst 0, 1) := by decide +kernel
theorem dX1_follow_1 : decode cX1_follow 1 = .ok (.istore_n 1, 1) := by decide +kernel
theorem dX1_follow_2 : decode cX1_follow 2 = .ok (.iload_n 1, 1) := by decide +kernel
theorem dX1_follow_3 : decode cX1_follow 3 = .ok (.bipush 12, 2) := by decide +kernel
theorem dX1_follow_5 : decode cX1_follow 5 = .ok (.if_icmp .ge 30, 3) := by decide +kernel
theorem dX1_follow_8 : decode cX1_follow 8 = .ok (.aload_n 0, 1) := by decide +kernel
theorem dX1_follow_9 : decode cX1_follow 9 = .ok (.getfield 26, 3) := by decide +kernel
theorem dX1_follow_12 : decode cX1_follow 12 = .ok (.iload_n 1, 1) := by decide +kernel
theorem dX1_follow_13 : decode cX1_follow 13 = .ok (.iload_n 1, 1) := by decide +kernel
theorem dX1_follow_14 : decode cX1_follow 14 = .ok (.iastore, 1) := by decide +kernel
theorem dX1_follow_15 : decode cX1_follow 15 = .ok (.aload_n 0, 1) := by decide +kernel
theorem dX1_follow_16 : decode cX1_follow 16 = .ok (.getfield 29, 3) := by decide +kernel
theorem dX1_follow_19 : decode cX1_follow 19 = .ok (.iload_n 1, 1) := by decide +kernel
theorem dX1_follow_20 : decode cX1_follow 20 = .ok (.iconst 0, 1) := by decide +kernel
theorem dX1_follow_21 : decode cX1_follow 21 = .ok (.bastore, 1) := by decide +kernel
theorem dX1_follow_22 : decode cX1_follow 22 = .ok (.aload_n 0, 1) := by decide +kernel
theorem dX1_follow_23 : decode cX1_follow 23 = .ok (.getfield 36, 3) := by decide +kernel
theorem dX1_follow_26 : decode cX1_follow 26 = .ok (.iload_n 1, 1) := by decide +kernel
theorem dX1_follow_27 : decode cX1_follow 27 = .ok (.iconst 0, 1) := by decide +kernel
theorem dX1_follow_28 : decode cX1_follow 28 = .ok (.bastore, 1) := by decide +kernel
theorem dX1_follow_29 : decode cX1_follow 29 = .ok (.iinc 1 1, 3) := by decide +kernel
theorem dX1_follow_32 : decode cX1_follow 32 = .ok (.goto (-30), 3) := by decide +kernel
theorem dX1_follow_35 : decode cX1_follow 35 = .ok (.aload_n 0, 1) := by decide +kernel
theorem dX1_follow_36 : decode cX1_follow 36 = .ok (.iconst 1, 1) := by decide +kernel
theorem dX1_follow_37 : decode cX1_follow 37 = .ok (.putfield 60, 3) := by decide +kernel
theorem dX1_follow_40 : decode cX1_follow 40 = .ok (.iconst 0, 1) := by decide +kernel
theorem dX1_follow_41 : decode cX1_follow 41 = .ok (.istore_n 1, 1) := by decide +kernel
theorem dX1_follow_42 : decode cX1_follow 42 = .ok (.iload_n 1, 1) := by decide +kernel
theorem dX1_follow_43 : decode cX1_follow 43 = .ok (.bipush 40, 2) := by decide +kernel
theorem dX1_follow_45 : decode cX1_follow 45 = .ok (.if_icmp .ge 64, 3) := by decide +kernel
theorem dX1_follow_48 : decode cX1_follow 48 = .ok (.aload_n 0, 1) := by decide +kernel
theorem dX1_follow_49 : decode cX1_follow 49 = .ok (.getfield 60, 3) := by decide +kernel
theorem dX1_follow_52 : decode cX1_follow 52 = .ok (.ifCond .eq 57, 3) := by decide +kernel
theorem dX1_follow_55 : decode cX1_follow 55 = .ok (.aload_n 0, 1) := by decide +kernel
theorem dX1_follow_56 : decode cX1_follow 56 = .ok (.getfield 45, 3) := by decide +kernel
theorem dX1_follow_59 : decode cX1_follow 59 = .ok (.ifCond .ne 50, 3) := by decide +kernel
theorem dX1_follow_62 : decode cX1_follow 62 = .ok (.aload_n 0, 1) := by decide +kernel
theorem dX1_follow_63 : decode cX1_follow 63 = .ok (.iconst 0, 1) := by decide +kernel
theorem dX1_follow_64 : decode cX1_follow 64 = .ok (.putfield 60, 3) := by decide +kernel
theorem dX1_follow_67 : decode cX1_follow 67 = .ok (.iconst 0, 1) := by decide +kernel
theorem dX1_follow_68 : decode cX1_follow 68 = .ok (.istore_n 2, 1) := by decide +kernel
theorem dX1_follow_69 : decode cX1_follow 69 = .ok (.iload_n 2, 1) := by decide +kernel
theorem dX1_follow_70 : decode cX1_follow 70 = .ok (.aload_n 0, 1) := by decide +kernel
theorem dX1_follow_71 : decode cX1_follow 71 = .ok (.getfield 7, 3) := by decide +kernel
theorem dX1_follow_74 : decode cX1_follow 74 = .ok (.if_icmp .ge 29, 3) := by decide +kernel
theorem dX1_follow_77 : decode cX1_follow 77 = .ok (.aload_n 0, 1) := by decide +kernel
theorem dX1_follow_78 : decode cX1_follow 78 = .ok (.getfield 45, 3) := by decide +kernel
theorem dX1_follow_81 : decode cX1_follow 81 = .ok (.ifCond .ne 22, 3) := by decide +kernel
theorem dX1_follow_84 : decode cX1_follow 84 = .ok (.aload_n 0, 1) := by decide +kernel
theorem dX1_follow_85 : decode cX1_follow 85 = .ok (.iload_n 2, 1) := by decide +kernel
theorem dX1_follow_86 : decode cX1_follow 86 = .ok (.invokevirtual 74, 3) := by decide +kernel
theorem dX1_follow_89 : decode cX1_follow 89 = .ok (.ifCond .eq 8, 3) := by decide +kernel
theorem dX1_follow_92 : decode cX1_follow 92 = .ok (.aload_n 0, 1) := by decide +kernel
theorem dX1_follow_93 : decode cX1_follow 93 = .ok (.iload_n 2, 1) := by decide +kernel
theorem dX1_follow_94 : decode cX1_follow 94 = .ok (.invokevirtual 77, 3) := by decide +kernel
theorem dX1_follow_97 : decode cX1_follow 97 = .ok (.iinc 2 1, 3) := by decide +kernel
theorem dX1_follow_100 : decode cX1_follow 100 = .ok (.goto (-31), 3) := by decide +kernel
theorem dX1_follow_103 : decode cX1_follow 103 = .ok (.iinc 1 1, 3) := by decide +kernel
theorem dX1_follow_106 : decode cX1_follow 106 = .ok (.goto (-64), 3) := by decide +kernel
theorem dX1_follow_109 : decode cX1_follow 109 = .ok (.return_, 1) := by decide +kernel
abbrev cX1_ready : ByteArray := prog_3_method_8_code
def yX1_ready : MethodName := ⟨RX1, "ready", "(I)Z"⟩
theorem dX1_ready_0 : decode cX1_ready 0 = .ok (.aload_n 0, 1) := by decide +kernel
theorem dX1_ready_1 : decode cX1_ready 1 = .ok (.getfield 13, 3) := by decide +kernel
theorem dX1_ready_4 : decode cX1_ready 4 = .ok (.iload_n 1, 1) := by decide +kernel
theorem dX1_ready_5 : decode cX1_ready 5 = .ok (.iaload, 1) := by decide +kernel
theorem dX1_ready_6 : decode cX1_ready 6 = .ok (.iconst 3, 1) := by decide +kernel
theorem dX1_ready_7 : decode cX1_ready 7 = .ok (.if_icmp .ge 5, 3) := by decide +kernel
theorem dX1_ready_10 : decode cX1_ready 10 = .ok (.iconst 1, 1) := by decide +kernel
theorem dX1_ready_11 : decode cX1_ready 11 = .ok (.ireturn, 1) := by decide +kernel
theorem dX1_ready_12 : decode cX1_ready 12 = .ok (.aload_n 0, 1) := by decide +kernel
theorem dX1_ready_13 : decode cX1_ready 13 = .ok (.getfield 26, 3) := by decide +kernel
theorem dX1_ready_16 : decode cX1_ready 16 = .ok (.aload_n 0, 1) := by decide +kernel
theorem dX1_ready_17 : decode cX1_ready 17 = .ok (.getfield 20, 3) := by decide +kernel
theorem dX1_ready_20 : decode cX1_ready 20 = .ok (.iload_n 1, 1) := by decide +kernel
theorem dX1_ready_21 : decode cX1_ready 21 = .ok (.iaload, 1) := by decide +kernel
theorem dX1_ready_22 : decode cX1_ready 22 = .ok (.iaload, 1) := by decide +kernel
theorem dX1_ready_23 : decode cX1_ready 23 = .ok (.istore_n 2, 1) := by decide +kernel
theorem dX1_ready_24 : decode cX1_ready 24 = .ok (.aload_n 0, 1) := by decide +kernel
theorem dX1_ready_25 : decode cX1_ready 25 = .ok (.getfield 13, 3) := by decide +kernel
theorem dX1_ready_28 : decode cX1_ready 28 = .ok (.iload_n 1, 1) := by decide +kernel
theorem dX1_ready_29 : decode cX1_ready 29 = .ok (.iaload, 1) := by decide +kernel
theorem dX1_ready_30 : decode cX1_ready 30 = .ok (.iconst 5, 1) := by decide +kernel
theorem dX1_ready_31 : decode cX1_ready 31 = .ok (.if_icmp .eq 14, 3) := by decide +kernel
theorem dX1_ready_34 : decode cX1_ready 34 = .ok (.aload_n 0, 1) := by decide +kernel
theorem dX1_ready_35 : decode cX1_ready 35 = .ok (.getfield 13, 3) := by decide +kernel
theorem dX1_ready_38 : decode cX1_ready 38 = .ok (.iload_n 1, 1) := by decide +kernel
theorem dX1_ready_39 : decode cX1_ready 39 = .ok (.iaload, 1) := by decide +kernel
theorem dX1_ready_40 : decode cX1_ready 40 = .ok (.bipush 6, 2) := by decide +kernel
theorem dX1_ready_42 : decode cX1_ready 42 = .ok (.if_icmp .ne 10, 3) := by decide +kernel
theorem dX1_ready_45 : decode cX1_ready 45 = .ok (.aload_n 0, 1) := by decide +kernel
theorem dX1_ready_46 : decode cX1_ready 46 = .ok (.getfield 36, 3) := by decide +kernel
theorem dX1_ready_49 : decode cX1_ready 49 = .ok (.iload_n 2, 1) := by decide +kernel
theorem dX1_ready_50 : decode cX1_ready 50 = .ok (.baload, 1) := by decide +kernel
theorem dX1_ready_51 : decode cX1_ready 51 = .ok (.ireturn, 1) := by decide +kernel
theorem dX1_ready_52 : decode cX1_ready 52 = .ok (.aload_n 0, 1) := by decide +kernel
theorem dX1_ready_53 : decode cX1_ready 53 = .ok (.getfield 29, 3) := by decide +kernel
theorem dX1_ready_56 : decode cX1_ready 56 = .ok (.iload_n 2, 1) := by decide +kernel
theorem dX1_ready_57 : decode cX1_ready 57 = .ok (.baload, 1) := by decide +kernel
theorem dX1_ready_58 : decode cX1_ready 58 = .ok (.ifCond .eq 26, 3) := by decide +kernel
theorem dX1_ready_61 : decode cX1_ready 61 = .ok (.aload_n 0, 1) := by decide +kernel
theorem dX1_ready_62 : decode cX1_ready 62 = .ok (.getfield 29, 3) := by decide +kernel
theorem dX1_ready_65 : decode cX1_ready 65 = .ok (.aload_n 0, 1) := by decide +kernel
theorem dX1_ready_66 : decode cX1_ready 66 = .ok (.getfield 26, 3) := by decide +kernel
theorem dX1_ready_69 : decode cX1_ready 69 = .ok (.aload_n 0, 1) := by decide +kernel
theorem dX1_ready_70 : decode cX1_ready 70 = .ok (.getfield 23, 3) := by decide +kernel
theorem dX1_ready_73 : decode cX1_ready 73 = .ok (.iload_n 1, 1) := by decide +kernel
theorem dX1_ready_74 : decode cX1_ready 74 = .ok (.iaload, 1) := by decide +kernel
theorem dX1_ready_75 : decode cX1_ready 75 = .ok (.iaload, 1) := by decide +kernel
theorem dX1_ready_76 : decode cX1_ready 76 = .ok (.baload, 1) := by decide +kernel
theorem dX1_ready_77 : decode cX1_ready 77 = .ok (.ifCond .eq 7, 3) := by decide +kernel
theorem dX1_ready_80 : decode cX1_ready 80 = .ok (.iconst 1, 1) := by decide +kernel
theorem dX1_ready_81 : decode cX1_ready 81 = .ok (.goto 4, 3) := by decide +kernel
theorem dX1_ready_84 : decode cX1_ready 84 = .ok (.iconst 0, 1) := by decide +kernel
theorem dX1_ready_85 : decode cX1_ready 85 = .ok (.ireturn, 1) := by decide +kernel
abbrev cX1_apply : ByteArray := prog_3_method_9_code
def yX1_apply : MethodName := ⟨RX1, "apply", "(I)V"⟩
theorem dX1_apply_0 : decode cX1_apply 0 = .ok (.aload_n 0, 1) := by decide +kernel
theorem dX1_apply_1 : decode cX1_apply 1 = .ok (.getfield 26, 3) := by decide +kernel
theorem dX1_apply_4 : decode cX1_apply 4 = .ok (.aload_n 0, 1) := by decide +kernel
theorem dX1_apply_5 : decode cX1_apply 5 = .ok (.getfield 20, 3) := by decide +kernel
theorem dX1_apply_8 : decode cX1_apply 8 = .ok (.iload_n 1, 1) := by decide +kernel
theorem dX1_apply_9 : decode cX1_apply 9 = .ok (.iaload, 1) := by decide +kernel
theorem dX1_apply_10 : decode cX1_apply 10 = .ok (.ifCond .lt 14, 3) := by decide +kernel
theorem dX1_apply_13 : decode cX1_apply 13 = .ok (.aload_n 0, 1) := by decide +kernel
theorem dX1_apply_14 : decode cX1_apply 14 = .ok (.getfield 20, 3) := by decide +kernel
theorem dX1_apply_17 : decode cX1_apply 17 = .ok (.iload_n 1, 1) := by decide +kernel
theorem dX1_apply_18 : decode cX1_apply 18 = .ok (.iaload, 1) := by decide +kernel
theorem dX1_apply_19 : decode cX1_apply 19 = .ok (.bipush 11, 2) := by decide +kernel
theorem dX1_apply_21 : decode cX1_apply 21 = .ok (.if_icmp .le 7, 3) := by decide +kernel
theorem dX1_apply_24 : decode cX1_apply 24 = .ok (.iconst 0, 1) := by decide +kernel
theorem dX1_apply_25 : decode cX1_apply 25 = .ok (.goto 9, 3) := by decide +kernel
theorem dX1_apply_28 : decode cX1_apply 28 = .ok (.aload_n 0, 1) := by decide +kernel
theorem dX1_apply_29 : decode cX1_apply 29 = .ok (.getfield 20, 3) := by decide +kernel
theorem dX1_apply_32 : decode cX1_apply 32 = .ok (.iload_n 1, 1) := by decide +kernel
theorem dX1_apply_33 : decode cX1_apply 33 = .ok (.iaload, 1) := by decide +kernel
theorem dX1_apply_34 : decode cX1_apply 34 = .ok (.iaload, 1) := by decide +kernel
theorem dX1_apply_35 : decode cX1_apply 35 = .ok (.istore_n 2, 1) := by decide +kernel
theorem dX1_apply_36 : decode cX1_apply 36 = .ok (.aload_n 0, 1) := by decide +kernel
theorem dX1_apply_37 : decode cX1_apply 37 = .ok (.getfield 26, 3) := by decide +kernel
theorem dX1_apply_40 : decode cX1_apply 40 = .ok (.aload_n 0, 1) := by decide +kernel
theorem dX1_apply_41 : decode cX1_apply 41 = .ok (.getfield 23, 3) := by decide +kernel
theorem dX1_apply_44 : decode cX1_apply 44 = .ok (.iload_n 1, 1) := by decide +kernel
theorem dX1_apply_45 : decode cX1_apply 45 = .ok (.iaload, 1) := by decide +kernel
theorem dX1_apply_46 : decode cX1_apply 46 = .ok (.ifCond .lt 14, 3) := by decide +kernel
theorem dX1_apply_49 : decode cX1_apply 49 = .ok (.aload_n 0, 1) := by decide +kernel
theorem dX1_apply_50 : decode cX1_apply 50 = .ok (.getfield 23, 3) := by decide +kernel
theorem dX1_apply_53 : decode cX1_apply 53 = .ok (.iload_n 1, 1) := by decide +kernel
theorem dX1_apply_54 : decode cX1_apply 54 = .ok (.iaload, 1) := by decide +kernel
theorem dX1_apply_55 : decode cX1_apply 55 = .ok (.bipush 11, 2) := by decide +kernel
theorem dX1_apply_57 : decode cX1_apply 57 = .ok (.if_icmp .le 7, 3) := by decide +kernel
theorem dX1_apply_60 : decode cX1_apply 60 = .ok (.iconst 0, 1) := by decide +kernel
theorem dX1_apply_61 : decode cX1_apply 61 = .ok (.goto 9, 3) := by decide +kernel
theorem dX1_apply_64 : decode cX1_apply 64 = .ok (.aload_n 0, 1) := by decide +kernel
theorem dX1_apply_65 : decode cX1_apply 65 = .ok (.getfield 23, 3) := by decide +kernel
theorem dX1_apply_68 : decode cX1_apply 68 = .ok (.iload_n 1, 1) := by decide +kernel
theorem dX1_apply_69 : decode cX1_apply 69 = .ok (.iaload, 1) := by decide +kernel
theorem dX1_apply_70 : decode cX1_apply 70 = .ok (.iaload, 1) := by decide +kernel
theorem dX1_apply_71 : decode cX1_apply 71 = .ok (.istore_n 3, 1) := by decide +kernel
theorem dX1_apply_72 : decode cX1_apply 72 = .ok (.aload_n 0, 1) := by decide +kernel
theorem dX1_apply_73 : decode cX1_apply 73 = .ok (.getfield 13, 3) := by decide +kernel
theorem dX1_apply_76 : decode cX1_apply 76 = .ok (.iload_n 1, 1) := by decide +kernel
theorem dX1_apply_77 : decode cX1_apply 77 = .ok (.iaload, 1) := by decide +kernel
theorem dX1_apply_78 : decode cX1_apply 78 = .ok (.ifCond .ne 22, 3) := by decide +kernel
theorem dX1_apply_81 : decode cX1_apply 81 = .ok (.aload_n 0, 1) := by decide +kernel
theorem dX1_apply_82 : decode cX1_apply 82 = .ok (.aload_n 0, 1) := by decide +kernel
theorem dX1_apply_83 : decode cX1_apply 83 = .ok (.getfield 17, 3) := by decide +kernel
theorem dX1_apply_86 : decode cX1_apply 86 = .ok (.iload_n 1, 1) := by decide +kernel
theorem dX1_apply_87 : decode cX1_apply 87 = .ok (.iaload, 1) := by decide +kernel
theorem dX1_apply_88 : decode cX1_apply 88 = .ok (.aload_n 0, 1) := by decide +kernel
theorem dX1_apply_89 : decode cX1_apply 89 = .ok (.getfield 20, 3) := by decide +kernel
theorem dX1_apply_92 : decode cX1_apply 92 = .ok (.iload_n 1, 1) := by decide +kernel
theorem dX1_apply_93 : decode cX1_apply 93 = .ok (.iaload, 1) := by decide +kernel
theorem dX1_apply_94 : decode cX1_apply 94 = .ok (.invokevirtual 67, 3) := by decide +kernel
theorem dX1_apply_97 : decode cX1_apply 97 = .ok (.goto 228, 3) := by decide +kernel
theorem dX1_apply_100 : decode cX1_apply 100 = .ok (.aload_n 0, 1) := by decide +kernel
theorem dX1_apply_101 : decode cX1_apply 101 = .ok (.getfield 13, 3) := by decide +kernel
theorem dX1_apply_104 : decode cX1_apply 104 = .ok (.iload_n 1, 1) := by decide +kernel
theorem dX1_apply_105 : decode cX1_apply 105 = .ok (.iaload, 1) := by decide +kernel
theorem dX1_apply_106 : decode cX1_apply 106 = .ok (.iconst 1, 1) := by decide +kernel
theorem dX1_apply_107 : decode cX1_apply 107 = .ok (.if_icmp .ne 22, 3) := by decide +kernel
theorem dX1_apply_110 : decode cX1_apply 110 = .ok (.aload_n 0, 1) := by decide +kernel
theorem dX1_apply_111 : decode cX1_apply 111 = .ok (.aload_n 0, 1) := by decide +kernel
theorem dX1_apply_112 : decode cX1_apply 112 = .ok (.getfield 17, 3) := by decide +kernel
theorem dX1_apply_115 : decode cX1_apply 115 = .ok (.iload_n 1, 1) := by decide +kernel
theorem dX1_apply_116 : decode cX1_apply 116 = .ok (.iaload, 1) := by decide +kernel
theorem dX1_apply_117 : decode cX1_apply 117 = .ok (.aload_n 0, 1) := by decide +kernel
theorem dX1_apply_118 : decode cX1_apply 118 = .ok (.getfield 20, 3) := by decide +kernel
theorem dX1_apply_121 : decode cX1_apply 121 = .ok (.iload_n 1, 1) := by decide +kernel
theorem dX1_apply_122 : decode cX1_apply 122 = .ok (.iaload, 1) := by decide +kernel
theorem dX1_apply_123 : decode cX1_apply 123 = .ok (.invokevirtual 63, 3) := by decide +kernel
theorem dX1_apply_126 : decode cX1_apply 126 = .ok (.goto 199, 3) := by decide +kernel
theorem dX1_apply_129 : decode cX1_apply 129 = .ok (.aload_n 0, 1) := by decide +kernel
theorem dX1_apply_130 : decode cX1_apply 130 = .ok (.getfield 13, 3) := by decide +kernel
theorem dX1_apply_133 : decode cX1_apply 133 = .ok (.iload_n 1, 1) := by decide +kernel
theorem dX1_apply_134 : decode cX1_apply 134 = .ok (.iaload, 1) := by decide +kernel
theorem dX1_apply_135 : decode cX1_apply 135 = .ok (.iconst 2, 1) := by decide +kernel
theorem dX1_apply_136 : decode cX1_apply 136 = .ok (.if_icmp .ne 28, 3) := by decide +kernel
theorem dX1_apply_139 : decode cX1_apply 139 = .ok (.aload_n 0, 1) := by decide +kernel
theorem dX1_apply_140 : decode cX1_apply 140 = .ok (.aload_n 0, 1) := by decide +kernel
theorem dX1_apply_141 : decode cX1_apply 141 = .ok (.getfield 17, 3) := by decide +kernel
theorem dX1_apply_144 : decode cX1_apply 144 = .ok (.iload_n 1, 1) := by decide +kernel
theorem dX1_apply_145 : decode cX1_apply 145 = .ok (.iaload, 1) := by decide +kernel
theorem dX1_apply_146 : decode cX1_apply 146 = .ok (.aload_n 0, 1) := by decide +kernel
theorem dX1_apply_147 : decode cX1_apply 147 = .ok (.getfield 20, 3) := by decide +kernel
theorem dX1_apply_150 : decode cX1_apply 150 = .ok (.iload_n 1, 1) := by decide +kernel
theorem dX1_apply_151 : decode cX1_apply 151 = .ok (.iaload, 1) := by decide +kernel
theorem dX1_apply_152 : decode cX1_apply 152 = .ok (.aload_n 0, 1) := by decide +kernel
theorem dX1_apply_153 : decode cX1_apply 153 = .ok (.getfield 23, 3) := by decide +kernel
theorem dX1_apply_156 : decode cX1_apply 156 = .ok (.iload_n 1, 1) := by decide +kernel
theorem dX1_apply_157 : decode cX1_apply 157 = .ok (.iaload, 1) := by decide +kernel
theorem dX1_apply_158 : decode cX1_apply 158 = .ok (.invokevirtual 70, 3) := by decide +kernel
theorem dX1_apply_161 : decode cX1_apply 161 = .ok (.goto 164, 3) := by decide +kernel
theorem dX1_apply_164 : decode cX1_apply 164 = .ok (.aload_n 0, 1) := by decide +kernel
theorem dX1_apply_165 : decode cX1_apply 165 = .ok (.getfield 13, 3) := by decide +kernel
theorem dX1_apply_168 : decode cX1_apply 168 = .ok (.iload_n 1, 1) := by decide +kernel
theorem dX1_apply_169 : decode cX1_apply 169 = .ok (.iaload, 1) := by decide +kernel
theorem dX1_apply_170 : decode cX1_apply 170 = .ok (.iconst 3, 1) := by decide +kernel
theorem dX1_apply_171 : decode cX1_apply 171 = .ok (.if_icmp .ne 29, 3) := by decide +kernel
theorem dX1_apply_174 : decode cX1_apply 174 = .ok (.aload_n 0, 1) := by decide +kernel
theorem dX1_apply_175 : decode cX1_apply 175 = .ok (.aload_n 0, 1) := by decide +kernel
theorem dX1_apply_176 : decode cX1_apply 176 = .ok (.getfield 17, 3) := by decide +kernel
theorem dX1_apply_179 : decode cX1_apply 179 = .ok (.iload_n 1, 1) := by decide +kernel
theorem dX1_apply_180 : decode cX1_apply 180 = .ok (.iaload, 1) := by decide +kernel
theorem dX1_apply_181 : decode cX1_apply 181 = .ok (.aload_n 0, 1) := by decide +kernel
theorem dX1_apply_182 : decode cX1_apply 182 = .ok (.getfield 33, 3) := by decide +kernel
theorem dX1_apply_185 : decode cX1_apply 185 = .ok (.iload_n 2, 1) := by decide +kernel
theorem dX1_apply_186 : decode cX1_apply 186 = .ok (.iaload, 1) := by decide +kernel
theorem dX1_apply_187 : decode cX1_apply 187 = .ok (.aload_n 0, 1) := by decide +kernel
theorem dX1_apply_188 : decode cX1_apply 188 = .ok (.getfield 33, 3) := by decide +kernel
theorem dX1_apply_191 : decode cX1_apply 191 = .ok (.iload_n 3, 1) := by decide +kernel
theorem dX1_apply_192 : decode cX1_apply 192 = .ok (.iaload, 1) := by decide +kernel
theorem dX1_apply_193 : decode cX1_apply 193 = .ok (.iadd, 1) := by decide +kernel
theorem dX1_apply_194 : decode cX1_apply 194 = .ok (.invokevirtual 63, 3) := by decide +kernel
theorem dX1_apply_197 : decode cX1_apply 197 = .ok (.goto 128, 3) := by decide +kernel
theorem dX1_apply_200 : decode cX1_apply 200 = .ok (.aload_n 0, 1) := by decide +kernel
theorem dX1_apply_201 : decode cX1_apply 201 = .ok (.getfield 13, 3) := by decide +kernel
theorem dX1_apply_204 : decode cX1_apply 204 = .ok (.iload_n 1, 1) := by decide +kernel
theorem dX1_apply_205 : decode cX1_apply 205 = .ok (.iaload, 1) := by decide +kernel
theorem dX1_apply_206 : decode cX1_apply 206 = .ok (.iconst 4, 1) := by decide +kernel
theorem dX1_apply_207 : decode cX1_apply 207 = .ok (.if_icmp .ne 29, 3) := by decide +kernel
theorem dX1_apply_210 : decode cX1_apply 210 = .ok (.aload_n 0, 1) := by decide +kernel
theorem dX1_apply_211 : decode cX1_apply 211 = .ok (.aload_n 0, 1) := by decide +kernel
theorem dX1_apply_212 : decode cX1_apply 212 = .ok (.getfield 17, 3) := by decide +kernel
theorem dX1_apply_215 : decode cX1_apply 215 = .ok (.iload_n 1, 1) := by decide +kernel
theorem dX1_apply_216 : decode cX1_apply 216 = .ok (.iaload, 1) := by decide +kernel
theorem dX1_apply_217 : decode cX1_apply 217 = .ok (.aload_n 0, 1) := by decide +kernel
theorem dX1_apply_218 : decode cX1_apply 218 = .ok (.getfield 33, 3) := by decide +kernel
theorem dX1_apply_221 : decode cX1_apply 221 = .ok (.iload_n 2, 1) := by decide +kernel
theorem dX1_apply_222 : decode cX1_apply 222 = .ok (.iaload, 1) := by decide +kernel
theorem dX1_apply_223 : decode cX1_apply 223 = .ok (.aload_n 0, 1) := by decide +kernel
theorem dX1_apply_224 : decode cX1_apply 224 = .ok (.getfield 33, 3) := by decide +kernel
theorem dX1_apply_227 : decode cX1_apply 227 = .ok (.iload_n 3, 1) := by decide +kernel
theorem dX1_apply_228 : decode cX1_apply 228 = .ok (.iaload, 1) := by decide +kernel
theorem dX1_apply_229 : decode cX1_apply 229 = .ok (.imul, 1) := by decide +kernel
theorem dX1_apply_230 : decode cX1_apply 230 = .ok (.invokevirtual 63, 3) := by decide +kernel
theorem dX1_apply_233 : decode cX1_apply 233 = .ok (.goto 92, 3) := by decide +kernel
theorem dX1_apply_236 : decode cX1_apply 236 = .ok (.aload_n 0, 1) := by decide +kernel
theorem dX1_apply_237 : decode cX1_apply 237 = .ok (.getfield 13, 3) := by decide +kernel
theorem dX1_apply_240 : decode cX1_apply 240 = .ok (.iload_n 1, 1) := by decide +kernel
theorem dX1_apply_241 : decode cX1_apply 241 = .ok (.iaload, 1) := by decide +kernel
theorem dX1_apply_242 : decode cX1_apply 242 = .ok (.iconst 5, 1) := by decide +kernel
theorem dX1_apply_243 : decode cX1_apply 243 = .ok (.if_icmp .ne 22, 3) := by decide +kernel
theorem dX1_apply_246 : decode cX1_apply 246 = .ok (.aload_n 0, 1) := by decide +kernel
theorem dX1_apply_247 : decode cX1_apply 247 = .ok (.aload_n 0, 1) := by decide +kernel
theorem dX1_apply_248 : decode cX1_apply 248 = .ok (.getfield 17, 3) := by decide +kernel
theorem dX1_apply_251 : decode cX1_apply 251 = .ok (.iload_n 1, 1) := by decide +kernel
theorem dX1_apply_252 : decode cX1_apply 252 = .ok (.iaload, 1) := by decide +kernel
theorem dX1_apply_253 : decode cX1_apply 253 = .ok (.aload_n 0, 1) := by decide +kernel
theorem dX1_apply_254 : decode cX1_apply 254 = .ok (.getfield 39, 3) := by decide +kernel
theorem dX1_apply_257 : decode cX1_apply 257 = .ok (.iload_n 2, 1) := by decide +kernel
theorem dX1_apply_258 : decode cX1_apply 258 = .ok (.iaload, 1) := by decide +kernel
theorem dX1_apply_259 : decode cX1_apply 259 = .ok (.invokevirtual 67, 3) := by decide +kernel
theorem dX1_apply_262 : decode cX1_apply 262 = .ok (.goto 63, 3) := by decide +kernel
theorem dX1_apply_265 : decode cX1_apply 265 = .ok (.aload_n 0, 1) := by decide +kernel
theorem dX1_apply_266 : decode cX1_apply 266 = .ok (.getfield 13, 3) := by decide +kernel
theorem dX1_apply_269 : decode cX1_apply 269 = .ok (.iload_n 1, 1) := by decide +kernel
theorem dX1_apply_270 : decode cX1_apply 270 = .ok (.iaload, 1) := by decide +kernel
theorem dX1_apply_271 : decode cX1_apply 271 = .ok (.bipush 6, 2) := by decide +kernel
theorem dX1_apply_273 : decode cX1_apply 273 = .ok (.if_icmp .ne 22, 3) := by decide +kernel
theorem dX1_apply_276 : decode cX1_apply 276 = .ok (.aload_n 0, 1) := by decide +kernel
theorem dX1_apply_277 : decode cX1_apply 277 = .ok (.aload_n 0, 1) := by decide +kernel
theorem dX1_apply_278 : decode cX1_apply 278 = .ok (.getfield 17, 3) := by decide +kernel
theorem dX1_apply_281 : decode cX1_apply 281 = .ok (.iload_n 1, 1) := by decide +kernel
theorem dX1_apply_282 : decode cX1_apply 282 = .ok (.iaload, 1) := by decide +kernel
theorem dX1_apply_283 : decode cX1_apply 283 = .ok (.aload_n 0, 1) := by decide +kernel
theorem dX1_apply_284 : decode cX1_apply 284 = .ok (.getfield 42, 3) := by decide +kernel
theorem dX1_apply_287 : decode cX1_apply 287 = .ok (.iload_n 2, 1) := by decide +kernel
theorem dX1_apply_288 : decode cX1_apply 288 = .ok (.iaload, 1) := by decide +kernel
theorem dX1_apply_289 : decode cX1_apply 289 = .ok (.invokevirtual 67, 3) := by decide +kernel
theorem dX1_apply_292 : decode cX1_apply 292 = .ok (.goto 33, 3) := by decide +kernel
theorem dX1_apply_295 : decode cX1_apply 295 = .ok (.aload_n 0, 1) := by decide +kernel
theorem dX1_apply_296 : decode cX1_apply 296 = .ok (.aload_n 0, 1) := by decide +kernel
theorem dX1_apply_297 : decode cX1_apply 297 = .ok (.getfield 17, 3) := by decide +kernel
theorem dX1_apply_300 : decode cX1_apply 300 = .ok (.iload_n 1, 1) := by decide +kernel
theorem dX1_apply_301 : decode cX1_apply 301 = .ok (.iaload, 1) := by decide +kernel
theorem dX1_apply_302 : decode cX1_apply 302 = .ok (.aload_n 0, 1) := by decide +kernel
theorem dX1_apply_303 : decode cX1_apply 303 = .ok (.getfield 33, 3) := by decide +kernel
theorem dX1_apply_306 : decode cX1_apply 306 = .ok (.iload_n 2, 1) := by decide +kernel
theorem dX1_apply_307 : decode cX1_apply 307 = .ok (.iaload, 1) := by decide +kernel
theorem dX1_apply_308 : decode cX1_apply 308 = .ok (.aload_n 0, 1) := by decide +kernel
theorem dX1_apply_309 : decode cX1_apply 309 = .ok (.getfield 33, 3) := by decide +kernel
theorem dX1_apply_312 : decode cX1_apply 312 = .ok (.iload_n 3, 1) := by decide +kernel
theorem dX1_apply_313 : decode cX1_apply 313 = .ok (.iaload, 1) := by decide +kernel
theorem dX1_apply_314 : decode cX1_apply 314 = .ok (.if_icmp .ne 7, 3) := by decide +kernel
theorem dX1_apply_317 : decode cX1_apply 317 = .ok (.iconst 1, 1) := by decide +kernel
theorem dX1_apply_318 : decode cX1_apply 318 = .ok (.goto 4, 3) := by decide +kernel
theorem dX1_apply_321 : decode cX1_apply 321 = .ok (.iconst 0, 1) := by decide +kernel
theorem dX1_apply_322 : decode cX1_apply 322 = .ok (.invokevirtual 63, 3) := by decide +kernel
theorem dX1_apply_325 : decode cX1_apply 325 = .ok (.return_, 1) := by decide +kernel
end
section
set_option maxRecDepth 100000
abbrev cX1_join : ByteArray := prog_3_method_5_code
def yX1_join : MethodName := ⟨RX1, "join", "(II)V"⟩
theorem dX1_join_0 : decode cX1_join 0 = .ok (.aload_n 0, 1) := by decide +kernel
theorem dX1_join_1 : decode cX1_join 1 = .ok (.getfield 26, 3) := by decide +kernel
theorem dX1_join_4 : decode cX1_join 4 = .ok (.iload_n 1, 1) := by decide +kernel
theorem dX1_join_5 : decode cX1_join 5 = .ok (.iaload, 1) := by decide +kernel
theorem dX1_join_6 : decode cX1_join 6 = .ok (.aload_n 0, 1) := by decide +kernel
theorem dX1_join_7 : decode cX1_join 7 = .ok (.getfield 26, 3) := by decide +kernel
theorem dX1_join_10 : decode cX1_join 10 = .ok (.iload_n 2, 1) := by decide +kernel
theorem dX1_join_11 : decode cX1_join 11 = .ok (.iaload, 1) := by decide +kernel
theorem dX1_join_12 : decode cX1_join 12 = .ok (.if_icmp .ge 12, 3) := by decide +kernel
theorem dX1_join_15 : decode cX1_join 15 = .ok (.aload_n 0, 1) := by decide +kernel
theorem dX1_join_16 : decode cX1_join 16 = .ok (.getfield 26, 3) := by decide +kernel
theorem dX1_join_19 : decode cX1_join 19 = .ok (.iload_n 1, 1) := by decide +kernel
theorem dX1_join_20 : decode cX1_join 20 = .ok (.iaload, 1) := by decide +kernel
theorem dX1_join_21 : decode cX1_join 21 = .ok (.goto 9, 3) := by decide +kernel
theorem dX1_join_24 : decode cX1_join 24 = .ok (.aload_n 0, 1) := by decide +kernel
theorem dX1_join_25 : decode cX1_join 25 = .ok (.getfield 26, 3) := by decide +kernel
theorem dX1_join_28 : decode cX1_join 28 = .ok (.iload_n 2, 1) := by decide +kernel
theorem dX1_join_29 : decode cX1_join 29 = .ok (.iaload, 1) := by decide +kernel
theorem dX1_join_30 : decode cX1_join 30 = .ok (.istore_n 3, 1) := by decide +kernel
theorem dX1_join_31 : decode cX1_join 31 = .ok (.aload_n 0, 1) := by decide +kernel
theorem dX1_join_32 : decode cX1_join 32 = .ok (.getfield 26, 3) := by decide +kernel
theorem dX1_join_35 : decode cX1_join 35 = .ok (.iload_n 1, 1) := by decide +kernel
theorem dX1_join_36 : decode cX1_join 36 = .ok (.iaload, 1) := by decide +kernel
theorem dX1_join_37 : decode cX1_join 37 = .ok (.aload_n 0, 1) := by decide +kernel
theorem dX1_join_38 : decode cX1_join 38 = .ok (.getfield 26, 3) := by decide +kernel
theorem dX1_join_41 : decode cX1_join 41 = .ok (.iload_n 2, 1) := by decide +kernel
theorem dX1_join_42 : decode cX1_join 42 = .ok (.iaload, 1) := by decide +kernel
theorem dX1_join_43 : decode cX1_join 43 = .ok (.if_icmp .ge 12, 3) := by decide +kernel
theorem dX1_join_46 : decode cX1_join 46 = .ok (.aload_n 0, 1) := by decide +kernel
theorem dX1_join_47 : decode cX1_join 47 = .ok (.getfield 26, 3) := by decide +kernel
theorem dX1_join_50 : decode cX1_join 50 = .ok (.iload_n 2, 1) := by decide +kernel
theorem dX1_join_51 : decode cX1_join 51 = .ok (.iaload, 1) := by decide +kernel
theorem dX1_join_52 : decode cX1_join 52 = .ok (.goto 9, 3) := by decide +kernel
theorem dX1_join_55 : decode cX1_join 55 = .ok (.aload_n 0, 1) := by decide +kernel
theorem dX1_join_56 : decode cX1_join 56 = .ok (.getfield 26, 3) := by decide +kernel
theorem dX1_join_59 : decode cX1_join 59 = .ok (.iload_n 1, 1) := by decide +kernel
theorem dX1_join_60 : decode cX1_join 60 = .ok (.iaload, 1) := by decide +kernel
theorem dX1_join_61 : decode cX1_join 61 = .ok (.istore 4, 2) := by decide +kernel
theorem dX1_join_63 : decode cX1_join 63 = .ok (.iload_n 3, 1) := by decide +kernel
theorem dX1_join_64 : decode cX1_join 64 = .ok (.iload 4, 2) := by decide +kernel
theorem dX1_join_66 : decode cX1_join 66 = .ok (.if_icmp .ne 4, 3) := by decide +kernel
theorem dX1_join_69 : decode cX1_join 69 = .ok (.return_, 1) := by decide +kernel
theorem dX1_join_70 : decode cX1_join 70 = .ok (.aload_n 0, 1) := by decide +kernel
theorem dX1_join_71 : decode cX1_join 71 = .ok (.iconst 1, 1) := by decide +kernel
theorem dX1_join_72 : decode cX1_join 72 = .ok (.putfield 60, 3) := by decide +kernel
theorem dX1_join_75 : decode cX1_join 75 = .ok (.iconst 0, 1) := by decide +kernel
theorem dX1_join_76 : decode cX1_join 76 = .ok (.istore 5, 2) := by decide +kernel
theorem dX1_join_78 : decode cX1_join 78 = .ok (.iload 5, 2) := by decide +kernel
theorem dX1_join_80 : decode cX1_join 80 = .ok (.bipush 12, 2) := by decide +kernel
theorem dX1_join_82 : decode cX1_join 82 = .ok (.if_icmp .ge 29, 3) := by decide +kernel
theorem dX1_join_85 : decode cX1_join 85 = .ok (.aload_n 0, 1) := by decide +kernel
theorem dX1_join_86 : decode cX1_join 86 = .ok (.getfield 26, 3) := by decide +kernel
theorem dX1_join_89 : decode cX1_join 89 = .ok (.iload 5, 2) := by decide +kernel
theorem dX1_join_91 : decode cX1_join 91 = .ok (.iaload, 1) := by decide +kernel
theorem dX1_join_92 : decode cX1_join 92 = .ok (.iload 4, 2) := by decide +kernel
theorem dX1_join_94 : decode cX1_join 94 = .ok (.if_icmp .ne 11, 3) := by decide +kernel
theorem dX1_join_97 : decode cX1_join 97 = .ok (.aload_n 0, 1) := by decide +kernel
theorem dX1_join_98 : decode cX1_join 98 = .ok (.getfield 26, 3) := by decide +kernel
theorem dX1_join_101 : decode cX1_join 101 = .ok (.iload 5, 2) := by decide +kernel
theorem dX1_join_103 : decode cX1_join 103 = .ok (.iload_n 3, 1) := by decide +kernel
theorem dX1_join_104 : decode cX1_join 104 = .ok (.iastore, 1) := by decide +kernel
theorem dX1_join_105 : decode cX1_join 105 = .ok (.iinc 5 1, 3) := by decide +kernel
theorem dX1_join_108 : decode cX1_join 108 = .ok (.goto (-30), 3) := by decide +kernel
theorem dX1_join_111 : decode cX1_join 111 = .ok (.aload_n 0, 1) := by decide +kernel
theorem dX1_join_112 : decode cX1_join 112 = .ok (.getfield 29, 3) := by decide +kernel
theorem dX1_join_115 : decode cX1_join 115 = .ok (.iload 4, 2) := by decide +kernel
theorem dX1_join_117 : decode cX1_join 117 = .ok (.baload, 1) := by decide +kernel
theorem dX1_join_118 : decode cX1_join 118 = .ok (.ifCond .eq 15, 3) := by decide +kernel
theorem dX1_join_121 : decode cX1_join 121 = .ok (.aload_n 0, 1) := by decide +kernel
theorem dX1_join_122 : decode cX1_join 122 = .ok (.iload_n 3, 1) := by decide +kernel
theorem dX1_join_123 : decode cX1_join 123 = .ok (.aload_n 0, 1) := by decide +kernel
theorem dX1_join_124 : decode cX1_join 124 = .ok (.getfield 33, 3) := by decide +kernel
theorem dX1_join_127 : decode cX1_join 127 = .ok (.iload 4, 2) := by decide +kernel
theorem dX1_join_129 : decode cX1_join 129 = .ok (.iaload, 1) := by decide +kernel
theorem dX1_join_130 : decode cX1_join 130 = .ok (.invokevirtual 63, 3) := by decide +kernel
theorem dX1_join_133 : decode cX1_join 133 = .ok (.aload_n 0, 1) := by decide +kernel
theorem dX1_join_134 : decode cX1_join 134 = .ok (.getfield 36, 3) := by decide +kernel
theorem dX1_join_137 : decode cX1_join 137 = .ok (.iload 4, 2) := by decide +kernel
theorem dX1_join_139 : decode cX1_join 139 = .ok (.baload, 1) := by decide +kernel
theorem dX1_join_140 : decode cX1_join 140 = .ok (.ifCond .eq 59, 3) := by decide +kernel
theorem dX1_join_143 : decode cX1_join 143 = .ok (.aload_n 0, 1) := by decide +kernel
theorem dX1_join_144 : decode cX1_join 144 = .ok (.getfield 29, 3) := by decide +kernel
theorem dX1_join_147 : decode cX1_join 147 = .ok (.iload_n 3, 1) := by decide +kernel
theorem dX1_join_148 : decode cX1_join 148 = .ok (.baload, 1) := by decide +kernel
theorem dX1_join_149 : decode cX1_join 149 = .ok (.ifCond .eq 8, 3) := by decide +kernel
theorem dX1_join_152 : decode cX1_join 152 = .ok (.aload_n 0, 1) := by decide +kernel
theorem dX1_join_153 : decode cX1_join 153 = .ok (.iconst 1, 1) := by decide +kernel
theorem dX1_join_154 : decode cX1_join 154 = .ok (.putfield 45, 3) := by decide +kernel
theorem dX1_join_157 : decode cX1_join 157 = .ok (.aload_n 0, 1) := by decide +kernel
theorem dX1_join_158 : decode cX1_join 158 = .ok (.getfield 36, 3) := by decide +kernel
theorem dX1_join_161 : decode cX1_join 161 = .ok (.iload_n 3, 1) := by decide +kernel
theorem dX1_join_162 : decode cX1_join 162 = .ok (.baload, 1) := by decide +kernel
theorem dX1_join_163 : decode cX1_join 163 = .ok (.ifCond .ne 36, 3) := by decide +kernel
theorem dX1_join_166 : decode cX1_join 166 = .ok (.aload_n 0, 1) := by decide +kernel
theorem dX1_join_167 : decode cX1_join 167 = .ok (.getfield 36, 3) := by decide +kernel
theorem dX1_join_170 : decode cX1_join 170 = .ok (.iload_n 3, 1) := by decide +kernel
theorem dX1_join_171 : decode cX1_join 171 = .ok (.iconst 1, 1) := by decide +kernel
theorem dX1_join_172 : decode cX1_join 172 = .ok (.bastore, 1) := by decide +kernel
theorem dX1_join_173 : decode cX1_join 173 = .ok (.aload_n 0, 1) := by decide +kernel
theorem dX1_join_174 : decode cX1_join 174 = .ok (.getfield 39, 3) := by decide +kernel
theorem dX1_join_177 : decode cX1_join 177 = .ok (.iload_n 3, 1) := by decide +kernel
theorem dX1_join_178 : decode cX1_join 178 = .ok (.aload_n 0, 1) := by decide +kernel
theorem dX1_join_179 : decode cX1_join 179 = .ok (.getfield 39, 3) := by decide +kernel
theorem dX1_join_182 : decode cX1_join 182 = .ok (.iload 4, 2) := by decide +kernel
theorem dX1_join_184 : decode cX1_join 184 = .ok (.iaload, 1) := by decide +kernel
theorem dX1_join_185 : decode cX1_join 185 = .ok (.iastore, 1) := by decide +kernel
theorem dX1_join_186 : decode cX1_join 186 = .ok (.aload_n 0, 1) := by decide +kernel
theorem dX1_join_187 : decode cX1_join 187 = .ok (.getfield 42, 3) := by decide +kernel
theorem dX1_join_190 : decode cX1_join 190 = .ok (.iload_n 3, 1) := by decide +kernel
theorem dX1_join_191 : decode cX1_join 191 = .ok (.aload_n 0, 1) := by decide +kernel
theorem dX1_join_192 : decode cX1_join 192 = .ok (.getfield 42, 3) := by decide +kernel
theorem dX1_join_195 : decode cX1_join 195 = .ok (.iload 4, 2) := by decide +kernel
theorem dX1_join_197 : decode cX1_join 197 = .ok (.iaload, 1) := by decide +kernel
theorem dX1_join_198 : decode cX1_join 198 = .ok (.iastore, 1) := by decide +kernel
theorem dX1_join_199 : decode cX1_join 199 = .ok (.return_, 1) := by decide +kernel
abbrev cX1_beInt : ByteArray := prog_3_method_6_code
def yX1_beInt : MethodName := ⟨RX1, "beInt", "(II)V"⟩
theorem dX1_beInt_0 : decode cX1_beInt 0 = .ok (.aload_n 0, 1) := by decide +kernel
theorem dX1_beInt_1 : decode cX1_beInt 1 = .ok (.getfield 26, 3) := by decide +kernel
theorem dX1_beInt_4 : decode cX1_beInt 4 = .ok (.iload_n 1, 1) := by decide +kernel
theorem dX1_beInt_5 : decode cX1_beInt 5 = .ok (.iaload, 1) := by decide +kernel
theorem dX1_beInt_6 : decode cX1_beInt 6 = .ok (.istore_n 3, 1) := by decide +kernel
theorem dX1_beInt_7 : decode cX1_beInt 7 = .ok (.aload_n 0, 1) := by decide +kernel
theorem dX1_beInt_8 : decode cX1_beInt 8 = .ok (.getfield 36, 3) := by decide +kernel
theorem dX1_beInt_11 : decode cX1_beInt 11 = .ok (.iload_n 3, 1) := by decide +kernel
theorem dX1_beInt_12 : decode cX1_beInt 12 = .ok (.baload, 1) := by decide +kernel
theorem dX1_beInt_13 : decode cX1_beInt 13 = .ok (.ifCond .ne 22, 3) := by decide +kernel
theorem dX1_beInt_16 : decode cX1_beInt 16 = .ok (.aload_n 0, 1) := by decide +kernel
theorem dX1_beInt_17 : decode cX1_beInt 17 = .ok (.getfield 29, 3) := by decide +kernel
theorem dX1_beInt_20 : decode cX1_beInt 20 = .ok (.iload_n 3, 1) := by decide +kernel
theorem dX1_beInt_21 : decode cX1_beInt 21 = .ok (.baload, 1) := by decide +kernel
theorem dX1_beInt_22 : decode cX1_beInt 22 = .ok (.ifCond .eq 18, 3) := by decide +kernel
theorem dX1_beInt_25 : decode cX1_beInt 25 = .ok (.aload_n 0, 1) := by decide +kernel
theorem dX1_beInt_26 : decode cX1_beInt 26 = .ok (.getfield 33, 3) := by decide +kernel
theorem dX1_beInt_29 : decode cX1_beInt 29 = .ok (.iload_n 3, 1) := by decide +kernel
theorem dX1_beInt_30 : decode cX1_beInt 30 = .ok (.iaload, 1) := by decide +kernel
theorem dX1_beInt_31 : decode cX1_beInt 31 = .ok (.iload_n 2, 1) := by decide +kernel
theorem dX1_beInt_32 : decode cX1_beInt 32 = .ok (.if_icmp .eq 8, 3) := by decide +kernel
theorem dX1_beInt_35 : decode cX1_beInt 35 = .ok (.aload_n 0, 1) := by decide +kernel
theorem dX1_beInt_36 : decode cX1_beInt 36 = .ok (.iconst 1, 1) := by decide +kernel
theorem dX1_beInt_37 : decode cX1_beInt 37 = .ok (.putfield 45, 3) := by decide +kernel
theorem dX1_beInt_40 : decode cX1_beInt 40 = .ok (.aload_n 0, 1) := by decide +kernel
theorem dX1_beInt_41 : decode cX1_beInt 41 = .ok (.getfield 29, 3) := by decide +kernel
theorem dX1_beInt_44 : decode cX1_beInt 44 = .ok (.iload_n 3, 1) := by decide +kernel
theorem dX1_beInt_45 : decode cX1_beInt 45 = .ok (.baload, 1) := by decide +kernel
theorem dX1_beInt_46 : decode cX1_beInt 46 = .ok (.ifCond .ne 8, 3) := by decide +kernel
theorem dX1_beInt_49 : decode cX1_beInt 49 = .ok (.aload_n 0, 1) := by decide +kernel
theorem dX1_beInt_50 : decode cX1_beInt 50 = .ok (.iconst 1, 1) := by decide +kernel
theorem dX1_beInt_51 : decode cX1_beInt 51 = .ok (.putfield 60, 3) := by decide +kernel
theorem dX1_beInt_54 : decode cX1_beInt 54 = .ok (.aload_n 0, 1) := by decide +kernel
theorem dX1_beInt_55 : decode cX1_beInt 55 = .ok (.getfield 29, 3) := by decide +kernel
theorem dX1_beInt_58 : decode cX1_beInt 58 = .ok (.iload_n 3, 1) := by decide +kernel
theorem dX1_beInt_59 : decode cX1_beInt 59 = .ok (.iconst 1, 1) := by decide +kernel
theorem dX1_beInt_60 : decode cX1_beInt 60 = .ok (.bastore, 1) := by decide +kernel
theorem dX1_beInt_61 : decode cX1_beInt 61 = .ok (.aload_n 0, 1) := by decide +kernel
theorem dX1_beInt_62 : decode cX1_beInt 62 = .ok (.getfield 33, 3) := by decide +kernel
theorem dX1_beInt_65 : decode cX1_beInt 65 = .ok (.iload_n 3, 1) := by decide +kernel
theorem dX1_beInt_66 : decode cX1_beInt 66 = .ok (.iload_n 2, 1) := by decide +kernel
theorem dX1_beInt_67 : decode cX1_beInt 67 = .ok (.iastore, 1) := by decide +kernel
theorem dX1_beInt_68 : decode cX1_beInt 68 = .ok (.return_, 1) := by decide +kernel
abbrev cX1_bePair : ByteArray := prog_3_method_7_code
def yX1_bePair : MethodName := ⟨RX1, "bePair", "(III)V"⟩
theorem dX1_bePair_0 : decode cX1_bePair 0 = .ok (.aload_n 0, 1) := by decide +kernel
theorem dX1_bePair_1 : decode cX1_bePair 1 = .ok (.getfield 26, 3) := by decide +kernel
theorem dX1_bePair_4 : decode cX1_bePair 4 = .ok (.iload_n 1, 1) := by decide +kernel
theorem dX1_bePair_5 : decode cX1_bePair 5 = .ok (.iaload, 1) := by decide +kernel
theorem dX1_bePair_6 : decode cX1_bePair 6 = .ok (.istore 4, 2) := by decide +kernel
theorem dX1_bePair_8 : decode cX1_bePair 8 = .ok (.aload_n 0, 1) := by decide +kernel
theorem dX1_bePair_9 : decode cX1_bePair 9 = .ok (.getfield 29, 3) := by decide +kernel
theorem dX1_bePair_12 : decode cX1_bePair 12 = .ok (.iload 4, 2) := by decide +kernel
theorem dX1_bePair_14 : decode cX1_bePair 14 = .ok (.baload, 1) := by decide +kernel
theorem dX1_bePair_15 : decode cX1_bePair 15 = .ok (.ifCond .eq 8, 3) := by decide +kernel
theorem dX1_bePair_18 : decode cX1_bePair 18 = .ok (.aload_n 0, 1) := by decide +kernel
theorem dX1_bePair_19 : decode cX1_bePair 19 = .ok (.iconst 1, 1) := by decide +kernel
theorem dX1_bePair_20 : decode cX1_bePair 20 = .ok (.putfield 45, 3) := by decide +kernel
theorem dX1_bePair_23 : decode cX1_bePair 23 = .ok (.aload_n 0, 1) := by decide +kernel
theorem dX1_bePair_24 : decode cX1_bePair 24 = .ok (.getfield 36, 3) := by decide +kernel
theorem dX1_bePair_27 : decode cX1_bePair 27 = .ok (.iload 4, 2) := by decide +kernel
theorem dX1_bePair_29 : decode cX1_bePair 29 = .ok (.baload, 1) := by decide +kernel
theorem dX1_bePair_30 : decode cX1_bePair 30 = .ok (.ifCond .eq 38, 3) := by decide +kernel
theorem dX1_bePair_33 : decode cX1_bePair 33 = .ok (.aload_n 0, 1) := by decide +kernel
theorem dX1_bePair_34 : decode cX1_bePair 34 = .ok (.aload_n 0, 1) := by decide +kernel
theorem dX1_bePair_35 : decode cX1_bePair 35 = .ok (.getfield 39, 3) := by decide +kernel
theorem dX1_bePair_38 : decode cX1_bePair 38 = .ok (.iload 4, 2) := by decide +kernel
theorem dX1_bePair_40 : decode cX1_bePair 40 = .ok (.iaload, 1) := by decide +kernel
theorem dX1_bePair_41 : decode cX1_bePair 41 = .ok (.iload_n 2, 1) := by decide +kernel
theorem dX1_bePair_42 : decode cX1_bePair 42 = .ok (.invokevirtual 67, 3) := by decide +kernel
theorem dX1_bePair_45 : decode cX1_bePair 45 = .ok (.aload_n 0, 1) := by decide +kernel
theorem dX1_bePair_46 : decode cX1_bePair 46 = .ok (.getfield 26, 3) := by decide +kernel
theorem dX1_bePair_49 : decode cX1_bePair 49 = .ok (.iload_n 1, 1) := by decide +kernel
theorem dX1_bePair_50 : decode cX1_bePair 50 = .ok (.iaload, 1) := by decide +kernel
theorem dX1_bePair_51 : decode cX1_bePair 51 = .ok (.istore 5, 2) := by decide +kernel
theorem dX1_bePair_53 : decode cX1_bePair 53 = .ok (.aload_n 0, 1) := by decide +kernel
theorem dX1_bePair_54 : decode cX1_bePair 54 = .ok (.aload_n 0, 1) := by decide +kernel
theorem dX1_bePair_55 : decode cX1_bePair 55 = .ok (.getfield 42, 3) := by decide +kernel
theorem dX1_bePair_58 : decode cX1_bePair 58 = .ok (.iload 5, 2) := by decide +kernel
theorem dX1_bePair_60 : decode cX1_bePair 60 = .ok (.iaload, 1) := by decide +kernel
theorem dX1_bePair_61 : decode cX1_bePair 61 = .ok (.iload_n 3, 1) := by decide +kernel
theorem dX1_bePair_62 : decode cX1_bePair 62 = .ok (.invokevirtual 67, 3) := by decide +kernel
theorem dX1_bePair_65 : decode cX1_bePair 65 = .ok (.goto 32, 3) := by decide +kernel
theorem dX1_bePair_68 : decode cX1_bePair 68 = .ok (.aload_n 0, 1) := by decide +kernel
theorem dX1_bePair_69 : decode cX1_bePair 69 = .ok (.iconst 1, 1) := by decide +kernel
theorem dX1_bePair_70 : decode cX1_bePair 70 = .ok (.putfield 60, 3) := by decide +kernel
theorem dX1_bePair_73 : decode cX1_bePair 73 = .ok (.aload_n 0, 1) := by decide +kernel
theorem dX1_bePair_74 : decode cX1_bePair 74 = .ok (.getfield 36, 3) := by decide +kernel
theorem dX1_bePair_77 : decode cX1_bePair 77 = .ok (.iload 4, 2) := by decide +kernel
theorem dX1_bePair_79 : decode cX1_bePair 79 = .ok (.iconst 1, 1) := by decide +kernel
theorem dX1_bePair_80 : decode cX1_bePair 80 = .ok (.bastore, 1) := by decide +kernel
theorem dX1_bePair_81 : decode cX1_bePair 81 = .ok (.aload_n 0, 1) := by decide +kernel
theorem dX1_bePair_82 : decode cX1_bePair 82 = .ok (.getfield 39, 3) := by decide +kernel
theorem dX1_bePair_85 : decode cX1_bePair 85 = .ok (.iload 4, 2) := by decide +kernel
theorem dX1_bePair_87 : decode cX1_bePair 87 = .ok (.iload_n 2, 1) := by decide +kernel
theorem dX1_bePair_88 : decode cX1_bePair 88 = .ok (.iastore, 1) := by decide +kernel
theorem dX1_bePair_89 : decode cX1_bePair 89 = .ok (.aload_n 0, 1) := by decide +kernel
theorem dX1_bePair_90 : decode cX1_bePair 90 = .ok (.getfield 42, 3) := by decide +kernel
theorem dX1_bePair_93 : decode cX1_bePair 93 = .ok (.iload 4, 2) := by decide +kernel
theorem dX1_bePair_95 : decode cX1_bePair 95 = .ok (.iload_n 3, 1) := by decide +kernel
theorem dX1_bePair_96 : decode cX1_bePair 96 = .ok (.iastore, 1) := by decide +kernel
theorem dX1_bePair_97 : decode cX1_bePair 97 = .ok (.return_, 1) := by decide +kernel
abbrev cX1_tell : ByteArray := prog_3_method_4_code
def yX1_tell : MethodName := ⟨RX1, "tell", "(IIII)I"⟩
theorem dX1_tell_0 : decode cX1_tell 0 = .ok (.aload_n 0, 1) := by decide +kernel
theorem dX1_tell_1 : decode cX1_tell 1 = .ok (.getfield 45, 3) := by decide +kernel
theorem dX1_tell_4 : decode cX1_tell 4 = .ok (.ifCond .eq 6, 3) := by decide +kernel
theorem dX1_tell_7 : decode cX1_tell 7 = .ok (.bipush (-3), 2) := by decide +kernel
theorem dX1_tell_9 : decode cX1_tell 9 = .ok (.ireturn, 1) := by decide +kernel
theorem dX1_tell_10 : decode cX1_tell 10 = .ok (.aload_n 0, 1) := by decide +kernel
theorem dX1_tell_11 : decode cX1_tell 11 = .ok (.getfield 7, 3) := by decide +kernel
theorem dX1_tell_14 : decode cX1_tell 14 = .ok (.bipush 40, 2) := by decide +kernel
theorem dX1_tell_16 : decode cX1_tell 16 = .ok (.if_icmp .ne 6, 3) := by decide +kernel
theorem dX1_tell_19 : decode cX1_tell 19 = .ok (.bipush (-2), 2) := by decide +kernel
theorem dX1_tell_21 : decode cX1_tell 21 = .ok (.ireturn, 1) := by decide +kernel
theorem dX1_tell_22 : decode cX1_tell 22 = .ok (.aload_n 0, 1) := by decide +kernel
theorem dX1_tell_23 : decode cX1_tell 23 = .ok (.iload_n 1, 1) := by decide +kernel
theorem dX1_tell_24 : decode cX1_tell 24 = .ok (.iload_n 2, 1) := by decide +kernel
theorem dX1_tell_25 : decode cX1_tell 25 = .ok (.iload_n 3, 1) := by decide +kernel
theorem dX1_tell_26 : decode cX1_tell 26 = .ok (.iload 4, 2) := by decide +kernel
theorem dX1_tell_28 : decode cX1_tell 28 = .ok (.invokevirtual 56, 3) := by decide +kernel
theorem dX1_tell_31 : decode cX1_tell 31 = .ok (.ifCond .ne 5, 3) := by decide +kernel
theorem dX1_tell_34 : decode cX1_tell 34 = .ok (.iconst (-1), 1) := by decide +kernel
theorem dX1_tell_35 : decode cX1_tell 35 = .ok (.ireturn, 1) := by decide +kernel
theorem dX1_tell_36 : decode cX1_tell 36 = .ok (.aload_n 0, 1) := by decide +kernel
theorem dX1_tell_37 : decode cX1_tell 37 = .ok (.getfield 13, 3) := by decide +kernel
theorem dX1_tell_40 : decode cX1_tell 40 = .ok (.aload_n 0, 1) := by decide +kernel
theorem dX1_tell_41 : decode cX1_tell 41 = .ok (.getfield 7, 3) := by decide +kernel
theorem dX1_tell_44 : decode cX1_tell 44 = .ok (.iload_n 1, 1) := by decide +kernel
theorem dX1_tell_45 : decode cX1_tell 45 = .ok (.iastore, 1) := by decide +kernel
theorem dX1_tell_46 : decode cX1_tell 46 = .ok (.aload_n 0, 1) := by decide +kernel
theorem dX1_tell_47 : decode cX1_tell 47 = .ok (.getfield 17, 3) := by decide +kernel
theorem dX1_tell_50 : decode cX1_tell 50 = .ok (.aload_n 0, 1) := by decide +kernel
theorem dX1_tell_51 : decode cX1_tell 51 = .ok (.getfield 7, 3) := by decide +kernel
theorem dX1_tell_54 : decode cX1_tell 54 = .ok (.iload_n 2, 1) := by decide +kernel
theorem dX1_tell_55 : decode cX1_tell 55 = .ok (.iastore, 1) := by decide +kernel
theorem dX1_tell_56 : decode cX1_tell 56 = .ok (.aload_n 0, 1) := by decide +kernel
theorem dX1_tell_57 : decode cX1_tell 57 = .ok (.getfield 20, 3) := by decide +kernel
theorem dX1_tell_60 : decode cX1_tell 60 = .ok (.aload_n 0, 1) := by decide +kernel
theorem dX1_tell_61 : decode cX1_tell 61 = .ok (.getfield 7, 3) := by decide +kernel
theorem dX1_tell_64 : decode cX1_tell 64 = .ok (.iload_n 3, 1) := by decide +kernel
theorem dX1_tell_65 : decode cX1_tell 65 = .ok (.iastore, 1) := by decide +kernel
theorem dX1_tell_66 : decode cX1_tell 66 = .ok (.aload_n 0, 1) := by decide +kernel
theorem dX1_tell_67 : decode cX1_tell 67 = .ok (.getfield 23, 3) := by decide +kernel
theorem dX1_tell_70 : decode cX1_tell 70 = .ok (.aload_n 0, 1) := by decide +kernel
theorem dX1_tell_71 : decode cX1_tell 71 = .ok (.getfield 7, 3) := by decide +kernel
theorem dX1_tell_74 : decode cX1_tell 74 = .ok (.iload 4, 2) := by decide +kernel
theorem dX1_tell_76 : decode cX1_tell 76 = .ok (.iastore, 1) := by decide +kernel
theorem dX1_tell_77 : decode cX1_tell 77 = .ok (.aload_n 0, 1) := by decide +kernel
theorem dX1_tell_78 : decode cX1_tell 78 = .ok (.dup, 1) := by decide +kernel
theorem dX1_tell_79 : decode cX1_tell 79 = .ok (.getfield 7, 3) := by decide +kernel
theorem dX1_tell_82 : decode cX1_tell 82 = .ok (.iconst 1, 1) := by decide +kernel
theorem dX1_tell_83 : decode cX1_tell 83 = .ok (.iadd, 1) := by decide +kernel
theorem dX1_tell_84 : decode cX1_tell 84 = .ok (.putfield 7, 3) := by decide +kernel
theorem dX1_tell_87 : decode cX1_tell 87 = .ok (.aload_n 0, 1) := by decide +kernel
theorem dX1_tell_88 : decode cX1_tell 88 = .ok (.invokevirtual 49, 3) := by decide +kernel
theorem dX1_tell_91 : decode cX1_tell 91 = .ok (.aload_n 0, 1) := by decide +kernel
theorem dX1_tell_92 : decode cX1_tell 92 = .ok (.getfield 45, 3) := by decide +kernel
theorem dX1_tell_95 : decode cX1_tell 95 = .ok (.ifCond .eq 8, 3) := by decide +kernel
theorem dX1_tell_98 : decode cX1_tell 98 = .ok (.bipush (-3), 2) := by decide +kernel
theorem dX1_tell_100 : decode cX1_tell 100 = .ok (.goto 7, 3) := by decide +kernel
theorem dX1_tell_103 : decode cX1_tell 103 = .ok (.aload_n 0, 1) := by decide +kernel
theorem dX1_tell_104 : decode cX1_tell 104 = .ok (.getfield 7, 3) := by decide +kernel
theorem dX1_tell_107 : decode cX1_tell 107 = .ok (.ireturn, 1) := by decide +kernel
abbrev cX1_fits : ByteArray := prog_3_method_3_code
def yX1_fits : MethodName := ⟨RX1, "fits", "(IIII)Z"⟩
theorem dX1_fits_0 : decode cX1_fits 0 = .ok (.iload_n 1, 1) := by decide +kernel
theorem dX1_fits_1 : decode cX1_fits 1 = .ok (.ifCond .lt 17, 3) := by decide +kernel
theorem dX1_fits_4 : decode cX1_fits 4 = .ok (.iload_n 1, 1) := by decide +kernel
theorem dX1_fits_5 : decode cX1_fits 5 = .ok (.bipush 7, 2) := by decide +kernel
theorem dX1_fits_7 : decode cX1_fits 7 = .ok (.if_icmp .gt 11, 3) := by decide +kernel
theorem dX1_fits_10 : decode cX1_fits 10 = .ok (.aload_n 0, 1) := by decide +kernel
theorem dX1_fits_11 : decode cX1_fits 11 = .ok (.iload_n 2, 1) := by decide +kernel
theorem dX1_fits_12 : decode cX1_fits 12 = .ok (.invokevirtual 52, 3) := by decide +kernel
theorem dX1_fits_15 : decode cX1_fits 15 = .ok (.ifCond .ne 5, 3) := by decide +kernel
theorem dX1_fits_18 : decode cX1_fits 18 = .ok (.iconst 0, 1) := by decide +kernel
theorem dX1_fits_19 : decode cX1_fits 19 = .ok (.ireturn, 1) := by decide +kernel
theorem dX1_fits_20 : decode cX1_fits 20 = .ok (.iload_n 1, 1) := by decide +kernel
theorem dX1_fits_21 : decode cX1_fits 21 = .ok (.iconst 1, 1) := by decide +kernel
theorem dX1_fits_22 : decode cX1_fits 22 = .ok (.if_icmp .eq 13, 3) := by decide +kernel
theorem dX1_fits_25 : decode cX1_fits 25 = .ok (.aload_n 0, 1) := by decide +kernel
theorem dX1_fits_26 : decode cX1_fits 26 = .ok (.iload_n 3, 1) := by decide +kernel
theorem dX1_fits_27 : decode cX1_fits 27 = .ok (.invokevirtual 52, 3) := by decide +kernel
theorem dX1_fits_30 : decode cX1_fits 30 = .ok (.ifCond .ne 5, 3) := by decide +kernel
theorem dX1_fits_33 : decode cX1_fits 33 = .ok (.iconst 0, 1) := by decide +kernel
theorem dX1_fits_34 : decode cX1_fits 34 = .ok (.ireturn, 1) := by decide +kernel
theorem dX1_fits_35 : decode cX1_fits 35 = .ok (.iload_n 1, 1) := by decide +kernel
theorem dX1_fits_36 : decode cX1_fits 36 = .ok (.ifCond .eq 28, 3) := by decide +kernel
theorem dX1_fits_39 : decode cX1_fits 39 = .ok (.iload_n 1, 1) := by decide +kernel
theorem dX1_fits_40 : decode cX1_fits 40 = .ok (.iconst 1, 1) := by decide +kernel
theorem dX1_fits_41 : decode cX1_fits 41 = .ok (.if_icmp .eq 23, 3) := by decide +kernel
theorem dX1_fits_44 : decode cX1_fits 44 = .ok (.iload_n 1, 1) := by decide +kernel
theorem dX1_fits_45 : decode cX1_fits 45 = .ok (.iconst 5, 1) := by decide +kernel
theorem dX1_fits_46 : decode cX1_fits 46 = .ok (.if_icmp .eq 18, 3) := by decide +kernel
theorem dX1_fits_49 : decode cX1_fits 49 = .ok (.iload_n 1, 1) := by decide +kernel
theorem dX1_fits_50 : decode cX1_fits 50 = .ok (.bipush 6, 2) := by decide +kernel
theorem dX1_fits_52 : decode cX1_fits 52 = .ok (.if_icmp .eq 12, 3) := by decide +kernel
theorem dX1_fits_55 : decode cX1_fits 55 = .ok (.aload_n 0, 1) := by decide +kernel
theorem dX1_fits_56 : decode cX1_fits 56 = .ok (.iload 4, 2) := by decide +kernel
theorem dX1_fits_58 : decode cX1_fits 58 = .ok (.invokevirtual 52, 3) := by decide +kernel
theorem dX1_fits_61 : decode cX1_fits 61 = .ok (.ifCond .eq 7, 3) := by decide +kernel
theorem dX1_fits_64 : decode cX1_fits 64 = .ok (.iconst 1, 1) := by decide +kernel
theorem dX1_fits_65 : decode cX1_fits 65 = .ok (.goto 4, 3) := by decide +kernel
theorem dX1_fits_68 : decode cX1_fits 68 = .ok (.iconst 0, 1) := by decide +kernel
theorem dX1_fits_69 : decode cX1_fits 69 = .ok (.ireturn, 1) := by decide +kernel
end
section
set_option maxRecDepth 100000
abbrev cX1_isVariable : ByteArray := prog_3_method_2_code
def yX1_isVariable : MethodName := ⟨RX1, "isVariable", "(I)Z"⟩
theorem dX1_isVariable_0 : decode cX1_isVariable 0 = .ok (.iload_n 1, 1) := by decide +kernel
theorem dX1_isVariable_1 : decode cX1_isVariable 1 = .ok (.ifCond .lt 13, 3) := by decide +kernel
theorem dX1_isVariable_4 : decode cX1_isVariable 4 = .ok (.iload_n 1, 1) := by decide +kernel
theorem dX1_isVariable_5 : decode cX1_isVariable 5 = .ok (.bipush 11, 2) := by decide +kernel
theorem dX1_isVariable_7 : decode cX1_isVariable 7 = .ok (.if_icmp .gt 7, 3) := by decide +kernel
theorem dX1_isVariable_10 : decode cX1_isVariable 10 = .ok (.iconst 1, 1) := by decide +kernel
theorem dX1_isVariable_11 : decode cX1_isVariable 11 = .ok (.goto 4, 3) := by decide +kernel
theorem dX1_isVariable_14 : decode cX1_isVariable 14 = .ok (.iconst 0, 1) := by decide +kernel
theorem dX1_isVariable_15 : decode cX1_isVariable 15 = .ok (.ireturn, 1) := by decide +kernel
abbrev cX1_failed : ByteArray := prog_3_method_11_code
def yX1_failed : MethodName := ⟨RX1, "failed", "()Z"⟩
theorem dX1_failed_0 : decode cX1_failed 0 = .ok (.aload_n 0, 1) := by decide +kernel
theorem dX1_failed_1 : decode cX1_failed 1 = .ok (.getfield 45, 3) := by decide +kernel
theorem dX1_failed_4 : decode cX1_failed 4 = .ok (.ireturn, 1) := by decide +kernel
abbrev cX1_state : ByteArray := prog_3_method_12_code
def yX1_state : MethodName := ⟨RX1, "state", "(I)I"⟩
theorem dX1_state_0 : decode cX1_state 0 = .ok (.aload_n 0, 1) := by decide +kernel
theorem dX1_state_1 : decode cX1_state 1 = .ok (.getfield 45, 3) := by decide +kernel
theorem dX1_state_4 : decode cX1_state 4 = .ok (.ifCond .eq 6, 3) := by decide +kernel
theorem dX1_state_7 : decode cX1_state 7 = .ok (.bipush (-3), 2) := by decide +kernel
theorem dX1_state_9 : decode cX1_state 9 = .ok (.ireturn, 1) := by decide +kernel
theorem dX1_state_10 : decode cX1_state 10 = .ok (.aload_n 0, 1) := by decide +kernel
theorem dX1_state_11 : decode cX1_state 11 = .ok (.iload_n 1, 1) := by decide +kernel
theorem dX1_state_12 : decode cX1_state 12 = .ok (.invokevirtual 52, 3) := by decide +kernel
theorem dX1_state_15 : decode cX1_state 15 = .ok (.ifCond .ne 5, 3) := by decide +kernel
theorem dX1_state_18 : decode cX1_state 18 = .ok (.iconst (-1), 1) := by decide +kernel
theorem dX1_state_19 : decode cX1_state 19 = .ok (.ireturn, 1) := by decide +kernel
theorem dX1_state_20 : decode cX1_state 20 = .ok (.aload_n 0, 1) := by decide +kernel
theorem dX1_state_21 : decode cX1_state 21 = .ok (.getfield 29, 3) := by decide +kernel
theorem dX1_state_24 : decode cX1_state 24 = .ok (.aload_n 0, 1) := by decide +kernel
theorem dX1_state_25 : decode cX1_state 25 = .ok (.getfield 26, 3) := by decide +kernel
theorem dX1_state_28 : decode cX1_state 28 = .ok (.iload_n 1, 1) := by decide +kernel
theorem dX1_state_29 : decode cX1_state 29 = .ok (.iaload, 1) := by decide +kernel
theorem dX1_state_30 : decode cX1_state 30 = .ok (.baload, 1) := by decide +kernel
theorem dX1_state_31 : decode cX1_state 31 = .ok (.ifCond .eq 7, 3) := by decide +kernel
theorem dX1_state_34 : decode cX1_state 34 = .ok (.iconst 1, 1) := by decide +kernel
theorem dX1_state_35 : decode cX1_state 35 = .ok (.goto 22, 3) := by decide +kernel
theorem dX1_state_38 : decode cX1_state 38 = .ok (.aload_n 0, 1) := by decide +kernel
theorem dX1_state_39 : decode cX1_state 39 = .ok (.getfield 36, 3) := by decide +kernel
theorem dX1_state_42 : decode cX1_state 42 = .ok (.aload_n 0, 1) := by decide +kernel
theorem dX1_state_43 : decode cX1_state 43 = .ok (.getfield 26, 3) := by decide +kernel
theorem dX1_state_46 : decode cX1_state 46 = .ok (.iload_n 1, 1) := by decide +kernel
theorem dX1_state_47 : decode cX1_state 47 = .ok (.iaload, 1) := by decide +kernel
theorem dX1_state_48 : decode cX1_state 48 = .ok (.baload, 1) := by decide +kernel
theorem dX1_state_49 : decode cX1_state 49 = .ok (.ifCond .eq 7, 3) := by decide +kernel
theorem dX1_state_52 : decode cX1_state 52 = .ok (.iconst 2, 1) := by decide +kernel
theorem dX1_state_53 : decode cX1_state 53 = .ok (.goto 4, 3) := by decide +kernel
theorem dX1_state_56 : decode cX1_state 56 = .ok (.iconst 0, 1) := by decide +kernel
theorem dX1_state_57 : decode cX1_state 57 = .ok (.ireturn, 1) := by decide +kernel
abbrev cX1_value : ByteArray := prog_3_method_13_code
def yX1_value : MethodName := ⟨RX1, "value", "(I)I"⟩
theorem dX1_value_0 : decode cX1_value 0 = .ok (.aload_n 0, 1) := by decide +kernel
theorem dX1_value_1 : decode cX1_value 1 = .ok (.getfield 45, 3) := by decide +kernel
theorem dX1_value_4 : decode cX1_value 4 = .ok (.ifCond .ne 39, 3) := by decide +kernel
theorem dX1_value_7 : decode cX1_value 7 = .ok (.aload_n 0, 1) := by decide +kernel
theorem dX1_value_8 : decode cX1_value 8 = .ok (.iload_n 1, 1) := by decide +kernel
theorem dX1_value_9 : decode cX1_value 9 = .ok (.invokevirtual 52, 3) := by decide +kernel
theorem dX1_value_12 : decode cX1_value 12 = .ok (.ifCond .eq 31, 3) := by decide +kernel
theorem dX1_value_15 : decode cX1_value 15 = .ok (.aload_n 0, 1) := by decide +kernel
theorem dX1_value_16 : decode cX1_value 16 = .ok (.getfield 29, 3) := by decide +kernel
theorem dX1_value_19 : decode cX1_value 19 = .ok (.aload_n 0, 1) := by decide +kernel
theorem dX1_value_20 : decode cX1_value 20 = .ok (.getfield 26, 3) := by decide +kernel
theorem dX1_value_23 : decode cX1_value 23 = .ok (.iload_n 1, 1) := by decide +kernel
theorem dX1_value_24 : decode cX1_value 24 = .ok (.iaload, 1) := by decide +kernel
theorem dX1_value_25 : decode cX1_value 25 = .ok (.baload, 1) := by decide +kernel
theorem dX1_value_26 : decode cX1_value 26 = .ok (.ifCond .eq 17, 3) := by decide +kernel
theorem dX1_value_29 : decode cX1_value 29 = .ok (.aload_n 0, 1) := by decide +kernel
theorem dX1_value_30 : decode cX1_value 30 = .ok (.getfield 33, 3) := by decide +kernel
theorem dX1_value_33 : decode cX1_value 33 = .ok (.aload_n 0, 1) := by decide +kernel
theorem dX1_value_34 : decode cX1_value 34 = .ok (.getfield 26, 3) := by decide +kernel
theorem dX1_value_37 : decode cX1_value 37 = .ok (.iload_n 1, 1) := by decide +kernel
theorem dX1_value_38 : decode cX1_value 38 = .ok (.iaload, 1) := by decide +kernel
theorem dX1_value_39 : decode cX1_value 39 = .ok (.iaload, 1) := by decide +kernel
theorem dX1_value_40 : decode cX1_value 40 = .ok (.goto 4, 3) := by decide +kernel
theorem dX1_value_43 : decode cX1_value 43 = .ok (.iconst 0, 1) := by decide +kernel
theorem dX1_value_44 : decode cX1_value 44 = .ok (.ireturn, 1) := by decide +kernel
abbrev cX1_linked : ByteArray := prog_3_method_14_code
def yX1_linked : MethodName := ⟨RX1, "linked", "(II)Z"⟩
theorem dX1_linked_0 : decode cX1_linked 0 = .ok (.aload_n 0, 1) := by decide +kernel
theorem dX1_linked_1 : decode cX1_linked 1 = .ok (.getfield 45, 3) := by decide +kernel
theorem dX1_linked_4 : decode cX1_linked 4 = .ok (.ifCond .ne 38, 3) := by decide +kernel
theorem dX1_linked_7 : decode cX1_linked 7 = .ok (.aload_n 0, 1) := by decide +kernel
theorem dX1_linked_8 : decode cX1_linked 8 = .ok (.iload_n 1, 1) := by decide +kernel
theorem dX1_linked_9 : decode cX1_linked 9 = .ok (.invokevirtual 52, 3) := by decide +kernel
theorem dX1_linked_12 : decode cX1_linked 12 = .ok (.ifCond .eq 30, 3) := by decide +kernel
theorem dX1_linked_15 : decode cX1_linked 15 = .ok (.aload_n 0, 1) := by decide +kernel
theorem dX1_linked_16 : decode cX1_linked 16 = .ok (.iload_n 2, 1) := by decide +kernel
theorem dX1_linked_17 : decode cX1_linked 17 = .ok (.invokevirtual 52, 3) := by decide +kernel
theorem dX1_linked_20 : decode cX1_linked 20 = .ok (.ifCond .eq 22, 3) := by decide +kernel
theorem dX1_linked_23 : decode cX1_linked 23 = .ok (.aload_n 0, 1) := by decide +kernel
theorem dX1_linked_24 : decode cX1_linked 24 = .ok (.getfield 26, 3) := by decide +kernel
theorem dX1_linked_27 : decode cX1_linked 27 = .ok (.iload_n 1, 1) := by decide +kernel
theorem dX1_linked_28 : decode cX1_linked 28 = .ok (.iaload, 1) := by decide +kernel
theorem dX1_linked_29 : decode cX1_linked 29 = .ok (.aload_n 0, 1) := by decide +kernel
theorem dX1_linked_30 : decode cX1_linked 30 = .ok (.getfield 26, 3) := by decide +kernel
theorem dX1_linked_33 : decode cX1_linked 33 = .ok (.iload_n 2, 1) := by decide +kernel
theorem dX1_linked_34 : decode cX1_linked 34 = .ok (.iaload, 1) := by decide +kernel
theorem dX1_linked_35 : decode cX1_linked 35 = .ok (.if_icmp .ne 7, 3) := by decide +kernel
theorem dX1_linked_38 : decode cX1_linked 38 = .ok (.iconst 1, 1) := by decide +kernel
theorem dX1_linked_39 : decode cX1_linked 39 = .ok (.goto 4, 3) := by decide +kernel
theorem dX1_linked_42 : decode cX1_linked 42 = .ok (.iconst 0, 1) := by decide +kernel
theorem dX1_linked_43 : decode cX1_linked 43 = .ok (.ireturn, 1) := by decide +kernel
abbrev cX1_part : ByteArray := prog_3_method_15_code
def yX1_part : MethodName := ⟨RX1, "part", "(II)I"⟩
theorem dX1_part_0 : decode cX1_part 0 = .ok (.aload_n 0, 1) := by decide +kernel
theorem dX1_part_1 : decode cX1_part 1 = .ok (.getfield 45, 3) := by decide +kernel
theorem dX1_part_4 : decode cX1_part 4 = .ok (.ifCond .ne 34, 3) := by decide +kernel
theorem dX1_part_7 : decode cX1_part 7 = .ok (.aload_n 0, 1) := by decide +kernel
theorem dX1_part_8 : decode cX1_part 8 = .ok (.iload_n 1, 1) := by decide +kernel
theorem dX1_part_9 : decode cX1_part 9 = .ok (.invokevirtual 52, 3) := by decide +kernel
theorem dX1_part_12 : decode cX1_part 12 = .ok (.ifCond .eq 26, 3) := by decide +kernel
theorem dX1_part_15 : decode cX1_part 15 = .ok (.aload_n 0, 1) := by decide +kernel
theorem dX1_part_16 : decode cX1_part 16 = .ok (.getfield 36, 3) := by decide +kernel
theorem dX1_part_19 : decode cX1_part 19 = .ok (.aload_n 0, 1) := by decide +kernel
theorem dX1_part_20 : decode cX1_part 20 = .ok (.getfield 26, 3) := by decide +kernel
theorem dX1_part_23 : decode cX1_part 23 = .ok (.iload_n 1, 1) := by decide +kernel
theorem dX1_part_24 : decode cX1_part 24 = .ok (.iaload, 1) := by decide +kernel
theorem dX1_part_25 : decode cX1_part 25 = .ok (.baload, 1) := by decide +kernel
theorem dX1_part_26 : decode cX1_part 26 = .ok (.ifCond .eq 12, 3) := by decide +kernel
theorem dX1_part_29 : decode cX1_part 29 = .ok (.iload_n 2, 1) := by decide +kernel
theorem dX1_part_30 : decode cX1_part 30 = .ok (.ifCond .lt 8, 3) := by decide +kernel
theorem dX1_part_33 : decode cX1_part 33 = .ok (.iload_n 2, 1) := by decide +kernel
theorem dX1_part_34 : decode cX1_part 34 = .ok (.iconst 1, 1) := by decide +kernel
theorem dX1_part_35 : decode cX1_part 35 = .ok (.if_icmp .le 5, 3) := by decide +kernel
theorem dX1_part_38 : decode cX1_part 38 = .ok (.iconst (-1), 1) := by decide +kernel
theorem dX1_part_39 : decode cX1_part 39 = .ok (.ireturn, 1) := by decide +kernel
theorem dX1_part_40 : decode cX1_part 40 = .ok (.iload_n 2, 1) := by decide +kernel
theorem dX1_part_41 : decode cX1_part 41 = .ok (.ifCond .ne 22, 3) := by decide +kernel
theorem dX1_part_44 : decode cX1_part 44 = .ok (.aload_n 0, 1) := by decide +kernel
theorem dX1_part_45 : decode cX1_part 45 = .ok (.getfield 26, 3) := by decide +kernel
theorem dX1_part_48 : decode cX1_part 48 = .ok (.aload_n 0, 1) := by decide +kernel
theorem dX1_part_49 : decode cX1_part 49 = .ok (.getfield 39, 3) := by decide +kernel
theorem dX1_part_52 : decode cX1_part 52 = .ok (.aload_n 0, 1) := by decide +kernel
theorem dX1_part_53 : decode cX1_part 53 = .ok (.getfield 26, 3) := by decide +kernel
theorem dX1_part_56 : decode cX1_part 56 = .ok (.iload_n 1, 1) := by decide +kernel
theorem dX1_part_57 : decode cX1_part 57 = .ok (.iaload, 1) := by decide +kernel
theorem dX1_part_58 : decode cX1_part 58 = .ok (.iaload, 1) := by decide +kernel
theorem dX1_part_59 : decode cX1_part 59 = .ok (.iaload, 1) := by decide +kernel
theorem dX1_part_60 : decode cX1_part 60 = .ok (.goto 19, 3) := by decide +kernel
theorem dX1_part_63 : decode cX1_part 63 = .ok (.aload_n 0, 1) := by decide +kernel
theorem dX1_part_64 : decode cX1_part 64 = .ok (.getfield 26, 3) := by decide +kernel
theorem dX1_part_67 : decode cX1_part 67 = .ok (.aload_n 0, 1) := by decide +kernel
theorem dX1_part_68 : decode cX1_part 68 = .ok (.getfield 42, 3) := by decide +kernel
theorem dX1_part_71 : decode cX1_part 71 = .ok (.aload_n 0, 1) := by decide +kernel
theorem dX1_part_72 : decode cX1_part 72 = .ok (.getfield 26, 3) := by decide +kernel
theorem dX1_part_75 : decode cX1_part 75 = .ok (.iload_n 1, 1) := by decide +kernel
theorem dX1_part_76 : decode cX1_part 76 = .ok (.iaload, 1) := by decide +kernel
theorem dX1_part_77 : decode cX1_part 77 = .ok (.iaload, 1) := by decide +kernel
theorem dX1_part_78 : decode cX1_part 78 = .ok (.iaload, 1) := by decide +kernel
theorem dX1_part_79 : decode cX1_part 79 = .ok (.ireturn, 1) := by decide +kernel
abbrev cX1_waiting : ByteArray := prog_3_method_16_code
def yX1_waiting : MethodName := ⟨RX1, "waiting", "()I"⟩
theorem dX1_waiting_0 : decode cX1_waiting 0 = .ok (.aload_n 0, 1) := by decide +kernel
theorem dX1_waiting_1 : decode cX1_waiting 1 = .ok (.getfield 45, 3) := by decide +kernel
theorem dX1_waiting_4 : decode cX1_waiting 4 = .ok (.ifCond .eq 6, 3) := by decide +kernel
theorem dX1_waiting_7 : decode cX1_waiting 7 = .ok (.bipush (-3), 2) := by decide +kernel
theorem dX1_waiting_9 : decode cX1_waiting 9 = .ok (.ireturn, 1) := by decide +kernel
theorem dX1_waiting_10 : decode cX1_waiting 10 = .ok (.iconst 0, 1) := by decide +kernel
theorem dX1_waiting_11 : decode cX1_waiting 11 = .ok (.istore_n 1, 1) := by decide +kernel
theorem dX1_waiting_12 : decode cX1_waiting 12 = .ok (.iconst 0, 1) := by decide +kernel
theorem dX1_waiting_13 : decode cX1_waiting 13 = .ok (.istore_n 2, 1) := by decide +kernel
theorem dX1_waiting_14 : decode cX1_waiting 14 = .ok (.iload_n 2, 1) := by decide +kernel
theorem dX1_waiting_15 : decode cX1_waiting 15 = .ok (.aload_n 0, 1) := by decide +kernel
theorem dX1_waiting_16 : decode cX1_waiting 16 = .ok (.getfield 7, 3) := by decide +kernel
theorem dX1_waiting_19 : decode cX1_waiting 19 = .ok (.if_icmp .ge 20, 3) := by decide +kernel
theorem dX1_waiting_22 : decode cX1_waiting 22 = .ok (.aload_n 0, 1) := by decide +kernel
theorem dX1_waiting_23 : decode cX1_waiting 23 = .ok (.iload_n 2, 1) := by decide +kernel
theorem dX1_waiting_24 : decode cX1_waiting 24 = .ok (.invokevirtual 74, 3) := by decide +kernel
theorem dX1_waiting_27 : decode cX1_waiting 27 = .ok (.ifCond .ne 6, 3) := by decide +kernel
theorem dX1_waiting_30 : decode cX1_waiting 30 = .ok (.iinc 1 1, 3) := by decide +kernel
theorem dX1_waiting_33 : decode cX1_waiting 33 = .ok (.iinc 2 1, 3) := by decide +kernel
theorem dX1_waiting_36 : decode cX1_waiting 36 = .ok (.goto (-22), 3) := by decide +kernel
theorem dX1_waiting_39 : decode cX1_waiting 39 = .ok (.iload_n 1, 1) := by decide +kernel
theorem dX1_waiting_40 : decode cX1_waiting 40 = .ok (.ireturn, 1) := by decide +kernel
abbrev cX1_classes : ByteArray := prog_3_method_17_code
def yX1_classes : MethodName := ⟨RX1, "classes", "()I"⟩
theorem dX1_classes_0 : decode cX1_classes 0 = .ok (.aload_n 0, 1) := by decide +kernel
theorem dX1_classes_1 : decode cX1_classes 1 = .ok (.getfield 45, 3) := by decide +kernel
theorem dX1_classes_4 : decode cX1_classes 4 = .ok (.ifCond .eq 6, 3) := by decide +kernel
theorem dX1_classes_7 : decode cX1_classes 7 = .ok (.bipush (-3), 2) := by decide +kernel
theorem dX1_classes_9 : decode cX1_classes 9 = .ok (.ireturn, 1) := by decide +kernel
theorem dX1_classes_10 : decode cX1_classes 10 = .ok (.iconst 0, 1) := by decide +kernel
theorem dX1_classes_11 : decode cX1_classes 11 = .ok (.istore_n 1, 1) := by decide +kernel
theorem dX1_classes_12 : decode cX1_classes 12 = .ok (.iconst 0, 1) := by decide +kernel
theorem dX1_classes_13 : decode cX1_classes 13 = .ok (.istore_n 2, 1) := by decide +kernel
theorem dX1_classes_14 : decode cX1_classes 14 = .ok (.iload_n 2, 1) := by decide +kernel
theorem dX1_classes_15 : decode cX1_classes 15 = .ok (.bipush 12, 2) := by decide +kernel
theorem dX1_classes_17 : decode cX1_classes 17 = .ok (.if_icmp .ge 22, 3) := by decide +kernel
theorem dX1_classes_20 : decode cX1_classes 20 = .ok (.aload_n 0, 1) := by decide +kernel
theorem dX1_classes_21 : decode cX1_classes 21 = .ok (.getfield 26, 3) := by decide +kernel
theorem dX1_classes_24 : decode cX1_classes 24 = .ok (.iload_n 2, 1) := by decide +kernel
theorem dX1_classes_25 : decode cX1_classes 25 = .ok (.iaload, 1) := by decide +kernel
theorem dX1_classes_26 : decode cX1_classes 26 = .ok (.iload_n 2, 1) := by decide +kernel
theorem dX1_classes_27 : decode cX1_classes 27 = .ok (.if_icmp .ne 6, 3) := by decide +kernel
theorem dX1_classes_30 : decode cX1_classes 30 = .ok (.iinc 1 1, 3) := by decide +kernel
theorem dX1_classes_33 : decode cX1_classes 33 = .ok (.iinc 2 1, 3) := by decide +kernel
theorem dX1_classes_36 : decode cX1_classes 36 = .ok (.goto (-22), 3) := by decide +kernel
theorem dX1_classes_39 : decode cX1_classes 39 = .ok (.iload_n 1, 1) := by decide +kernel
theorem dX1_classes_40 : decode cX1_classes 40 = .ok (.ireturn, 1) := by decide +kernel
abbrev cX1_clear : ByteArray := prog_3_method_18_code
def yX1_clear : MethodName := ⟨RX1, "clear", "()I"⟩
theorem dX1_clear_0 : decode cX1_clear 0 = .ok (.aload_n 0, 1) := by decide +kernel
theorem dX1_clear_1 : decode cX1_clear 1 = .ok (.getfield 7, 3) := by decide +kernel
theorem dX1_clear_4 : decode cX1_clear 4 = .ok (.istore_n 1, 1) := by decide +kernel
theorem dX1_clear_5 : decode cX1_clear 5 = .ok (.aload_n 0, 1) := by decide +kernel
theorem dX1_clear_6 : decode cX1_clear 6 = .ok (.iconst 0, 1) := by decide +kernel
theorem dX1_clear_7 : decode cX1_clear 7 = .ok (.putfield 7, 3) := by decide +kernel
theorem dX1_clear_10 : decode cX1_clear 10 = .ok (.aload_n 0, 1) := by decide +kernel
theorem dX1_clear_11 : decode cX1_clear 11 = .ok (.iconst 0, 1) := by decide +kernel
theorem dX1_clear_12 : decode cX1_clear 12 = .ok (.putfield 45, 3) := by decide +kernel
theorem dX1_clear_15 : decode cX1_clear 15 = .ok (.aload_n 0, 1) := by decide +kernel
theorem dX1_clear_16 : decode cX1_clear 16 = .ok (.invokevirtual 49, 3) := by decide +kernel
theorem dX1_clear_19 : decode cX1_clear 19 = .ok (.iload_n 1, 1) := by decide +kernel
theorem dX1_clear_20 : decode cX1_clear 20 = .ok (.ireturn, 1) := by decide +kernel
end
section
/-! the law's own entry -/
set_option maxRecDepth 100000
abbrev cL_law : ByteArray := code
theorem dL_law_0 : decode cL_law 0 = .ok (.new 7, 3) := by decide +kernel
theorem dL_law_3 : decode cL_law 3 = .ok (.dup, 1) := by decide +kernel
theorem dL_law_4 : decode cL_law 4 = .ok (.invokespecial 9, 3) := by decide +kernel
theorem dL_law_7 : decode cL_law 7 = .ok (.astore_n 1, 1) := by decide +kernel
theorem dL_law_8 : decode cL_law 8 = .ok (.new 10, 3) := by decide +kernel
theorem dL_law_11 : decode cL_law 11 = .ok (.dup, 1) := by decide +kernel
theorem dL_law_12 : decode cL_law 12 = .ok (.invokespecial 12, 3) := by decide +kernel
theorem dL_law_15 : decode cL_law 15 = .ok (.astore_n 2, 1) := by decide +kernel
theorem dL_law_16 : decode cL_law 16 = .ok (.iconst 0, 1) := by decide +kernel
theorem dL_law_17 : decode cL_law 17 = .ok (.istore_n 3, 1) := by decide +kernel
theorem dL_law_18 : decode cL_law 18 = .ok (.iload_n 3, 1) := by decide +kernel
theorem dL_law_19 : decode cL_law 19 = .ok (.aload_n 0, 1) := by decide +kernel
theorem dL_law_20 : decode cL_law 20 = .ok (.arraylength, 1) := by decide +kernel
theorem dL_law_21 : decode cL_law 21 = .ok (.iconst 5, 1) := by decide +kernel
theorem dL_law_22 : decode cL_law 22 = .ok (.isub, 1) := by decide +kernel
theorem dL_law_23 : decode cL_law 23 = .ok (.if_icmp .gt 284, 3) := by decide +kernel
theorem dL_law_26 : decode cL_law 26 = .ok (.aload_n 0, 1) := by decide +kernel
theorem dL_law_27 : decode cL_law 27 = .ok (.iload_n 3, 1) := by decide +kernel
theorem dL_law_28 : decode cL_law 28 = .ok (.iaload, 1) := by decide +kernel
theorem dL_law_29 : decode cL_law 29 = .ok (.bipush 15, 2) := by decide +kernel
theorem dL_law_31 : decode cL_law 31 = .ok (.iand, 1) := by decide +kernel
theorem dL_law_32 : decode cL_law 32 = .ok (.tableswitch 269 0 8 #[52, 105, 118, 141, 164, 197, 230, 243, 256], 52) := by decide +kernel
theorem dL_law_84 : decode cL_law 84 = .ok (.aload_n 1, 1) := by decide +kernel
theorem dL_law_85 : decode cL_law 85 = .ok (.aload_n 0, 1) := by decide +kernel
theorem dL_law_86 : decode cL_law 86 = .ok (.iload_n 3, 1) := by decide +kernel
theorem dL_law_87 : decode cL_law 87 = .ok (.iconst 1, 1) := by decide +kernel
theorem dL_law_88 : decode cL_law 88 = .ok (.iadd, 1) := by decide +kernel
theorem dL_law_89 : decode cL_law 89 = .ok (.iaload, 1) := by decide +kernel
theorem dL_law_90 : decode cL_law 90 = .ok (.aload_n 0, 1) := by decide +kernel
theorem dL_law_91 : decode cL_law 91 = .ok (.iload_n 3, 1) := by decide +kernel
theorem dL_law_92 : decode cL_law 92 = .ok (.iconst 2, 1) := by decide +kernel
theorem dL_law_93 : decode cL_law 93 = .ok (.iadd, 1) := by decide +kernel
theorem dL_law_94 : decode cL_law 94 = .ok (.iaload, 1) := by decide +kernel
theorem dL_law_95 : decode cL_law 95 = .ok (.aload_n 0, 1) := by decide +kernel
theorem dL_law_96 : decode cL_law 96 = .ok (.iload_n 3, 1) := by decide +kernel
theorem dL_law_97 : decode cL_law 97 = .ok (.iconst 3, 1) := by decide +kernel
theorem dL_law_98 : decode cL_law 98 = .ok (.iadd, 1) := by decide +kernel
theorem dL_law_99 : decode cL_law 99 = .ok (.iaload, 1) := by decide +kernel
theorem dL_law_100 : decode cL_law 100 = .ok (.aload_n 0, 1) := by decide +kernel
theorem dL_law_101 : decode cL_law 101 = .ok (.iload_n 3, 1) := by decide +kernel
theorem dL_law_102 : decode cL_law 102 = .ok (.iconst 4, 1) := by decide +kernel
theorem dL_law_103 : decode cL_law 103 = .ok (.iadd, 1) := by decide +kernel
theorem dL_law_104 : decode cL_law 104 = .ok (.iaload, 1) := by decide +kernel
theorem dL_law_105 : decode cL_law 105 = .ok (.invokevirtual 13, 3) := by decide +kernel
theorem dL_law_108 : decode cL_law 108 = .ok (.aload_n 2, 1) := by decide +kernel
theorem dL_law_109 : decode cL_law 109 = .ok (.aload_n 0, 1) := by decide +kernel
theorem dL_law_110 : decode cL_law 110 = .ok (.iload_n 3, 1) := by decide +kernel
theorem dL_law_111 : decode cL_law 111 = .ok (.iconst 1, 1) := by decide +kernel
theorem dL_law_112 : decode cL_law 112 = .ok (.iadd, 1) := by decide +kernel
theorem dL_law_113 : decode cL_law 113 = .ok (.iaload, 1) := by decide +kernel
theorem dL_law_114 : decode cL_law 114 = .ok (.aload_n 0, 1) := by decide +kernel
theorem dL_law_115 : decode cL_law 115 = .ok (.iload_n 3, 1) := by decide +kernel
theorem dL_law_116 : decode cL_law 116 = .ok (.iconst 2, 1) := by decide +kernel
theorem dL_law_117 : decode cL_law 117 = .ok (.iadd, 1) := by decide +kernel
theorem dL_law_118 : decode cL_law 118 = .ok (.iaload, 1) := by decide +kernel
theorem dL_law_119 : decode cL_law 119 = .ok (.aload_n 0, 1) := by decide +kernel
theorem dL_law_120 : decode cL_law 120 = .ok (.iload_n 3, 1) := by decide +kernel
theorem dL_law_121 : decode cL_law 121 = .ok (.iconst 3, 1) := by decide +kernel
theorem dL_law_122 : decode cL_law 122 = .ok (.iadd, 1) := by decide +kernel
theorem dL_law_123 : decode cL_law 123 = .ok (.iaload, 1) := by decide +kernel
theorem dL_law_124 : decode cL_law 124 = .ok (.aload_n 0, 1) := by decide +kernel
theorem dL_law_125 : decode cL_law 125 = .ok (.iload_n 3, 1) := by decide +kernel
theorem dL_law_126 : decode cL_law 126 = .ok (.iconst 4, 1) := by decide +kernel
theorem dL_law_127 : decode cL_law 127 = .ok (.iadd, 1) := by decide +kernel
theorem dL_law_128 : decode cL_law 128 = .ok (.iaload, 1) := by decide +kernel
theorem dL_law_129 : decode cL_law 129 = .ok (.invokevirtual 17, 3) := by decide +kernel
theorem dL_law_132 : decode cL_law 132 = .ok (.if_icmp .eq 169, 3) := by decide +kernel
theorem dL_law_135 : decode cL_law 135 = .ok (.iconst 0, 1) := by decide +kernel
theorem dL_law_136 : decode cL_law 136 = .ok (.ireturn, 1) := by decide +kernel
theorem dL_law_137 : decode cL_law 137 = .ok (.aload_n 1, 1) := by decide +kernel
theorem dL_law_138 : decode cL_law 138 = .ok (.invokevirtual 18, 3) := by decide +kernel
theorem dL_law_141 : decode cL_law 141 = .ok (.aload_n 2, 1) := by decide +kernel
theorem dL_law_142 : decode cL_law 142 = .ok (.invokevirtual 22, 3) := by decide +kernel
theorem dL_law_145 : decode cL_law 145 = .ok (.if_icmp .eq 156, 3) := by decide +kernel
theorem dL_law_148 : decode cL_law 148 = .ok (.iconst 0, 1) := by decide +kernel
theorem dL_law_149 : decode cL_law 149 = .ok (.ireturn, 1) := by decide +kernel
theorem dL_law_150 : decode cL_law 150 = .ok (.aload_n 1, 1) := by decide +kernel
theorem dL_law_151 : decode cL_law 151 = .ok (.aload_n 0, 1) := by decide +kernel
theorem dL_law_152 : decode cL_law 152 = .ok (.iload_n 3, 1) := by decide +kernel
theorem dL_law_153 : decode cL_law 153 = .ok (.iconst 1, 1) := by decide +kernel
theorem dL_law_154 : decode cL_law 154 = .ok (.iadd, 1) := by decide +kernel
theorem dL_law_155 : decode cL_law 155 = .ok (.iaload, 1) := by decide +kernel
theorem dL_law_156 : decode cL_law 156 = .ok (.invokevirtual 23, 3) := by decide +kernel
theorem dL_law_159 : decode cL_law 159 = .ok (.aload_n 2, 1) := by decide +kernel
theorem dL_law_160 : decode cL_law 160 = .ok (.aload_n 0, 1) := by decide +kernel
theorem dL_law_161 : decode cL_law 161 = .ok (.iload_n 3, 1) := by decide +kernel
theorem dL_law_162 : decode cL_law 162 = .ok (.iconst 1, 1) := by decide +kernel
theorem dL_law_163 : decode cL_law 163 = .ok (.iadd, 1) := by decide +kernel
theorem dL_law_164 : decode cL_law 164 = .ok (.iaload, 1) := by decide +kernel
theorem dL_law_165 : decode cL_law 165 = .ok (.invokevirtual 27, 3) := by decide +kernel
theorem dL_law_168 : decode cL_law 168 = .ok (.if_icmp .eq 133, 3) := by decide +kernel
theorem dL_law_171 : decode cL_law 171 = .ok (.iconst 0, 1) := by decide +kernel
theorem dL_law_172 : decode cL_law 172 = .ok (.ireturn, 1) := by decide +kernel
theorem dL_law_173 : decode cL_law 173 = .ok (.aload_n 1, 1) := by decide +kernel
theorem dL_law_174 : decode cL_law 174 = .ok (.aload_n 0, 1) := by decide +kernel
theorem dL_law_175 : decode cL_law 175 = .ok (.iload_n 3, 1) := by decide +kernel
theorem dL_law_176 : decode cL_law 176 = .ok (.iconst 1, 1) := by decide +kernel
theorem dL_law_177 : decode cL_law 177 = .ok (.iadd, 1) := by decide +kernel
theorem dL_law_178 : decode cL_law 178 = .ok (.iaload, 1) := by decide +kernel
theorem dL_law_179 : decode cL_law 179 = .ok (.invokevirtual 28, 3) := by decide +kernel
theorem dL_law_182 : decode cL_law 182 = .ok (.aload_n 2, 1) := by decide +kernel
theorem dL_law_183 : decode cL_law 183 = .ok (.aload_n 0, 1) := by decide +kernel
theorem dL_law_184 : decode cL_law 184 = .ok (.iload_n 3, 1) := by decide +kernel
theorem dL_law_185 : decode cL_law 185 = .ok (.iconst 1, 1) := by decide +kernel
theorem dL_law_186 : decode cL_law 186 = .ok (.iadd, 1) := by decide +kernel
theorem dL_law_187 : decode cL_law 187 = .ok (.iaload, 1) := by decide +kernel
theorem dL_law_188 : decode cL_law 188 = .ok (.invokevirtual 31, 3) := by decide +kernel
theorem dL_law_191 : decode cL_law 191 = .ok (.if_icmp .eq 110, 3) := by decide +kernel
theorem dL_law_194 : decode cL_law 194 = .ok (.iconst 0, 1) := by decide +kernel
theorem dL_law_195 : decode cL_law 195 = .ok (.ireturn, 1) := by decide +kernel
theorem dL_law_196 : decode cL_law 196 = .ok (.aload_n 1, 1) := by decide +kernel
theorem dL_law_197 : decode cL_law 197 = .ok (.aload_n 0, 1) := by decide +kernel
theorem dL_law_198 : decode cL_law 198 = .ok (.iload_n 3, 1) := by decide +kernel
theorem dL_law_199 : decode cL_law 199 = .ok (.iconst 1, 1) := by decide +kernel
theorem dL_law_200 : decode cL_law 200 = .ok (.iadd, 1) := by decide +kernel
theorem dL_law_201 : decode cL_law 201 = .ok (.iaload, 1) := by decide +kernel
theorem dL_law_202 : decode cL_law 202 = .ok (.aload_n 0, 1) := by decide +kernel
theorem dL_law_203 : decode cL_law 203 = .ok (.iload_n 3, 1) := by decide +kernel
theorem dL_law_204 : decode cL_law 204 = .ok (.iconst 2, 1) := by decide +kernel
theorem dL_law_205 : decode cL_law 205 = .ok (.iadd, 1) := by decide +kernel
theorem dL_law_206 : decode cL_law 206 = .ok (.iaload, 1) := by decide +kernel
theorem dL_law_207 : decode cL_law 207 = .ok (.invokevirtual 32, 3) := by decide +kernel
theorem dL_law_210 : decode cL_law 210 = .ok (.aload_n 2, 1) := by decide +kernel
theorem dL_law_211 : decode cL_law 211 = .ok (.aload_n 0, 1) := by decide +kernel
theorem dL_law_212 : decode cL_law 212 = .ok (.iload_n 3, 1) := by decide +kernel
theorem dL_law_213 : decode cL_law 213 = .ok (.iconst 1, 1) := by decide +kernel
theorem dL_law_214 : decode cL_law 214 = .ok (.iadd, 1) := by decide +kernel
theorem dL_law_215 : decode cL_law 215 = .ok (.iaload, 1) := by decide +kernel
theorem dL_law_216 : decode cL_law 216 = .ok (.aload_n 0, 1) := by decide +kernel
theorem dL_law_217 : decode cL_law 217 = .ok (.iload_n 3, 1) := by decide +kernel
theorem dL_law_218 : decode cL_law 218 = .ok (.iconst 2, 1) := by decide +kernel
theorem dL_law_219 : decode cL_law 219 = .ok (.iadd, 1) := by decide +kernel
theorem dL_law_220 : decode cL_law 220 = .ok (.iaload, 1) := by decide +kernel
theorem dL_law_221 : decode cL_law 221 = .ok (.invokevirtual 36, 3) := by decide +kernel
theorem dL_law_224 : decode cL_law 224 = .ok (.if_icmp .eq 77, 3) := by decide +kernel
theorem dL_law_227 : decode cL_law 227 = .ok (.iconst 0, 1) := by decide +kernel
theorem dL_law_228 : decode cL_law 228 = .ok (.ireturn, 1) := by decide +kernel
theorem dL_law_229 : decode cL_law 229 = .ok (.aload_n 1, 1) := by decide +kernel
theorem dL_law_230 : decode cL_law 230 = .ok (.aload_n 0, 1) := by decide +kernel
theorem dL_law_231 : decode cL_law 231 = .ok (.iload_n 3, 1) := by decide +kernel
theorem dL_law_232 : decode cL_law 232 = .ok (.iconst 1, 1) := by decide +kernel
theorem dL_law_233 : decode cL_law 233 = .ok (.iadd, 1) := by decide +kernel
theorem dL_law_234 : decode cL_law 234 = .ok (.iaload, 1) := by decide +kernel
theorem dL_law_235 : decode cL_law 235 = .ok (.aload_n 0, 1) := by decide +kernel
theorem dL_law_236 : decode cL_law 236 = .ok (.iload_n 3, 1) := by decide +kernel
theorem dL_law_237 : decode cL_law 237 = .ok (.iconst 2, 1) := by decide +kernel
theorem dL_law_238 : decode cL_law 238 = .ok (.iadd, 1) := by decide +kernel
theorem dL_law_239 : decode cL_law 239 = .ok (.iaload, 1) := by decide +kernel
theorem dL_law_240 : decode cL_law 240 = .ok (.invokevirtual 37, 3) := by decide +kernel
theorem dL_law_243 : decode cL_law 243 = .ok (.aload_n 2, 1) := by decide +kernel
theorem dL_law_244 : decode cL_law 244 = .ok (.aload_n 0, 1) := by decide +kernel
theorem dL_law_245 : decode cL_law 245 = .ok (.iload_n 3, 1) := by decide +kernel
theorem dL_law_246 : decode cL_law 246 = .ok (.iconst 1, 1) := by decide +kernel
theorem dL_law_247 : decode cL_law 247 = .ok (.iadd, 1) := by decide +kernel
theorem dL_law_248 : decode cL_law 248 = .ok (.iaload, 1) := by decide +kernel
theorem dL_law_249 : decode cL_law 249 = .ok (.aload_n 0, 1) := by decide +kernel
theorem dL_law_250 : decode cL_law 250 = .ok (.iload_n 3, 1) := by decide +kernel
theorem dL_law_251 : decode cL_law 251 = .ok (.iconst 2, 1) := by decide +kernel
theorem dL_law_252 : decode cL_law 252 = .ok (.iadd, 1) := by decide +kernel
theorem dL_law_253 : decode cL_law 253 = .ok (.iaload, 1) := by decide +kernel
theorem dL_law_254 : decode cL_law 254 = .ok (.invokevirtual 41, 3) := by decide +kernel
theorem dL_law_257 : decode cL_law 257 = .ok (.if_icmp .eq 44, 3) := by decide +kernel
theorem dL_law_260 : decode cL_law 260 = .ok (.iconst 0, 1) := by decide +kernel
theorem dL_law_261 : decode cL_law 261 = .ok (.ireturn, 1) := by decide +kernel
theorem dL_law_262 : decode cL_law 262 = .ok (.aload_n 1, 1) := by decide +kernel
theorem dL_law_263 : decode cL_law 263 = .ok (.invokevirtual 42, 3) := by decide +kernel
theorem dL_law_266 : decode cL_law 266 = .ok (.aload_n 2, 1) := by decide +kernel
theorem dL_law_267 : decode cL_law 267 = .ok (.invokevirtual 46, 3) := by decide +kernel
theorem dL_law_270 : decode cL_law 270 = .ok (.if_icmp .eq 31, 3) := by decide +kernel
theorem dL_law_273 : decode cL_law 273 = .ok (.iconst 0, 1) := by decide +kernel
theorem dL_law_274 : decode cL_law 274 = .ok (.ireturn, 1) := by decide +kernel
theorem dL_law_275 : decode cL_law 275 = .ok (.aload_n 1, 1) := by decide +kernel
theorem dL_law_276 : decode cL_law 276 = .ok (.invokevirtual 47, 3) := by decide +kernel
theorem dL_law_279 : decode cL_law 279 = .ok (.aload_n 2, 1) := by decide +kernel
theorem dL_law_280 : decode cL_law 280 = .ok (.invokevirtual 50, 3) := by decide +kernel
theorem dL_law_283 : decode cL_law 283 = .ok (.if_icmp .eq 18, 3) := by decide +kernel
theorem dL_law_286 : decode cL_law 286 = .ok (.iconst 0, 1) := by decide +kernel
theorem dL_law_287 : decode cL_law 287 = .ok (.ireturn, 1) := by decide +kernel
theorem dL_law_288 : decode cL_law 288 = .ok (.aload_n 1, 1) := by decide +kernel
theorem dL_law_289 : decode cL_law 289 = .ok (.invokevirtual 51, 3) := by decide +kernel
theorem dL_law_292 : decode cL_law 292 = .ok (.aload_n 2, 1) := by decide +kernel
theorem dL_law_293 : decode cL_law 293 = .ok (.invokevirtual 54, 3) := by decide +kernel
theorem dL_law_296 : decode cL_law 296 = .ok (.if_icmp .eq 5, 3) := by decide +kernel
theorem dL_law_299 : decode cL_law 299 = .ok (.iconst 0, 1) := by decide +kernel
theorem dL_law_300 : decode cL_law 300 = .ok (.ireturn, 1) := by decide +kernel
theorem dL_law_301 : decode cL_law 301 = .ok (.iinc 3 5, 3) := by decide +kernel
theorem dL_law_304 : decode cL_law 304 = .ok (.goto (-286), 3) := by decide +kernel
theorem dL_law_307 : decode cL_law 307 = .ok (.iconst 1, 1) := by decide +kernel
theorem dL_law_308 : decode cL_law 308 = .ok (.ireturn, 1) := by decide +kernel

theorem q20 : (Jvm.Cond.initialized "DataflowStoreLaw") ∈ lw_all := lw_g (lw_at lw_m1 0 rfl) rfl
set_option maxRecDepth 100000
theorem q23 : (Jvm.Cond.classLink "DataflowStoreLaw" (7 : Nat) "DataflowStore") ∈ lw_all := lw_g (lw_at lw_m1 3 rfl) rfl
theorem q25 : (Jvm.Cond.methodLink "DataflowStoreLaw" (9 : Nat) ({ cls := "DataflowStore", name := "<init>", desc := "()V" } : Jvm.MethodName)) ∈ lw_all := lw_g (lw_at lw_m1 5 rfl) rfl
theorem q93 : (Jvm.Cond.methodLink "DataflowStoreLaw" (13 : Nat) ({ cls := "DataflowStore", name := "tell", desc := "(IIII)I" } : Jvm.MethodName)) ∈ lw_all := lw_g (lw_at lw_m1 73 rfl) rfl
theorem q142 : (Jvm.Cond.methodLink "DataflowStoreLaw" (18 : Nat) ({ cls := "DataflowStore", name := "failed", desc := "()Z" } : Jvm.MethodName)) ∈ lw_all := lw_g (lw_at lw_m1 122 rfl) rfl
theorem q146 : (Jvm.Cond.methodLink "DataflowStoreLaw" (23 : Nat) ({ cls := "DataflowStore", name := "state", desc := "(I)I" } : Jvm.MethodName)) ∈ lw_all := lw_g (lw_at lw_m1 126 rfl) rfl
theorem q150 : (Jvm.Cond.methodLink "DataflowStoreLaw" (28 : Nat) ({ cls := "DataflowStore", name := "value", desc := "(I)I" } : Jvm.MethodName)) ∈ lw_all := lw_g (lw_at lw_m1 130 rfl) rfl
theorem q154 : (Jvm.Cond.methodLink "DataflowStoreLaw" (32 : Nat) ({ cls := "DataflowStore", name := "linked", desc := "(II)Z" } : Jvm.MethodName)) ∈ lw_all := lw_g (lw_at lw_m1 134 rfl) rfl
theorem q158 : (Jvm.Cond.methodLink "DataflowStoreLaw" (37 : Nat) ({ cls := "DataflowStore", name := "part", desc := "(II)I" } : Jvm.MethodName)) ∈ lw_all := lw_g (lw_at lw_m1 138 rfl) rfl
theorem q162 : (Jvm.Cond.methodLink "DataflowStoreLaw" (42 : Nat) ({ cls := "DataflowStore", name := "waiting", desc := "()I" } : Jvm.MethodName)) ∈ lw_all := lw_g (lw_at lw_m1 142 rfl) rfl
theorem q166 : (Jvm.Cond.methodLink "DataflowStoreLaw" (47 : Nat) ({ cls := "DataflowStore", name := "classes", desc := "()I" } : Jvm.MethodName)) ∈ lw_all := lw_g (lw_at lw_m1 146 rfl) rfl
theorem q170 : (Jvm.Cond.methodLink "DataflowStoreLaw" (51 : Nat) ({ cls := "DataflowStore", name := "clear", desc := "()I" } : Jvm.MethodName)) ∈ lw_all := lw_g (lw_at lw_m1 150 rfl) rfl
theorem q174 : (Jvm.Cond.classLink "DataflowStoreLaw" (10 : Nat) "DataflowStoreModel") ∈ lw_all := lw_g (lw_at lw_m1 154 rfl) rfl
theorem q176 : (Jvm.Cond.methodLink "DataflowStoreLaw" (12 : Nat) ({ cls := "DataflowStoreModel", name := "<init>", desc := "()V" } : Jvm.MethodName)) ∈ lw_all := lw_g (lw_at lw_m1 156 rfl) rfl
theorem q245 : (Jvm.Cond.methodLink "DataflowStoreLaw" (17 : Nat) ({ cls := "DataflowStoreModel", name := "tell", desc := "(IIII)I" } : Jvm.MethodName)) ∈ lw_all := lw_g (lw_at lw_m1 225 rfl) rfl
theorem q257 : (Jvm.Cond.methodLink "DataflowStoreLaw" (22 : Nat) ({ cls := "DataflowStoreModel", name := "failed", desc := "()Z" } : Jvm.MethodName)) ∈ lw_all := lw_g (lw_at lw_m1 237 rfl) rfl
theorem q261 : (Jvm.Cond.methodLink "DataflowStoreLaw" (27 : Nat) ({ cls := "DataflowStoreModel", name := "state", desc := "(I)I" } : Jvm.MethodName)) ∈ lw_all := lw_g (lw_at lw_m2 1 rfl) rfl
theorem q265 : (Jvm.Cond.methodLink "DataflowStoreLaw" (31 : Nat) ({ cls := "DataflowStoreModel", name := "value", desc := "(I)I" } : Jvm.MethodName)) ∈ lw_all := lw_g (lw_at lw_m2 5 rfl) rfl
theorem q269 : (Jvm.Cond.methodLink "DataflowStoreLaw" (36 : Nat) ({ cls := "DataflowStoreModel", name := "linked", desc := "(II)Z" } : Jvm.MethodName)) ∈ lw_all := lw_g (lw_at lw_m2 9 rfl) rfl
theorem q273 : (Jvm.Cond.methodLink "DataflowStoreLaw" (41 : Nat) ({ cls := "DataflowStoreModel", name := "part", desc := "(II)I" } : Jvm.MethodName)) ∈ lw_all := lw_g (lw_at lw_m2 13 rfl) rfl
theorem q277 : (Jvm.Cond.methodLink "DataflowStoreLaw" (46 : Nat) ({ cls := "DataflowStoreModel", name := "waiting", desc := "()I" } : Jvm.MethodName)) ∈ lw_all := lw_g (lw_at lw_m2 17 rfl) rfl
theorem q281 : (Jvm.Cond.methodLink "DataflowStoreLaw" (50 : Nat) ({ cls := "DataflowStoreModel", name := "classes", desc := "()I" } : Jvm.MethodName)) ∈ lw_all := lw_g (lw_at lw_m2 21 rfl) rfl
theorem q285 : (Jvm.Cond.methodLink "DataflowStoreLaw" (54 : Nat) ({ cls := "DataflowStoreModel", name := "clear", desc := "()I" } : Jvm.MethodName)) ∈ lw_all := lw_g (lw_at lw_m2 25 rfl) rfl
end
section
set_option maxRecDepth 100000
abbrev vwCl : List vw_C := [(RX0, TX0, 18), (RX1, TX1, 13)]
def bI (b : Bool) : Int32 := if b then 1 else 0
def rmN (k : Nat) : Room := { frames := k, cells := 0, slots := 0, locals := 30 * k }
theorem nar_byte {v : Nat} (hv : v < 128) : vp_nar .byte (nI v) = nI v := by
  have key : ∀ v : Fin 128, (nI v.val).toInt8.toInt32 = nI v.val := by decide +kernel
  rw [vp_nar_byte]
  exact key ⟨v, hv⟩
theorem nar_bool (b : Bool) : vp_nar .boolean (bI b) = bI b := by cases b <;> decide +kernel
theorem updB {f : Nat → Nat} {k v : Nat} (hv : v < 128) : upd (fun i => nI (f i)) k (vp_nar .byte (nI v)) = fun i => nI (va_up f k v i) := by
  funext j
  rw [nar_byte hv]
  by_cases hj : j = k <;> simp [upd, va_up, hj]
theorem updN {f : Nat → Nat} {k v : Nat} : upd (fun i => nI (f i)) k (nI v) = fun i => nI (va_up f k v i) := by
  funext j
  by_cases hj : j = k <;> simp [upd, va_up, hj]
theorem updR {f : Nat → Int32} {k : Nat} {v : Int32} : upd f k v = va_up f k v := rfl
theorem updL {f : Nat → Int64} {k : Nat} {v : Int64} : vp_updL f k v = va_up f k v := rfl
theorem updZ {f : Nat → Bool} {k : Nat} {v : Bool} : upd (fun i => bI (f i)) k (vp_nar .boolean (bI v)) = fun i => bI (va_up f k v i) := by
  funext j
  rw [nar_bool]
  by_cases hj : j = k <;> simp [upd, va_up, hj]
/-- what a call asks of the tables: the link from 'own', the method, its code -/
def Cb (own C : String) (index : Nat) (y : MethodName) (bytes : ByteArray) (maxL : Nat) (ret : Option FieldType) (n : Nat) : Prop := Cond.methodLink own index y ∈ lw_all ∧ Cond.instanceMethod y ∈ lw_all ∧ Cond.selects C y y ∈ lw_all ∧ Cond.initialized C ∈ lw_all ∧ Cond.code y bytes maxL ret ∈ lw_all ∧ (y.cls = C ∧ y.cls ≠ "java/lang/invoke/MethodHandle" ∧ y.cls ≠ "java/lang/invoke/VarHandle" ∧ (parseMethodDescriptor y.desc).map (fun d => d.parameters.length) = some n)
section
variable {p : Program} {l : Launch} {e : Env} {R : Room} {s : State} {m : MethodId} {args : Array Value} {below : List Frame} {meth : Method} {c : Code} {H : Heap} {locs : List Loc} {cells slots : Nat} {Q : State → Prop} {cc : ByteArray} {pc : Nat} {ls : Array Slot} {rest : List Value}
theorem n_icmp_eq (hx : p.tables.exec = Jvm.exec) (hb : c.code = cc) {a b : Nat} {off : Int} {tgt : Nat} (ha : a < 2 ^ 31) (hb2 : b < 2 ^ 31) (hdg : decode cc pc = .ok (.if_icmp .eq off, 3)) (ht : (pc : Int) + off = (tgt : Int)) (kt : a = b → W p l e R s m args below meth c H locs cells slots Q (F0 m tgt ls rest)) (kf : ¬ (a = b) → W p l e R s m args below meth c H locs cells slots Q (F0 m (pc + 3) ls rest)) : W p l e R s m args below meth c H locs cells slots Q (F0 m pc ls (.int (nI b) :: .int (nI a) :: rest)) :=
  lv_icmp_eq hx hb hdg ht (fun q => kt ((nI_eq ha hb2).mp q)) (fun q => kf (fun z => q ((nI_eq ha hb2).mpr z)))
theorem n_icmp_ne (hx : p.tables.exec = Jvm.exec) (hb : c.code = cc) {a b : Nat} {off : Int} {tgt : Nat} (ha : a < 2 ^ 31) (hb2 : b < 2 ^ 31) (hdg : decode cc pc = .ok (.if_icmp .ne off, 3)) (ht : (pc : Int) + off = (tgt : Int)) (kt : ¬ a = b → W p l e R s m args below meth c H locs cells slots Q (F0 m tgt ls rest)) (kf : a = b → W p l e R s m args below meth c H locs cells slots Q (F0 m (pc + 3) ls rest)) : W p l e R s m args below meth c H locs cells slots Q (F0 m pc ls (.int (nI b) :: .int (nI a) :: rest)) :=
  lv_icmp_ne hx hb hdg ht (fun q => kt (fun z => q (by rw [z]))) (fun q => kf ((nI_eq ha hb2).mp q))
theorem n_icmp_lt (hx : p.tables.exec = Jvm.exec) (hb : c.code = cc) {a b : Nat} {off : Int} {tgt : Nat} (ha : a < 2 ^ 31) (hb2 : b < 2 ^ 31) (hdg : decode cc pc = .ok (.if_icmp .lt off, 3)) (ht : (pc : Int) + off = (tgt : Int)) (kt : a < b → W p l e R s m args below meth c H locs cells slots Q (F0 m tgt ls rest)) (kf : ¬ (a < b) → W p l e R s m args below meth c H locs cells slots Q (F0 m (pc + 3) ls rest)) : W p l e R s m args below meth c H locs cells slots Q (F0 m pc ls (.int (nI b) :: .int (nI a) :: rest)) :=
  lv_icmp_lt hx hb hdg ht (fun q => kt ((nI_ltI ha hb2).mp q)) (fun q => kf (fun z => q ((nI_ltI ha hb2).mpr z)))
theorem n_icmp_ge (hx : p.tables.exec = Jvm.exec) (hb : c.code = cc) {a b : Nat} {off : Int} {tgt : Nat} (ha : a < 2 ^ 31) (hb2 : b < 2 ^ 31) (hdg : decode cc pc = .ok (.if_icmp .ge off, 3)) (ht : (pc : Int) + off = (tgt : Int)) (kt : b ≤ a → W p l e R s m args below meth c H locs cells slots Q (F0 m tgt ls rest)) (kf : ¬ (b ≤ a) → W p l e R s m args below meth c H locs cells slots Q (F0 m (pc + 3) ls rest)) : W p l e R s m args below meth c H locs cells slots Q (F0 m pc ls (.int (nI b) :: .int (nI a) :: rest)) :=
  lv_icmp_ge hx hb hdg ht (fun q => kt ((nI_leI hb2 ha).mp q)) (fun q => kf (fun z => q ((nI_leI hb2 ha).mpr z)))
theorem n_icmp_gt (hx : p.tables.exec = Jvm.exec) (hb : c.code = cc) {a b : Nat} {off : Int} {tgt : Nat} (ha : a < 2 ^ 31) (hb2 : b < 2 ^ 31) (hdg : decode cc pc = .ok (.if_icmp .gt off, 3)) (ht : (pc : Int) + off = (tgt : Int)) (kt : b < a → W p l e R s m args below meth c H locs cells slots Q (F0 m tgt ls rest)) (kf : ¬ (b < a) → W p l e R s m args below meth c H locs cells slots Q (F0 m (pc + 3) ls rest)) : W p l e R s m args below meth c H locs cells slots Q (F0 m pc ls (.int (nI b) :: .int (nI a) :: rest)) :=
  lv_icmp_gt hx hb hdg ht (fun q => kt ((nI_ltI hb2 ha).mp q)) (fun q => kf (fun z => q ((nI_ltI hb2 ha).mpr z)))
theorem n_icmp_le (hx : p.tables.exec = Jvm.exec) (hb : c.code = cc) {a b : Nat} {off : Int} {tgt : Nat} (ha : a < 2 ^ 31) (hb2 : b < 2 ^ 31) (hdg : decode cc pc = .ok (.if_icmp .le off, 3)) (ht : (pc : Int) + off = (tgt : Int)) (kt : a ≤ b → W p l e R s m args below meth c H locs cells slots Q (F0 m tgt ls rest)) (kf : ¬ (a ≤ b) → W p l e R s m args below meth c H locs cells slots Q (F0 m (pc + 3) ls rest)) : W p l e R s m args below meth c H locs cells slots Q (F0 m pc ls (.int (nI b) :: .int (nI a) :: rest)) :=
  lv_icmp_le hx hb hdg ht (fun q => kt ((nI_leI ha hb2).mp q)) (fun q => kf (fun z => q ((nI_leI ha hb2).mpr z)))
theorem b_if_eq (hx : p.tables.exec = Jvm.exec) (hb : c.code = cc) {b : Bool} {off : Int} {tgt : Nat} (hdg : decode cc pc = .ok (.ifCond .eq off, 3)) (ht : (pc : Int) + off = (tgt : Int)) (kt : b = false → W p l e R s m args below meth c H locs cells slots Q (F0 m tgt ls rest)) (kf : b = true → W p l e R s m args below meth c H locs cells slots Q (F0 m (pc + 3) ls rest)) : W p l e R s m args below meth c H locs cells slots Q (F0 m pc ls (.int (bI b) :: rest)) :=
  lv_if_eq hx hb hdg ht (fun q => kt (by cases b; rfl; exact absurd q (by decide))) (fun q => kf (by cases b; exact absurd rfl q; rfl))
theorem b_if_ne (hx : p.tables.exec = Jvm.exec) (hb : c.code = cc) {b : Bool} {off : Int} {tgt : Nat} (hdg : decode cc pc = .ok (.ifCond .ne off, 3)) (ht : (pc : Int) + off = (tgt : Int)) (kt : b = true → W p l e R s m args below meth c H locs cells slots Q (F0 m tgt ls rest)) (kf : b = false → W p l e R s m args below meth c H locs cells slots Q (F0 m (pc + 3) ls rest)) : W p l e R s m args below meth c H locs cells slots Q (F0 m pc ls (.int (bI b) :: rest)) :=
  lv_if_ne hx hb hdg ht (fun q => kt (by cases b; exact absurd rfl q; rfl)) (fun q => kf (by cases b; rfl; exact absurd q (by decide)))
theorem n_if_eq (hx : p.tables.exec = Jvm.exec) (hb : c.code = cc) {a : Nat} {off : Int} {tgt : Nat} (ha : a < 2 ^ 31) (hdg : decode cc pc = .ok (.ifCond .eq off, 3)) (ht : (pc : Int) + off = (tgt : Int)) (kt : a = 0 → W p l e R s m args below meth c H locs cells slots Q (F0 m tgt ls rest)) (kf : ¬ a = 0 → W p l e R s m args below meth c H locs cells slots Q (F0 m (pc + 3) ls rest)) : W p l e R s m args below meth c H locs cells slots Q (F0 m pc ls (.int (nI a) :: rest)) :=
  lv_if_eq hx hb hdg ht (fun q => kt ((nI_eq ha (by omega)).mp (q.trans nI_0.symm))) (fun q => kf (fun z => q (by rw [z]; exact nI_0)))
theorem n_if_ne (hx : p.tables.exec = Jvm.exec) (hb : c.code = cc) {a : Nat} {off : Int} {tgt : Nat} (ha : a < 2 ^ 31) (hdg : decode cc pc = .ok (.ifCond .ne off, 3)) (ht : (pc : Int) + off = (tgt : Int)) (kt : ¬ a = 0 → W p l e R s m args below meth c H locs cells slots Q (F0 m tgt ls rest)) (kf : a = 0 → W p l e R s m args below meth c H locs cells slots Q (F0 m (pc + 3) ls rest)) : W p l e R s m args below meth c H locs cells slots Q (F0 m pc ls (.int (nI a) :: rest)) :=
  lv_if_ne hx hb hdg ht (fun q => kt (fun z => q (by rw [z]; exact nI_0))) (fun q => kf ((nI_eq ha (by omega)).mp (q.trans nI_0.symm)))
theorem n_if_le (hx : p.tables.exec = Jvm.exec) (hb : c.code = cc) {a : Nat} {off : Int} {tgt : Nat} (ha : a < 2 ^ 31) (hdg : decode cc pc = .ok (.ifCond .le off, 3)) (ht : (pc : Int) + off = (tgt : Int)) (kt : a = 0 → W p l e R s m args below meth c H locs cells slots Q (F0 m tgt ls rest)) (kf : ¬ a = 0 → W p l e R s m args below meth c H locs cells slots Q (F0 m (pc + 3) ls rest)) : W p l e R s m args below meth c H locs cells slots Q (F0 m pc ls (.int (nI a) :: rest)) :=
  lv_if_le hx hb hdg ht (fun q => kt (by have := (nI_leI ha (show 0 < 2 ^ 31 by omega)).mp (by rw [nI_0]; exact q); omega)) (fun q => kf (fun z => q (by rw [z]; decide)))
theorem n_iadd (hx : p.tables.exec = Jvm.exec) (hb : c.code = cc) {a b : Nat} (hdg : decode cc pc = .ok (.iadd, 1)) (k : W p l e R s m args below meth c H locs cells slots Q (F0 m (pc + 1) ls (.int (nI (a + b)) :: rest))) : W p l e R s m args below meth c H locs cells slots Q (F0 m pc ls (.int (nI b) :: .int (nI a) :: rest)) := lv_iadd hx hb hdg (by rw [nI_add]; exact k)
theorem n_isub (hx : p.tables.exec = Jvm.exec) (hb : c.code = cc) {a b : Nat} (hab : b ≤ a) (hdg : decode cc pc = .ok (.isub, 1)) (k : W p l e R s m args below meth c H locs cells slots Q (F0 m (pc + 1) ls (.int (nI (a - b)) :: rest))) : W p l e R s m args below meth c H locs cells slots Q (F0 m pc ls (.int (nI b) :: .int (nI a) :: rest)) := lv_isub hx hb hdg (by rw [pk_sub hab]; exact k)
theorem n_i2b (hx : p.tables.exec = Jvm.exec) (hb : c.code = cc) {a : Nat} (ha : a < 128) (hdg : decode cc pc = .ok (.i2b, 1)) (k : W p l e R s m args below meth c H locs cells slots Q (F0 m (pc + 1) ls (.int (nI a) :: rest))) : W p l e R s m args below meth c H locs cells slots Q (F0 m pc ls (.int (nI a) :: rest)) := lv_i2b hx hb hdg (by rw [← vp_nar_byte]; exact nar_byte ha) k
end
end
section
set_option maxRecDepth 100000
def XSt : Type := (Nat) × (Nat → Nat) × (Nat → Nat) × (Nat → Nat) × (Nat → Nat) × (Int64) × (Nat → Int32) × (Nat → Nat) × (Nat → Int32) × (Nat → Nat) × (Nat → Nat) × (Nat → Int64) × (Nat) × (Nat → Nat) × (Nat → Nat) × (Int64) × (Bool) × (Nat → Nat)
def XSt.sc (u : XSt) : Nat := u.1
def XSt.kd (u : XSt) : Nat → Nat := u.2.1
def XSt.tg (u : XSt) : Nat → Nat := u.2.2.1
def XSt.sy (u : XSt) : Nat → Nat := u.2.2.2.1
def XSt.sz (u : XSt) : Nat → Nat := u.2.2.2.2.1
def XSt.su (u : XSt) : Int64 := u.2.2.2.2.2.1
def XSt.wt (u : XSt) : Nat → Int32 := u.2.2.2.2.2.2.1
def XSt.st (u : XSt) : Nat → Nat := u.2.2.2.2.2.2.2.1
def XSt.nu (u : XSt) : Nat → Int32 := u.2.2.2.2.2.2.2.2.1
def XSt.lf (u : XSt) : Nat → Nat := u.2.2.2.2.2.2.2.2.2.1
def XSt.rt (u : XSt) : Nat → Nat := u.2.2.2.2.2.2.2.2.2.2.1
def XSt.wa (u : XSt) : Nat → Int64 := u.2.2.2.2.2.2.2.2.2.2.2.1
def XSt.jc (u : XSt) : Nat := u.2.2.2.2.2.2.2.2.2.2.2.2.1
def XSt.ja (u : XSt) : Nat → Nat := u.2.2.2.2.2.2.2.2.2.2.2.2.2.1
def XSt.jb (u : XSt) : Nat → Nat := u.2.2.2.2.2.2.2.2.2.2.2.2.2.2.1
def XSt.rd (u : XSt) : Int64 := u.2.2.2.2.2.2.2.2.2.2.2.2.2.2.2.1
def XSt.bk (u : XSt) : Bool := u.2.2.2.2.2.2.2.2.2.2.2.2.2.2.2.2.1
def XSt.r (u : XSt) : Nat → Nat := u.2.2.2.2.2.2.2.2.2.2.2.2.2.2.2.2.2
def XSt.s_sc (u : XSt) (v : Nat) : XSt := (v, u.2.1, u.2.2.1, u.2.2.2.1, u.2.2.2.2.1, u.2.2.2.2.2.1, u.2.2.2.2.2.2.1, u.2.2.2.2.2.2.2.1, u.2.2.2.2.2.2.2.2.1, u.2.2.2.2.2.2.2.2.2.1, u.2.2.2.2.2.2.2.2.2.2.1, u.2.2.2.2.2.2.2.2.2.2.2.1, u.2.2.2.2.2.2.2.2.2.2.2.2.1, u.2.2.2.2.2.2.2.2.2.2.2.2.2.1, u.2.2.2.2.2.2.2.2.2.2.2.2.2.2.1, u.2.2.2.2.2.2.2.2.2.2.2.2.2.2.2.1, u.2.2.2.2.2.2.2.2.2.2.2.2.2.2.2.2.1, u.2.2.2.2.2.2.2.2.2.2.2.2.2.2.2.2.2)
def XSt.s_kd (u : XSt) (v : Nat → Nat) : XSt := (u.1, v, u.2.2.1, u.2.2.2.1, u.2.2.2.2.1, u.2.2.2.2.2.1, u.2.2.2.2.2.2.1, u.2.2.2.2.2.2.2.1, u.2.2.2.2.2.2.2.2.1, u.2.2.2.2.2.2.2.2.2.1, u.2.2.2.2.2.2.2.2.2.2.1, u.2.2.2.2.2.2.2.2.2.2.2.1, u.2.2.2.2.2.2.2.2.2.2.2.2.1, u.2.2.2.2.2.2.2.2.2.2.2.2.2.1, u.2.2.2.2.2.2.2.2.2.2.2.2.2.2.1, u.2.2.2.2.2.2.2.2.2.2.2.2.2.2.2.1, u.2.2.2.2.2.2.2.2.2.2.2.2.2.2.2.2.1, u.2.2.2.2.2.2.2.2.2.2.2.2.2.2.2.2.2)
def XSt.s_tg (u : XSt) (v : Nat → Nat) : XSt := (u.1, u.2.1, v, u.2.2.2.1, u.2.2.2.2.1, u.2.2.2.2.2.1, u.2.2.2.2.2.2.1, u.2.2.2.2.2.2.2.1, u.2.2.2.2.2.2.2.2.1, u.2.2.2.2.2.2.2.2.2.1, u.2.2.2.2.2.2.2.2.2.2.1, u.2.2.2.2.2.2.2.2.2.2.2.1, u.2.2.2.2.2.2.2.2.2.2.2.2.1, u.2.2.2.2.2.2.2.2.2.2.2.2.2.1, u.2.2.2.2.2.2.2.2.2.2.2.2.2.2.1, u.2.2.2.2.2.2.2.2.2.2.2.2.2.2.2.1, u.2.2.2.2.2.2.2.2.2.2.2.2.2.2.2.2.1, u.2.2.2.2.2.2.2.2.2.2.2.2.2.2.2.2.2)
def XSt.s_sy (u : XSt) (v : Nat → Nat) : XSt := (u.1, u.2.1, u.2.2.1, v, u.2.2.2.2.1, u.2.2.2.2.2.1, u.2.2.2.2.2.2.1, u.2.2.2.2.2.2.2.1, u.2.2.2.2.2.2.2.2.1, u.2.2.2.2.2.2.2.2.2.1, u.2.2.2.2.2.2.2.2.2.2.1, u.2.2.2.2.2.2.2.2.2.2.2.1, u.2.2.2.2.2.2.2.2.2.2.2.2.1, u.2.2.2.2.2.2.2.2.2.2.2.2.2.1, u.2.2.2.2.2.2.2.2.2.2.2.2.2.2.1, u.2.2.2.2.2.2.2.2.2.2.2.2.2.2.2.1, u.2.2.2.2.2.2.2.2.2.2.2.2.2.2.2.2.1, u.2.2.2.2.2.2.2.2.2.2.2.2.2.2.2.2.2)
def XSt.s_sz (u : XSt) (v : Nat → Nat) : XSt := (u.1, u.2.1, u.2.2.1, u.2.2.2.1, v, u.2.2.2.2.2.1, u.2.2.2.2.2.2.1, u.2.2.2.2.2.2.2.1, u.2.2.2.2.2.2.2.2.1, u.2.2.2.2.2.2.2.2.2.1, u.2.2.2.2.2.2.2.2.2.2.1, u.2.2.2.2.2.2.2.2.2.2.2.1, u.2.2.2.2.2.2.2.2.2.2.2.2.1, u.2.2.2.2.2.2.2.2.2.2.2.2.2.1, u.2.2.2.2.2.2.2.2.2.2.2.2.2.2.1, u.2.2.2.2.2.2.2.2.2.2.2.2.2.2.2.1, u.2.2.2.2.2.2.2.2.2.2.2.2.2.2.2.2.1, u.2.2.2.2.2.2.2.2.2.2.2.2.2.2.2.2.2)
def XSt.s_su (u : XSt) (v : Int64) : XSt := (u.1, u.2.1, u.2.2.1, u.2.2.2.1, u.2.2.2.2.1, v, u.2.2.2.2.2.2.1, u.2.2.2.2.2.2.2.1, u.2.2.2.2.2.2.2.2.1, u.2.2.2.2.2.2.2.2.2.1, u.2.2.2.2.2.2.2.2.2.2.1, u.2.2.2.2.2.2.2.2.2.2.2.1, u.2.2.2.2.2.2.2.2.2.2.2.2.1, u.2.2.2.2.2.2.2.2.2.2.2.2.2.1, u.2.2.2.2.2.2.2.2.2.2.2.2.2.2.1, u.2.2.2.2.2.2.2.2.2.2.2.2.2.2.2.1, u.2.2.2.2.2.2.2.2.2.2.2.2.2.2.2.2.1, u.2.2.2.2.2.2.2.2.2.2.2.2.2.2.2.2.2)
def XSt.s_wt (u : XSt) (v : Nat → Int32) : XSt := (u.1, u.2.1, u.2.2.1, u.2.2.2.1, u.2.2.2.2.1, u.2.2.2.2.2.1, v, u.2.2.2.2.2.2.2.1, u.2.2.2.2.2.2.2.2.1, u.2.2.2.2.2.2.2.2.2.1, u.2.2.2.2.2.2.2.2.2.2.1, u.2.2.2.2.2.2.2.2.2.2.2.1, u.2.2.2.2.2.2.2.2.2.2.2.2.1, u.2.2.2.2.2.2.2.2.2.2.2.2.2.1, u.2.2.2.2.2.2.2.2.2.2.2.2.2.2.1, u.2.2.2.2.2.2.2.2.2.2.2.2.2.2.2.1, u.2.2.2.2.2.2.2.2.2.2.2.2.2.2.2.2.1, u.2.2.2.2.2.2.2.2.2.2.2.2.2.2.2.2.2)
def XSt.s_st (u : XSt) (v : Nat → Nat) : XSt := (u.1, u.2.1, u.2.2.1, u.2.2.2.1, u.2.2.2.2.1, u.2.2.2.2.2.1, u.2.2.2.2.2.2.1, v, u.2.2.2.2.2.2.2.2.1, u.2.2.2.2.2.2.2.2.2.1, u.2.2.2.2.2.2.2.2.2.2.1, u.2.2.2.2.2.2.2.2.2.2.2.1, u.2.2.2.2.2.2.2.2.2.2.2.2.1, u.2.2.2.2.2.2.2.2.2.2.2.2.2.1, u.2.2.2.2.2.2.2.2.2.2.2.2.2.2.1, u.2.2.2.2.2.2.2.2.2.2.2.2.2.2.2.1, u.2.2.2.2.2.2.2.2.2.2.2.2.2.2.2.2.1, u.2.2.2.2.2.2.2.2.2.2.2.2.2.2.2.2.2)
def XSt.s_nu (u : XSt) (v : Nat → Int32) : XSt := (u.1, u.2.1, u.2.2.1, u.2.2.2.1, u.2.2.2.2.1, u.2.2.2.2.2.1, u.2.2.2.2.2.2.1, u.2.2.2.2.2.2.2.1, v, u.2.2.2.2.2.2.2.2.2.1, u.2.2.2.2.2.2.2.2.2.2.1, u.2.2.2.2.2.2.2.2.2.2.2.1, u.2.2.2.2.2.2.2.2.2.2.2.2.1, u.2.2.2.2.2.2.2.2.2.2.2.2.2.1, u.2.2.2.2.2.2.2.2.2.2.2.2.2.2.1, u.2.2.2.2.2.2.2.2.2.2.2.2.2.2.2.1, u.2.2.2.2.2.2.2.2.2.2.2.2.2.2.2.2.1, u.2.2.2.2.2.2.2.2.2.2.2.2.2.2.2.2.2)
def XSt.s_lf (u : XSt) (v : Nat → Nat) : XSt := (u.1, u.2.1, u.2.2.1, u.2.2.2.1, u.2.2.2.2.1, u.2.2.2.2.2.1, u.2.2.2.2.2.2.1, u.2.2.2.2.2.2.2.1, u.2.2.2.2.2.2.2.2.1, v, u.2.2.2.2.2.2.2.2.2.2.1, u.2.2.2.2.2.2.2.2.2.2.2.1, u.2.2.2.2.2.2.2.2.2.2.2.2.1, u.2.2.2.2.2.2.2.2.2.2.2.2.2.1, u.2.2.2.2.2.2.2.2.2.2.2.2.2.2.1, u.2.2.2.2.2.2.2.2.2.2.2.2.2.2.2.1, u.2.2.2.2.2.2.2.2.2.2.2.2.2.2.2.2.1, u.2.2.2.2.2.2.2.2.2.2.2.2.2.2.2.2.2)
def XSt.s_rt (u : XSt) (v : Nat → Nat) : XSt := (u.1, u.2.1, u.2.2.1, u.2.2.2.1, u.2.2.2.2.1, u.2.2.2.2.2.1, u.2.2.2.2.2.2.1, u.2.2.2.2.2.2.2.1, u.2.2.2.2.2.2.2.2.1, u.2.2.2.2.2.2.2.2.2.1, v, u.2.2.2.2.2.2.2.2.2.2.2.1, u.2.2.2.2.2.2.2.2.2.2.2.2.1, u.2.2.2.2.2.2.2.2.2.2.2.2.2.1, u.2.2.2.2.2.2.2.2.2.2.2.2.2.2.1, u.2.2.2.2.2.2.2.2.2.2.2.2.2.2.2.1, u.2.2.2.2.2.2.2.2.2.2.2.2.2.2.2.2.1, u.2.2.2.2.2.2.2.2.2.2.2.2.2.2.2.2.2)
def XSt.s_wa (u : XSt) (v : Nat → Int64) : XSt := (u.1, u.2.1, u.2.2.1, u.2.2.2.1, u.2.2.2.2.1, u.2.2.2.2.2.1, u.2.2.2.2.2.2.1, u.2.2.2.2.2.2.2.1, u.2.2.2.2.2.2.2.2.1, u.2.2.2.2.2.2.2.2.2.1, u.2.2.2.2.2.2.2.2.2.2.1, v, u.2.2.2.2.2.2.2.2.2.2.2.2.1, u.2.2.2.2.2.2.2.2.2.2.2.2.2.1, u.2.2.2.2.2.2.2.2.2.2.2.2.2.2.1, u.2.2.2.2.2.2.2.2.2.2.2.2.2.2.2.1, u.2.2.2.2.2.2.2.2.2.2.2.2.2.2.2.2.1, u.2.2.2.2.2.2.2.2.2.2.2.2.2.2.2.2.2)
def XSt.s_jc (u : XSt) (v : Nat) : XSt := (u.1, u.2.1, u.2.2.1, u.2.2.2.1, u.2.2.2.2.1, u.2.2.2.2.2.1, u.2.2.2.2.2.2.1, u.2.2.2.2.2.2.2.1, u.2.2.2.2.2.2.2.2.1, u.2.2.2.2.2.2.2.2.2.1, u.2.2.2.2.2.2.2.2.2.2.1, u.2.2.2.2.2.2.2.2.2.2.2.1, v, u.2.2.2.2.2.2.2.2.2.2.2.2.2.1, u.2.2.2.2.2.2.2.2.2.2.2.2.2.2.1, u.2.2.2.2.2.2.2.2.2.2.2.2.2.2.2.1, u.2.2.2.2.2.2.2.2.2.2.2.2.2.2.2.2.1, u.2.2.2.2.2.2.2.2.2.2.2.2.2.2.2.2.2)
def XSt.s_ja (u : XSt) (v : Nat → Nat) : XSt := (u.1, u.2.1, u.2.2.1, u.2.2.2.1, u.2.2.2.2.1, u.2.2.2.2.2.1, u.2.2.2.2.2.2.1, u.2.2.2.2.2.2.2.1, u.2.2.2.2.2.2.2.2.1, u.2.2.2.2.2.2.2.2.2.1, u.2.2.2.2.2.2.2.2.2.2.1, u.2.2.2.2.2.2.2.2.2.2.2.1, u.2.2.2.2.2.2.2.2.2.2.2.2.1, v, u.2.2.2.2.2.2.2.2.2.2.2.2.2.2.1, u.2.2.2.2.2.2.2.2.2.2.2.2.2.2.2.1, u.2.2.2.2.2.2.2.2.2.2.2.2.2.2.2.2.1, u.2.2.2.2.2.2.2.2.2.2.2.2.2.2.2.2.2)
def XSt.s_jb (u : XSt) (v : Nat → Nat) : XSt := (u.1, u.2.1, u.2.2.1, u.2.2.2.1, u.2.2.2.2.1, u.2.2.2.2.2.1, u.2.2.2.2.2.2.1, u.2.2.2.2.2.2.2.1, u.2.2.2.2.2.2.2.2.1, u.2.2.2.2.2.2.2.2.2.1, u.2.2.2.2.2.2.2.2.2.2.1, u.2.2.2.2.2.2.2.2.2.2.2.1, u.2.2.2.2.2.2.2.2.2.2.2.2.1, u.2.2.2.2.2.2.2.2.2.2.2.2.2.1, v, u.2.2.2.2.2.2.2.2.2.2.2.2.2.2.2.1, u.2.2.2.2.2.2.2.2.2.2.2.2.2.2.2.2.1, u.2.2.2.2.2.2.2.2.2.2.2.2.2.2.2.2.2)
def XSt.s_rd (u : XSt) (v : Int64) : XSt := (u.1, u.2.1, u.2.2.1, u.2.2.2.1, u.2.2.2.2.1, u.2.2.2.2.2.1, u.2.2.2.2.2.2.1, u.2.2.2.2.2.2.2.1, u.2.2.2.2.2.2.2.2.1, u.2.2.2.2.2.2.2.2.2.1, u.2.2.2.2.2.2.2.2.2.2.1, u.2.2.2.2.2.2.2.2.2.2.2.1, u.2.2.2.2.2.2.2.2.2.2.2.2.1, u.2.2.2.2.2.2.2.2.2.2.2.2.2.1, u.2.2.2.2.2.2.2.2.2.2.2.2.2.2.1, v, u.2.2.2.2.2.2.2.2.2.2.2.2.2.2.2.2.1, u.2.2.2.2.2.2.2.2.2.2.2.2.2.2.2.2.2)
def XSt.s_bk (u : XSt) (v : Bool) : XSt := (u.1, u.2.1, u.2.2.1, u.2.2.2.1, u.2.2.2.2.1, u.2.2.2.2.2.1, u.2.2.2.2.2.2.1, u.2.2.2.2.2.2.2.1, u.2.2.2.2.2.2.2.2.1, u.2.2.2.2.2.2.2.2.2.1, u.2.2.2.2.2.2.2.2.2.2.1, u.2.2.2.2.2.2.2.2.2.2.2.1, u.2.2.2.2.2.2.2.2.2.2.2.2.1, u.2.2.2.2.2.2.2.2.2.2.2.2.2.1, u.2.2.2.2.2.2.2.2.2.2.2.2.2.2.1, u.2.2.2.2.2.2.2.2.2.2.2.2.2.2.2.1, v, u.2.2.2.2.2.2.2.2.2.2.2.2.2.2.2.2.2)
def XSt.s_r (u : XSt) (v : Nat → Nat) : XSt := (u.1, u.2.1, u.2.2.1, u.2.2.2.1, u.2.2.2.2.1, u.2.2.2.2.2.1, u.2.2.2.2.2.2.1, u.2.2.2.2.2.2.2.1, u.2.2.2.2.2.2.2.2.1, u.2.2.2.2.2.2.2.2.2.1, u.2.2.2.2.2.2.2.2.2.2.1, u.2.2.2.2.2.2.2.2.2.2.2.1, u.2.2.2.2.2.2.2.2.2.2.2.2.1, u.2.2.2.2.2.2.2.2.2.2.2.2.2.1, u.2.2.2.2.2.2.2.2.2.2.2.2.2.2.1, u.2.2.2.2.2.2.2.2.2.2.2.2.2.2.2.1, u.2.2.2.2.2.2.2.2.2.2.2.2.2.2.2.2.1, v)
def fX (h : Nat → Nat) (u : XSt) : List Value := [.int (nI u.sc), .ref (h 1), .ref (h 2), .ref (h 3), .ref (h 4), .long u.su, .ref (h 6), .ref (h 7), .ref (h 8), .ref (h 9), .ref (h 10), .ref (h 11), .ref (h 12), .int (nI u.jc), .ref (h 14), .ref (h 15), .long u.rd, .int (bI u.bk)]
def wX (h : Nat → Nat) (dA : Nat → ClassId) (L : Nat → Nat) (u : XSt) : va_W := [(h 0, .inr (0, fX h u)), (h 1, .inl (dA 1, 40, .inl (fun i => nI (u.kd i)))), (h 2, .inl (dA 2, 40, .inl (fun i => nI (u.tg i)))), (h 3, .inl (dA 3, 40, .inl (fun i => nI (u.sy i)))), (h 4, .inl (dA 4, 40, .inl (fun i => nI (u.sz i)))), (h 6, .inl (dA 6, 12, .inl (fun i => nI (L i)))), (h 7, .inl (dA 7, 12, .inl (u.wt))), (h 8, .inl (dA 8, 12, .inl (fun i => nI (u.st i)))), (h 9, .inl (dA 9, 12, .inl (u.nu))), (h 10, .inl (dA 10, 12, .inl (fun i => nI (u.lf i)))), (h 11, .inl (dA 11, 12, .inl (fun i => nI (u.rt i)))), (h 12, .inl (dA 12, 12, .inr (.inl (u.wa)))), (h 14, .inl (dA 14, 40, .inl (fun i => nI (u.ja i)))), (h 15, .inl (dA 15, 40, .inl (fun i => nI (u.jb i))))]
def tX (dA : Nat → ClassId) : List (ClassId × FieldType) := [(dA 1, .byte), (dA 2, .byte), (dA 3, .byte), (dA 4, .byte), (dA 6, .byte), (dA 7, .byte), (dA 8, .byte), (dA 9, .int), (dA 10, .byte), (dA 11, .byte), (dA 12, .long), (dA 14, .byte), (dA 15, .byte)]
def AX (h : Nat → Nat) : Nat → Prop := fun q => ∃ k, k < 18 ∧ q = h k
def XC (p : Program) (s : State) (m : MethodId) (args : Array Value) (c : Code) (cc : ByteArray) (nL : Nat) (D : va_G) (dA : Nat → ClassId) : Prop := p.tables.exec = Jvm.exec ∧ c.code = cc ∧ c.maxLocals = nL ∧ s.vm.findClass RX0 = some m.cls ∧ (∀ w ∈ lw_all, w.before args s = true) ∧ va_K D vwCl (tX dA) s
def XW (D : va_G) (h : Nat → Nat) (dA : Nat → ClassId) (L : Nat → Nat) (u : XSt) (H0 H : Heap) (locs : List Loc) : Prop := va_P D vwCl (wX h dA L u) H ∧ va_D (AX h) (wX h dA L u) ∧ va_S (AX h) H0 H locs
def XB (D : va_G) (h : Nat → Nat) (dA : Nat → ClassId) (L : Nat → Nat) (u : XSt) (t : State) : Prop := va_P D vwCl (wX h dA L u) t.heap ∧ va_D (AX h) (wX h dA L u) ∧ va_K D vwCl (tX dA) t
def XPc (D : va_G) (h : Nat → Nat) (dA : Nat → ClassId) (L : Nat → Nat) (u : XSt) (As : List Value) : Array Value → State → Prop := va_Pc (.ref (h 0) :: As) (fun U => XB D h dA L u U)
def XQv (D : va_G) (h : Nat → Nat) (dA : Nat → ClassId) (post : (Nat → Nat) → XSt → Prop) : Array Value → State → Outcome → State → Prop := va_Qv (fun q : (Nat → Nat) × XSt => post q.1 q.2) (fun q t => XB D h dA q.1 q.2 t) (AX h)
def XQi (D : va_G) (h : Nat → Nat) (dA : Nat → ClassId) (post : Int32 → (Nat → Nat) → XSt → Prop) : Array Value → State → Outcome → State → Prop := va_Qi (fun (r : Int32) (q : (Nat → Nat) × XSt) => post r q.1 q.2) (fun q t => XB D h dA q.1 q.2 t) (AX h)
theorem XB.blind {D : va_G} {h : Nat → Nat} {dA : Nat → ClassId} {L : Nat → Nat} {u : XSt} {As : List Value} : FrameBlind (XPc D h dA L u As) := fun a U g mk q => ⟨q.1, q.2.1, q.2.2.1, va_K.moved (u := U) (U := U.calling g mk a) (Vm.Alike.refl U.vm) q.2.2.2⟩
section
variable {p : Program} {l : Launch} {e : Env} {R : Room} {s : State} {m : MethodId} {args : Array Value} {below : List Frame} {meth : Method} {c : Code} {H : Heap} {locs : List Loc} {cells slots : Nat} {Q : State → Prop} {cc : ByteArray} {pc nL : Nat} {ls : Array Slot} {rest : List Value} {D : va_G} {h : Nat → Nat} {dA : Nat → ClassId} {L : Nat → Nat} {u : XSt}
theorem x_get (C : XC p s m args c cc nL D dA) (hW : XW D h dA L u s.heap H locs) (k : Nat) (hk : k < 18) {idx : Nat} (hl : Cond.fieldLink RX0 idx RX0 (TX0 k).2.1 (TX0 k).2.2.1 ∈ lw_all) (hrr : (TX0 k).1 = RX0) {v : Value} (hv : (fX h u)[k]? = some v) (hdg : decode cc pc = .ok (.getfield idx, 3)) (kk : W p l e R s m args below meth c H locs cells slots Q (F0 m (pc + 3) ls (v :: rest))) : W p l e R s m args below meth c H locs cells slots Q (F0 m pc ls (.ref (h 0) :: rest)) :=
  va_get (ci := 0) (C := RX0) (T := TX0) (N := 18) C.1 C.2.1 C.2.2.2.2.1 in_X0 C.2.2.2.1 C.2.2.2.2.2 hW.1 0 (fs := fX h u) rfl rfl k hk (C.2.2.2.2.1 _ hl) (fun x hx => by rw [hrr] at hx; exact hx) hv hdg kk
theorem x_put_sc (C : XC p s m args c cc nL D dA) (hW : XW D h dA L u s.heap H locs) {v : Nat} {idx : Nat} (hl : Cond.fieldLink RX0 idx RX0 (TX0 0).2.1 (TX0 0).2.2.1 ∈ lw_all) (hdg : decode cc pc = .ok (.putfield idx, 3)) (kk : ∀ (H : Heap) (locs : List Loc), XW D h dA L (u.s_sc v) s.heap H locs → W p l e R s m args below meth c H locs cells slots Q (F0 m (pc + 3) ls rest)) : W p l e R s m args below meth c H locs cells slots Q (F0 m pc ls (.int (nI v) :: .ref (h 0) :: rest)) :=
  va_put (ci := 0) (C := RX0) (T := TX0) (N := 18) (ty := .int) C.1 C.2.1 C.2.2.2.2.1 in_X0 tyX0 tyX0_ok nmX0 C.2.2.2.1 C.2.2.2.2.2 hW.1 hW.2.1 hW.2.2 0 (fs := fX h u) rfl rfl 0 (by decide) (C.2.2.2.2.1 _ hl) (fun x hx => hx) rfl (by decide +kernel) rfl rfl (Nat.le_of_ble_eq_true rfl) hdg (fun H locs hP hD hS => kk H locs ⟨hP, hD, hS⟩)
theorem x_put_su (C : XC p s m args c cc nL D dA) (hW : XW D h dA L u s.heap H locs) {v : Int64} {idx : Nat} (hl : Cond.fieldLink RX0 idx RX0 (TX0 5).2.1 (TX0 5).2.2.1 ∈ lw_all) (hdg : decode cc pc = .ok (.putfield idx, 3)) (kk : ∀ (H : Heap) (locs : List Loc), XW D h dA L (u.s_su v) s.heap H locs → W p l e R s m args below meth c H locs cells slots Q (F0 m (pc + 3) ls rest)) : W p l e R s m args below meth c H locs cells slots Q (F0 m pc ls (.long v :: .ref (h 0) :: rest)) :=
  va_put (ci := 0) (C := RX0) (T := TX0) (N := 18) (ty := .long) C.1 C.2.1 C.2.2.2.2.1 in_X0 tyX0 tyX0_ok nmX0 C.2.2.2.1 C.2.2.2.2.2 hW.1 hW.2.1 hW.2.2 0 (fs := fX h u) rfl rfl 5 (by decide) (C.2.2.2.2.1 _ hl) (fun x hx => hx) rfl (by decide +kernel) rfl rfl (Nat.le_of_ble_eq_true rfl) hdg (fun H locs hP hD hS => kk H locs ⟨hP, hD, hS⟩)
theorem x_put_jc (C : XC p s m args c cc nL D dA) (hW : XW D h dA L u s.heap H locs) {v : Nat} {idx : Nat} (hl : Cond.fieldLink RX0 idx RX0 (TX0 13).2.1 (TX0 13).2.2.1 ∈ lw_all) (hdg : decode cc pc = .ok (.putfield idx, 3)) (kk : ∀ (H : Heap) (locs : List Loc), XW D h dA L (u.s_jc v) s.heap H locs → W p l e R s m args below meth c H locs cells slots Q (F0 m (pc + 3) ls rest)) : W p l e R s m args below meth c H locs cells slots Q (F0 m pc ls (.int (nI v) :: .ref (h 0) :: rest)) :=
  va_put (ci := 0) (C := RX0) (T := TX0) (N := 18) (ty := .int) C.1 C.2.1 C.2.2.2.2.1 in_X0 tyX0 tyX0_ok nmX0 C.2.2.2.1 C.2.2.2.2.2 hW.1 hW.2.1 hW.2.2 0 (fs := fX h u) rfl rfl 13 (by decide) (C.2.2.2.2.1 _ hl) (fun x hx => hx) rfl (by decide +kernel) rfl rfl (Nat.le_of_ble_eq_true rfl) hdg (fun H locs hP hD hS => kk H locs ⟨hP, hD, hS⟩)
theorem x_put_rd (C : XC p s m args c cc nL D dA) (hW : XW D h dA L u s.heap H locs) {v : Int64} {idx : Nat} (hl : Cond.fieldLink RX0 idx RX0 (TX0 16).2.1 (TX0 16).2.2.1 ∈ lw_all) (hdg : decode cc pc = .ok (.putfield idx, 3)) (kk : ∀ (H : Heap) (locs : List Loc), XW D h dA L (u.s_rd v) s.heap H locs → W p l e R s m args below meth c H locs cells slots Q (F0 m (pc + 3) ls rest)) : W p l e R s m args below meth c H locs cells slots Q (F0 m pc ls (.long v :: .ref (h 0) :: rest)) :=
  va_put (ci := 0) (C := RX0) (T := TX0) (N := 18) (ty := .long) C.1 C.2.1 C.2.2.2.2.1 in_X0 tyX0 tyX0_ok nmX0 C.2.2.2.1 C.2.2.2.2.2 hW.1 hW.2.1 hW.2.2 0 (fs := fX h u) rfl rfl 16 (by decide) (C.2.2.2.2.1 _ hl) (fun x hx => hx) rfl (by decide +kernel) rfl rfl (Nat.le_of_ble_eq_true rfl) hdg (fun H locs hP hD hS => kk H locs ⟨hP, hD, hS⟩)
theorem x_put_bk (C : XC p s m args c cc nL D dA) (hW : XW D h dA L u s.heap H locs) {v : Bool} {idx : Nat} (hl : Cond.fieldLink RX0 idx RX0 (TX0 17).2.1 (TX0 17).2.2.1 ∈ lw_all) (hdg : decode cc pc = .ok (.putfield idx, 3)) (kk : ∀ (H : Heap) (locs : List Loc), XW D h dA L (u.s_bk v) s.heap H locs → W p l e R s m args below meth c H locs cells slots Q (F0 m (pc + 3) ls rest)) : W p l e R s m args below meth c H locs cells slots Q (F0 m pc ls (.int (bI v) :: .ref (h 0) :: rest)) :=
  va_put (ci := 0) (C := RX0) (T := TX0) (N := 18) (ty := .boolean) C.1 C.2.1 C.2.2.2.2.1 in_X0 tyX0 tyX0_ok nmX0 C.2.2.2.1 C.2.2.2.2.2 hW.1 hW.2.1 hW.2.2 0 (fs := fX h u) rfl rfl 17 (by decide) (C.2.2.2.2.1 _ hl) (fun x hx => hx) rfl (by decide +kernel) (by cases v <;> rfl) (by cases v <;> rfl) (Nat.le_of_ble_eq_true rfl) hdg (fun H locs hP hD hS => kk H locs ⟨hP, hD, hS⟩)
theorem x_ld_kd (C : XC p s m args c cc nL D dA) (hW : XW D h dA L u s.heap H locs) {i : Nat} (hi : i < 40) (hdg : decode cc pc = .ok (.baload, 1)) (kk : W p l e R s m args below meth c H locs cells slots Q (F0 m (pc + 1) ls (.int (nI (u.kd i)) :: rest))) : W p l e R s m args below meth c H locs cells slots Q (F0 m pc ls (.int (nI i) :: .ref (h 1) :: rest)) := by
  refine va_bald C.1 C.2.1 C.2.2.2.2.2 hW.1 1 0 rfl rfl (vp_in_nI hi (by omega)) hdg ?_
  rw [nI_clamp (show i < 2 ^ 31 by omega)]
  exact kk
theorem x_st_kd (C : XC p s m args c cc nL D dA) (hW : XW D h dA L u s.heap H locs) {i : Nat} {v : Nat} (hi : i < 40) (hv : v < 128) (hdg : decode cc pc = .ok (.bastore, 1)) (kk : ∀ (H : Heap) (locs : List Loc), XW D h dA L (u.s_kd (va_up u.kd i v)) s.heap H locs → W p l e R s m args below meth c H locs cells slots Q (F0 m (pc + 1) ls rest)) : W p l e R s m args below meth c H locs cells slots Q (F0 m pc ls (.int (nI v) :: .int (nI i) :: .ref (h 1) :: rest)) := by
  refine va_bast C.1 C.2.1 C.2.2.2.2.2 hW.1 hW.2.1 hW.2.2 1 0 rfl rfl (vp_in_nI hi (by omega)) hdg (fun H locs hP hD hS => ?_)
  rw [nI_clamp (show i < 2 ^ 31 by omega), updB hv] at hP hD
  exact kk H locs ⟨hP, hD, hS⟩
theorem x_ld_tg (C : XC p s m args c cc nL D dA) (hW : XW D h dA L u s.heap H locs) {i : Nat} (hi : i < 40) (hdg : decode cc pc = .ok (.baload, 1)) (kk : W p l e R s m args below meth c H locs cells slots Q (F0 m (pc + 1) ls (.int (nI (u.tg i)) :: rest))) : W p l e R s m args below meth c H locs cells slots Q (F0 m pc ls (.int (nI i) :: .ref (h 2) :: rest)) := by
  refine va_bald C.1 C.2.1 C.2.2.2.2.2 hW.1 2 1 rfl rfl (vp_in_nI hi (by omega)) hdg ?_
  rw [nI_clamp (show i < 2 ^ 31 by omega)]
  exact kk
theorem x_st_tg (C : XC p s m args c cc nL D dA) (hW : XW D h dA L u s.heap H locs) {i : Nat} {v : Nat} (hi : i < 40) (hv : v < 128) (hdg : decode cc pc = .ok (.bastore, 1)) (kk : ∀ (H : Heap) (locs : List Loc), XW D h dA L (u.s_tg (va_up u.tg i v)) s.heap H locs → W p l e R s m args below meth c H locs cells slots Q (F0 m (pc + 1) ls rest)) : W p l e R s m args below meth c H locs cells slots Q (F0 m pc ls (.int (nI v) :: .int (nI i) :: .ref (h 2) :: rest)) := by
  refine va_bast C.1 C.2.1 C.2.2.2.2.2 hW.1 hW.2.1 hW.2.2 2 1 rfl rfl (vp_in_nI hi (by omega)) hdg (fun H locs hP hD hS => ?_)
  rw [nI_clamp (show i < 2 ^ 31 by omega), updB hv] at hP hD
  exact kk H locs ⟨hP, hD, hS⟩
theorem x_ld_sy (C : XC p s m args c cc nL D dA) (hW : XW D h dA L u s.heap H locs) {i : Nat} (hi : i < 40) (hdg : decode cc pc = .ok (.baload, 1)) (kk : W p l e R s m args below meth c H locs cells slots Q (F0 m (pc + 1) ls (.int (nI (u.sy i)) :: rest))) : W p l e R s m args below meth c H locs cells slots Q (F0 m pc ls (.int (nI i) :: .ref (h 3) :: rest)) := by
  refine va_bald C.1 C.2.1 C.2.2.2.2.2 hW.1 3 2 rfl rfl (vp_in_nI hi (by omega)) hdg ?_
  rw [nI_clamp (show i < 2 ^ 31 by omega)]
  exact kk
theorem x_st_sy (C : XC p s m args c cc nL D dA) (hW : XW D h dA L u s.heap H locs) {i : Nat} {v : Nat} (hi : i < 40) (hv : v < 128) (hdg : decode cc pc = .ok (.bastore, 1)) (kk : ∀ (H : Heap) (locs : List Loc), XW D h dA L (u.s_sy (va_up u.sy i v)) s.heap H locs → W p l e R s m args below meth c H locs cells slots Q (F0 m (pc + 1) ls rest)) : W p l e R s m args below meth c H locs cells slots Q (F0 m pc ls (.int (nI v) :: .int (nI i) :: .ref (h 3) :: rest)) := by
  refine va_bast C.1 C.2.1 C.2.2.2.2.2 hW.1 hW.2.1 hW.2.2 3 2 rfl rfl (vp_in_nI hi (by omega)) hdg (fun H locs hP hD hS => ?_)
  rw [nI_clamp (show i < 2 ^ 31 by omega), updB hv] at hP hD
  exact kk H locs ⟨hP, hD, hS⟩
theorem x_ld_sz (C : XC p s m args c cc nL D dA) (hW : XW D h dA L u s.heap H locs) {i : Nat} (hi : i < 40) (hdg : decode cc pc = .ok (.baload, 1)) (kk : W p l e R s m args below meth c H locs cells slots Q (F0 m (pc + 1) ls (.int (nI (u.sz i)) :: rest))) : W p l e R s m args below meth c H locs cells slots Q (F0 m pc ls (.int (nI i) :: .ref (h 4) :: rest)) := by
  refine va_bald C.1 C.2.1 C.2.2.2.2.2 hW.1 4 3 rfl rfl (vp_in_nI hi (by omega)) hdg ?_
  rw [nI_clamp (show i < 2 ^ 31 by omega)]
  exact kk
theorem x_st_sz (C : XC p s m args c cc nL D dA) (hW : XW D h dA L u s.heap H locs) {i : Nat} {v : Nat} (hi : i < 40) (hv : v < 128) (hdg : decode cc pc = .ok (.bastore, 1)) (kk : ∀ (H : Heap) (locs : List Loc), XW D h dA L (u.s_sz (va_up u.sz i v)) s.heap H locs → W p l e R s m args below meth c H locs cells slots Q (F0 m (pc + 1) ls rest)) : W p l e R s m args below meth c H locs cells slots Q (F0 m pc ls (.int (nI v) :: .int (nI i) :: .ref (h 4) :: rest)) := by
  refine va_bast C.1 C.2.1 C.2.2.2.2.2 hW.1 hW.2.1 hW.2.2 4 3 rfl rfl (vp_in_nI hi (by omega)) hdg (fun H locs hP hD hS => ?_)
  rw [nI_clamp (show i < 2 ^ 31 by omega), updB hv] at hP hD
  exact kk H locs ⟨hP, hD, hS⟩
theorem x_ld_L (C : XC p s m args c cc nL D dA) (hW : XW D h dA L u s.heap H locs) {i : Nat} (hi : i < 12) (hdg : decode cc pc = .ok (.baload, 1)) (kk : W p l e R s m args below meth c H locs cells slots Q (F0 m (pc + 1) ls (.int (nI (L i)) :: rest))) : W p l e R s m args below meth c H locs cells slots Q (F0 m pc ls (.int (nI i) :: .ref (h 6) :: rest)) := by
  refine va_bald C.1 C.2.1 C.2.2.2.2.2 hW.1 5 4 rfl rfl (vp_in_nI hi (by omega)) hdg ?_
  rw [nI_clamp (show i < 2 ^ 31 by omega)]
  exact kk
theorem x_st_L (C : XC p s m args c cc nL D dA) (hW : XW D h dA L u s.heap H locs) {i : Nat} {v : Nat} (hi : i < 12) (hv : v < 128) (hdg : decode cc pc = .ok (.bastore, 1)) (kk : ∀ (H : Heap) (locs : List Loc), XW D h dA (va_up L i v) u s.heap H locs → W p l e R s m args below meth c H locs cells slots Q (F0 m (pc + 1) ls rest)) : W p l e R s m args below meth c H locs cells slots Q (F0 m pc ls (.int (nI v) :: .int (nI i) :: .ref (h 6) :: rest)) := by
  refine va_bast C.1 C.2.1 C.2.2.2.2.2 hW.1 hW.2.1 hW.2.2 5 4 rfl rfl (vp_in_nI hi (by omega)) hdg (fun H locs hP hD hS => ?_)
  rw [nI_clamp (show i < 2 ^ 31 by omega), updB hv] at hP hD
  exact kk H locs ⟨hP, hD, hS⟩
theorem x_ld_wt (C : XC p s m args c cc nL D dA) (hW : XW D h dA L u s.heap H locs) {i : Nat} (hi : i < 12) (hdg : decode cc pc = .ok (.baload, 1)) (kk : W p l e R s m args below meth c H locs cells slots Q (F0 m (pc + 1) ls (.int (u.wt i) :: rest))) : W p l e R s m args below meth c H locs cells slots Q (F0 m pc ls (.int (nI i) :: .ref (h 7) :: rest)) := by
  refine va_bald C.1 C.2.1 C.2.2.2.2.2 hW.1 6 5 rfl rfl (vp_in_nI hi (by omega)) hdg ?_
  rw [nI_clamp (show i < 2 ^ 31 by omega)]
  exact kk
theorem x_st_wt (C : XC p s m args c cc nL D dA) (hW : XW D h dA L u s.heap H locs) {i : Nat} {v : Int32} (hi : i < 12) (hdg : decode cc pc = .ok (.bastore, 1)) (kk : ∀ (H : Heap) (locs : List Loc), XW D h dA L (u.s_wt (va_up u.wt i (vp_nar .byte v))) s.heap H locs → W p l e R s m args below meth c H locs cells slots Q (F0 m (pc + 1) ls rest)) : W p l e R s m args below meth c H locs cells slots Q (F0 m pc ls (.int v :: .int (nI i) :: .ref (h 7) :: rest)) := by
  refine va_bast C.1 C.2.1 C.2.2.2.2.2 hW.1 hW.2.1 hW.2.2 6 5 rfl rfl (vp_in_nI hi (by omega)) hdg (fun H locs hP hD hS => ?_)
  rw [nI_clamp (show i < 2 ^ 31 by omega), updR] at hP hD
  exact kk H locs ⟨hP, hD, hS⟩
theorem x_ld_st (C : XC p s m args c cc nL D dA) (hW : XW D h dA L u s.heap H locs) {i : Nat} (hi : i < 12) (hdg : decode cc pc = .ok (.baload, 1)) (kk : W p l e R s m args below meth c H locs cells slots Q (F0 m (pc + 1) ls (.int (nI (u.st i)) :: rest))) : W p l e R s m args below meth c H locs cells slots Q (F0 m pc ls (.int (nI i) :: .ref (h 8) :: rest)) := by
  refine va_bald C.1 C.2.1 C.2.2.2.2.2 hW.1 7 6 rfl rfl (vp_in_nI hi (by omega)) hdg ?_
  rw [nI_clamp (show i < 2 ^ 31 by omega)]
  exact kk
theorem x_st_st (C : XC p s m args c cc nL D dA) (hW : XW D h dA L u s.heap H locs) {i : Nat} {v : Nat} (hi : i < 12) (hv : v < 128) (hdg : decode cc pc = .ok (.bastore, 1)) (kk : ∀ (H : Heap) (locs : List Loc), XW D h dA L (u.s_st (va_up u.st i v)) s.heap H locs → W p l e R s m args below meth c H locs cells slots Q (F0 m (pc + 1) ls rest)) : W p l e R s m args below meth c H locs cells slots Q (F0 m pc ls (.int (nI v) :: .int (nI i) :: .ref (h 8) :: rest)) := by
  refine va_bast C.1 C.2.1 C.2.2.2.2.2 hW.1 hW.2.1 hW.2.2 7 6 rfl rfl (vp_in_nI hi (by omega)) hdg (fun H locs hP hD hS => ?_)
  rw [nI_clamp (show i < 2 ^ 31 by omega), updB hv] at hP hD
  exact kk H locs ⟨hP, hD, hS⟩
theorem x_ld_nu (C : XC p s m args c cc nL D dA) (hW : XW D h dA L u s.heap H locs) {i : Nat} (hi : i < 12) (hdg : decode cc pc = .ok (.iaload, 1)) (kk : W p l e R s m args below meth c H locs cells slots Q (F0 m (pc + 1) ls (.int (u.nu i) :: rest))) : W p l e R s m args below meth c H locs cells slots Q (F0 m pc ls (.int (nI i) :: .ref (h 9) :: rest)) := by
  refine va_iald C.1 C.2.1 C.2.2.2.2.2 hW.1 8 7 rfl rfl (vp_in_nI hi (by omega)) hdg ?_
  rw [nI_clamp (show i < 2 ^ 31 by omega)]
  exact kk
theorem x_st_nu (C : XC p s m args c cc nL D dA) (hW : XW D h dA L u s.heap H locs) {i : Nat} {v : Int32} (hi : i < 12) (hdg : decode cc pc = .ok (.iastore, 1)) (kk : ∀ (H : Heap) (locs : List Loc), XW D h dA L (u.s_nu (va_up u.nu i v)) s.heap H locs → W p l e R s m args below meth c H locs cells slots Q (F0 m (pc + 1) ls rest)) : W p l e R s m args below meth c H locs cells slots Q (F0 m pc ls (.int v :: .int (nI i) :: .ref (h 9) :: rest)) := by
  refine va_iast C.1 C.2.1 C.2.2.2.2.2 hW.1 hW.2.1 hW.2.2 8 7 rfl rfl (vp_in_nI hi (by omega)) hdg (fun H locs hP hD hS => ?_)
  rw [nI_clamp (show i < 2 ^ 31 by omega), updR] at hP hD
  exact kk H locs ⟨hP, hD, hS⟩
theorem x_ld_lf (C : XC p s m args c cc nL D dA) (hW : XW D h dA L u s.heap H locs) {i : Nat} (hi : i < 12) (hdg : decode cc pc = .ok (.baload, 1)) (kk : W p l e R s m args below meth c H locs cells slots Q (F0 m (pc + 1) ls (.int (nI (u.lf i)) :: rest))) : W p l e R s m args below meth c H locs cells slots Q (F0 m pc ls (.int (nI i) :: .ref (h 10) :: rest)) := by
  refine va_bald C.1 C.2.1 C.2.2.2.2.2 hW.1 9 8 rfl rfl (vp_in_nI hi (by omega)) hdg ?_
  rw [nI_clamp (show i < 2 ^ 31 by omega)]
  exact kk
theorem x_st_lf (C : XC p s m args c cc nL D dA) (hW : XW D h dA L u s.heap H locs) {i : Nat} {v : Nat} (hi : i < 12) (hv : v < 128) (hdg : decode cc pc = .ok (.bastore, 1)) (kk : ∀ (H : Heap) (locs : List Loc), XW D h dA L (u.s_lf (va_up u.lf i v)) s.heap H locs → W p l e R s m args below meth c H locs cells slots Q (F0 m (pc + 1) ls rest)) : W p l e R s m args below meth c H locs cells slots Q (F0 m pc ls (.int (nI v) :: .int (nI i) :: .ref (h 10) :: rest)) := by
  refine va_bast C.1 C.2.1 C.2.2.2.2.2 hW.1 hW.2.1 hW.2.2 9 8 rfl rfl (vp_in_nI hi (by omega)) hdg (fun H locs hP hD hS => ?_)
  rw [nI_clamp (show i < 2 ^ 31 by omega), updB hv] at hP hD
  exact kk H locs ⟨hP, hD, hS⟩
theorem x_ld_rt (C : XC p s m args c cc nL D dA) (hW : XW D h dA L u s.heap H locs) {i : Nat} (hi : i < 12) (hdg : decode cc pc = .ok (.baload, 1)) (kk : W p l e R s m args below meth c H locs cells slots Q (F0 m (pc + 1) ls (.int (nI (u.rt i)) :: rest))) : W p l e R s m args below meth c H locs cells slots Q (F0 m pc ls (.int (nI i) :: .ref (h 11) :: rest)) := by
  refine va_bald C.1 C.2.1 C.2.2.2.2.2 hW.1 10 9 rfl rfl (vp_in_nI hi (by omega)) hdg ?_
  rw [nI_clamp (show i < 2 ^ 31 by omega)]
  exact kk
theorem x_st_rt (C : XC p s m args c cc nL D dA) (hW : XW D h dA L u s.heap H locs) {i : Nat} {v : Nat} (hi : i < 12) (hv : v < 128) (hdg : decode cc pc = .ok (.bastore, 1)) (kk : ∀ (H : Heap) (locs : List Loc), XW D h dA L (u.s_rt (va_up u.rt i v)) s.heap H locs → W p l e R s m args below meth c H locs cells slots Q (F0 m (pc + 1) ls rest)) : W p l e R s m args below meth c H locs cells slots Q (F0 m pc ls (.int (nI v) :: .int (nI i) :: .ref (h 11) :: rest)) := by
  refine va_bast C.1 C.2.1 C.2.2.2.2.2 hW.1 hW.2.1 hW.2.2 10 9 rfl rfl (vp_in_nI hi (by omega)) hdg (fun H locs hP hD hS => ?_)
  rw [nI_clamp (show i < 2 ^ 31 by omega), updB hv] at hP hD
  exact kk H locs ⟨hP, hD, hS⟩
theorem x_ld_wa (C : XC p s m args c cc nL D dA) (hW : XW D h dA L u s.heap H locs) {i : Nat} (hi : i < 12) (hdg : decode cc pc = .ok (.laload, 1)) (kk : W p l e R s m args below meth c H locs cells slots Q (F0 m (pc + 1) ls (.long (u.wa i) :: rest))) : W p l e R s m args below meth c H locs cells slots Q (F0 m pc ls (.int (nI i) :: .ref (h 12) :: rest)) := by
  refine va_lald C.1 C.2.1 C.2.2.2.2.2 hW.1 11 10 rfl rfl (vp_in_nI hi (by omega)) hdg ?_
  rw [nI_clamp (show i < 2 ^ 31 by omega)]
  exact kk
theorem x_st_wa (C : XC p s m args c cc nL D dA) (hW : XW D h dA L u s.heap H locs) {i : Nat} {v : Int64} (hi : i < 12) (hdg : decode cc pc = .ok (.lastore, 1)) (kk : ∀ (H : Heap) (locs : List Loc), XW D h dA L (u.s_wa (va_up u.wa i v)) s.heap H locs → W p l e R s m args below meth c H locs cells slots Q (F0 m (pc + 1) ls rest)) : W p l e R s m args below meth c H locs cells slots Q (F0 m pc ls (.long v :: .int (nI i) :: .ref (h 12) :: rest)) := by
  refine va_last C.1 C.2.1 C.2.2.2.2.2 hW.1 hW.2.1 hW.2.2 11 10 rfl rfl (vp_in_nI hi (by omega)) hdg (fun H locs hP hD hS => ?_)
  rw [nI_clamp (show i < 2 ^ 31 by omega), updL] at hP hD
  exact kk H locs ⟨hP, hD, hS⟩
theorem x_ld_ja (C : XC p s m args c cc nL D dA) (hW : XW D h dA L u s.heap H locs) {i : Nat} (hi : i < 40) (hdg : decode cc pc = .ok (.baload, 1)) (kk : W p l e R s m args below meth c H locs cells slots Q (F0 m (pc + 1) ls (.int (nI (u.ja i)) :: rest))) : W p l e R s m args below meth c H locs cells slots Q (F0 m pc ls (.int (nI i) :: .ref (h 14) :: rest)) := by
  refine va_bald C.1 C.2.1 C.2.2.2.2.2 hW.1 12 11 rfl rfl (vp_in_nI hi (by omega)) hdg ?_
  rw [nI_clamp (show i < 2 ^ 31 by omega)]
  exact kk
theorem x_st_ja (C : XC p s m args c cc nL D dA) (hW : XW D h dA L u s.heap H locs) {i : Nat} {v : Nat} (hi : i < 40) (hv : v < 128) (hdg : decode cc pc = .ok (.bastore, 1)) (kk : ∀ (H : Heap) (locs : List Loc), XW D h dA L (u.s_ja (va_up u.ja i v)) s.heap H locs → W p l e R s m args below meth c H locs cells slots Q (F0 m (pc + 1) ls rest)) : W p l e R s m args below meth c H locs cells slots Q (F0 m pc ls (.int (nI v) :: .int (nI i) :: .ref (h 14) :: rest)) := by
  refine va_bast C.1 C.2.1 C.2.2.2.2.2 hW.1 hW.2.1 hW.2.2 12 11 rfl rfl (vp_in_nI hi (by omega)) hdg (fun H locs hP hD hS => ?_)
  rw [nI_clamp (show i < 2 ^ 31 by omega), updB hv] at hP hD
  exact kk H locs ⟨hP, hD, hS⟩
theorem x_ld_jb (C : XC p s m args c cc nL D dA) (hW : XW D h dA L u s.heap H locs) {i : Nat} (hi : i < 40) (hdg : decode cc pc = .ok (.baload, 1)) (kk : W p l e R s m args below meth c H locs cells slots Q (F0 m (pc + 1) ls (.int (nI (u.jb i)) :: rest))) : W p l e R s m args below meth c H locs cells slots Q (F0 m pc ls (.int (nI i) :: .ref (h 15) :: rest)) := by
  refine va_bald C.1 C.2.1 C.2.2.2.2.2 hW.1 13 12 rfl rfl (vp_in_nI hi (by omega)) hdg ?_
  rw [nI_clamp (show i < 2 ^ 31 by omega)]
  exact kk
theorem x_st_jb (C : XC p s m args c cc nL D dA) (hW : XW D h dA L u s.heap H locs) {i : Nat} {v : Nat} (hi : i < 40) (hv : v < 128) (hdg : decode cc pc = .ok (.bastore, 1)) (kk : ∀ (H : Heap) (locs : List Loc), XW D h dA L (u.s_jb (va_up u.jb i v)) s.heap H locs → W p l e R s m args below meth c H locs cells slots Q (F0 m (pc + 1) ls rest)) : W p l e R s m args below meth c H locs cells slots Q (F0 m pc ls (.int (nI v) :: .int (nI i) :: .ref (h 15) :: rest)) := by
  refine va_bast C.1 C.2.1 C.2.2.2.2.2 hW.1 hW.2.1 hW.2.2 13 12 rfl rfl (vp_in_nI hi (by omega)) hdg (fun H locs hP hD hS => ?_)
  rw [nI_clamp (show i < 2 ^ 31 by omega), updB hv] at hP hD
  exact kk H locs ⟨hP, hD, hS⟩
theorem x_vret (C : XC p s m args c cc nL D dA) (hW : XW D h dA L u s.heap H locs) {post : (Nat → Nat) → XSt → Prop} (hr : meth.sig.returnType = none) (hlocks : meth.locks = false) (hp : post L u) (hdg : decode cc pc = .ok (.return_, 1)) : W p l e R s m args below meth c H locs 0 0 (MQ below (XQv D h dA post) args s 0 0 (AX h)) (F0 m pc ls []) :=
  W.vret C.1 C.2.1 hr (fun t ht hw => ⟨⟨(L, u), rfl, hp, by rw [ht]; exact hW.1, hW.2.1, va_K.moved hw.alike C.2.2.2.2.2⟩, hW.2.2.F ht⟩) hW.2.2.2.2 hdg hlocks
theorem x_iret (C : XC p s m args c cc nL D dA) (hW : XW D h dA L u s.heap H locs) {v : Int32} {post : Int32 → (Nat → Nat) → XSt → Prop} (hr : meth.sig.returnType = some .int) (hlocks : meth.locks = false) (hp : post v L u) (hdg : decode cc pc = .ok (.ireturn, 1)) : W p l e R s m args below meth c H locs 0 0 (MQ below (XQi D h dA post) args s 0 0 (AX h)) (F0 m pc ls [.int v]) :=
  W.iret C.1 C.2.1 hr (fun t ht hw => ⟨⟨v, (L, u), rfl, hp, by rw [ht]; exact hW.1, hW.2.1, va_K.moved hw.alike C.2.2.2.2.2⟩, hW.2.2.F ht⟩) hW.2.2.2.2 hdg hlocks
theorem x_zret (C : XC p s m args c cc nL D dA) (hW : XW D h dA L u s.heap H locs) {v : Bool} {post : Int32 → (Nat → Nat) → XSt → Prop} (hr : meth.sig.returnType = some .boolean) (hlocks : meth.locks = false) (hp : post (bI v) L u) (hdg : decode cc pc = .ok (.ireturn, 1)) : W p l e R s m args below meth c H locs 0 0 (MQ below (XQi D h dA post) args s 0 0 (AX h)) (F0 m pc ls [.int (bI v)]) :=
  W.zret C.1 C.2.1 hr (by cases v <;> rfl) (fun t ht hw => ⟨⟨bI v, (L, u), rfl, hp, by rw [ht]; exact hW.1, hW.2.1, va_K.moved hw.alike C.2.2.2.2.2⟩, hW.2.2.F ht⟩) hW.2.2.2.2 hdg hlocks
theorem x_met {y : MethodName} {maxL : Nat} {ret : Option FieldType} {rm : Room} {As : List Value} {Qc : Array Value → State → Outcome → State → Prop} (hcl : y.cls = RX0) (hlen : (lg_sl (.ref (h 0) :: As)).length ≤ maxL) (body : ∀ (p : Program) (e : Env) (s : State) (m : MethodId) (below : List Frame) (meth : Method) (c : Code) (ls : Array Slot), XC p s m (.ref (h 0) :: As).toArray c cc maxL D dA → meth.sig.returnType = ret → meth.locks = false → XW D h dA L u s.heap s.heap [] → lv_has ls maxL (lv_args 0 (.ref (h 0) :: As)) → W p l e rm s m (.ref (h 0) :: As).toArray below meth c s.heap [] 0 0 (MQ below Qc (.ref (h 0) :: As).toArray s 0 0 (AX h)) (F0 m 0 ls [])) : Met l y (ws_ y cc maxL ret) rm (XPc D h dA L u As) Qc 0 0 (AX h) := by
  refine Met.ofW (cc := cc) (maxL := maxL) (ret := ret) (by rw [hcl]; decide) rfl ?_
  intro p e s m args below meth c s₁ B hml hv
  obtain ⟨rfl, hP, hD, hK⟩ := hv
  have hts := atoms_spec (ws := ws_ y cc maxL ret) B.pre
  have hts : ∀ w ∈ lw_all, w.before _ s = true := fun w h => hts w (List.mem_cons_of_mem _ h)
  have hl := lv_entry (.ref (h 0) :: As) (n := maxL) hlen
  rw [lg_entry_eq]
  exact body p e s m below meth c _ ⟨B.exec, B.bytes, hml, by rw [← hcl]; exact findClass_of_methodNamed B.named, hts, hK⟩ B.returns B.notSynchronized ⟨hP, hD, va_S.rf⟩ hl
theorem x_callv (C : XC p s m args c cc nL D dA) (hW : XW D h dA L u s.heap H locs) {index : Nat} {y : MethodName} {bytes : ByteArray} {maxL n : Nat} {rm : Room} {As st0 : List Value} {post : (Nat → Nat) → XSt → Prop} (hM : Met l y (ws_ y bytes maxL none) rm (XPc D h dA L u As) (XQv D h dA post) 0 0 (AX h)) (cb : Cb RX0 RX0 index y bytes maxL none n) (hR : rm.frames + 1 ≤ R.frames ∧ 8 + (maxL + 11) + rm.locals ≤ R.locals) (hrm : rm.cells = 0 ∧ rm.slots = 0) (hRm : cells ≤ R.cells ∧ slots ≤ R.slots) (hn : As.length = n) (hsz : ls.size = nL) (hst : st0 = As.reverse ++ .ref (h 0) :: rest) (hroom : (rest.map fun v => v.category).sum ≤ 8) (hdg : decode cc pc = .ok (.invokevirtual index, 3)) (kk : ∀ (L' : Nat → Nat) (u' : XSt) (H : Heap) (locs : List Loc), post L' u' → XW D h dA L' u' s.heap H locs → W p l e R s m args below meth c H locs cells slots Q (F0 m (pc + 3) ls rest)) : W p l e R s m args below meth c H locs cells slots Q (F0 m pc ls st0) := by
  subst hst
  refine va_callv (va_runV (cc := cc) (nL := nL) (Ts := lw_all) (own := RX0) (C := RX0) (b := h 0) (As := As) (rest := rest) (index := index) (n := n) (g := F0 m pc ls (As.reverse ++ .ref (h 0) :: rest)) ⟨C.1, C.2.1, C.2.2.1, C.2.2.2.1, C.2.2.2.2.1⟩ hM (cwV n C.2.2.2.2.1 (lw_V cb.1 cb.2.1 cb.2.2.1 cb.2.2.2.1 cb.2.2.2.2.1) rfl hrm.1 hrm.2 cb.2.2.2.2.2 hR) ⟨XB.blind, va_recv C.2.2.2.2.2 hW.1 (ci := 0) (q0 := 0) rfl rfl, fun U hU hw => ⟨rfl, by rw [hU]; exact hW.1, hW.2.1, va_K.moved hw.alike C.2.2.2.2.2⟩⟩ rfl hn hsz rfl (lv_room hroom) hdg hRm) hW.2.2 (fun q _ hq => hq) (fun q hq => hq) (fun u1 t H1 locs1 ht hvm hp hB hz hk hS => ?_)
  obtain ⟨hP1, hD1, hK1⟩ := hB
  rw [ht] at hP1
  exact kk u1.1 u1.2 H1 locs1 hp ⟨hP1, hD1, hS⟩
theorem x_calli (C : XC p s m args c cc nL D dA) (hW : XW D h dA L u s.heap H locs) {index : Nat} {y : MethodName} {bytes : ByteArray} {maxL n : Nat} {rm : Room} {As st0 : List Value} {post : Int32 → (Nat → Nat) → XSt → Prop} (hM : Met l y (ws_ y bytes maxL (some .int)) rm (XPc D h dA L u As) (XQi D h dA post) 0 0 (AX h)) (cb : Cb RX0 RX0 index y bytes maxL (some .int) n) (hR : rm.frames + 1 ≤ R.frames ∧ 8 + (maxL + 11) + rm.locals ≤ R.locals) (hrm : rm.cells = 0 ∧ rm.slots = 0) (hRm : cells ≤ R.cells ∧ slots ≤ R.slots) (hn : As.length = n) (hsz : ls.size = nL) (hst : st0 = As.reverse ++ .ref (h 0) :: rest) (hroom : (rest.map fun v => v.category).sum ≤ 8) (hdg : decode cc pc = .ok (.invokevirtual index, 3)) (kk : ∀ (r : Int32) (L' : Nat → Nat) (u' : XSt) (H : Heap) (locs : List Loc), post r L' u' → XW D h dA L' u' s.heap H locs → W p l e R s m args below meth c H locs cells slots Q (F0 m (pc + 3) ls (.int r :: rest))) : W p l e R s m args below meth c H locs cells slots Q (F0 m pc ls st0) := by
  subst hst
  refine va_calli (va_runV (cc := cc) (nL := nL) (Ts := lw_all) (own := RX0) (C := RX0) (b := h 0) (As := As) (rest := rest) (index := index) (n := n) (g := F0 m pc ls (As.reverse ++ .ref (h 0) :: rest)) ⟨C.1, C.2.1, C.2.2.1, C.2.2.2.1, C.2.2.2.2.1⟩ hM (cwV n C.2.2.2.2.1 (lw_V cb.1 cb.2.1 cb.2.2.1 cb.2.2.2.1 cb.2.2.2.2.1) rfl hrm.1 hrm.2 cb.2.2.2.2.2 hR) ⟨XB.blind, va_recv C.2.2.2.2.2 hW.1 (ci := 0) (q0 := 0) rfl rfl, fun U hU hw => ⟨rfl, by rw [hU]; exact hW.1, hW.2.1, va_K.moved hw.alike C.2.2.2.2.2⟩⟩ rfl hn hsz rfl (lv_room hroom) hdg hRm) hW.2.2 (fun q _ hq => hq) (fun q hq => hq) (fun r u1 t H1 locs1 ht hvm hp hB hz hk hS => ?_)
  obtain ⟨hP1, hD1, hK1⟩ := hB
  rw [ht] at hP1
  exact kk r u1.1 u1.2 H1 locs1 hp ⟨hP1, hD1, hS⟩
theorem x_callz (C : XC p s m args c cc nL D dA) (hW : XW D h dA L u s.heap H locs) {index : Nat} {y : MethodName} {bytes : ByteArray} {maxL n : Nat} {rm : Room} {As st0 : List Value} {post : Int32 → (Nat → Nat) → XSt → Prop} (hM : Met l y (ws_ y bytes maxL (some .boolean)) rm (XPc D h dA L u As) (XQi D h dA post) 0 0 (AX h)) (cb : Cb RX0 RX0 index y bytes maxL (some .boolean) n) (hR : rm.frames + 1 ≤ R.frames ∧ 8 + (maxL + 11) + rm.locals ≤ R.locals) (hrm : rm.cells = 0 ∧ rm.slots = 0) (hRm : cells ≤ R.cells ∧ slots ≤ R.slots) (hn : As.length = n) (hsz : ls.size = nL) (hst : st0 = As.reverse ++ .ref (h 0) :: rest) (hroom : (rest.map fun v => v.category).sum ≤ 8) (hdg : decode cc pc = .ok (.invokevirtual index, 3)) (kk : ∀ (r : Int32) (L' : Nat → Nat) (u' : XSt) (H : Heap) (locs : List Loc), post r L' u' → XW D h dA L' u' s.heap H locs → W p l e R s m args below meth c H locs cells slots Q (F0 m (pc + 3) ls (.int r :: rest))) : W p l e R s m args below meth c H locs cells slots Q (F0 m pc ls st0) := by
  subst hst
  refine va_calli (va_runV (cc := cc) (nL := nL) (Ts := lw_all) (own := RX0) (C := RX0) (b := h 0) (As := As) (rest := rest) (index := index) (n := n) (g := F0 m pc ls (As.reverse ++ .ref (h 0) :: rest)) ⟨C.1, C.2.1, C.2.2.1, C.2.2.2.1, C.2.2.2.2.1⟩ hM (cwV n C.2.2.2.2.1 (lw_V cb.1 cb.2.1 cb.2.2.1 cb.2.2.2.1 cb.2.2.2.2.1) rfl hrm.1 hrm.2 cb.2.2.2.2.2 hR) ⟨XB.blind, va_recv C.2.2.2.2.2 hW.1 (ci := 0) (q0 := 0) rfl rfl, fun U hU hw => ⟨rfl, by rw [hU]; exact hW.1, hW.2.1, va_K.moved hw.alike C.2.2.2.2.2⟩⟩ rfl hn hsz rfl (lv_room hroom) hdg hRm) hW.2.2 (fun q _ hq => hq) (fun q hq => hq) (fun r u1 t H1 locs1 ht hvm hp hB hz hk hS => ?_)
  obtain ⟨hP1, hD1, hK1⟩ := hB
  rw [ht] at hP1
  exact kk r u1.1 u1.2 H1 locs1 hp ⟨hP1, hD1, hS⟩
end
end
section
set_option maxRecDepth 100000
def YSt : Type := (Nat) × (Nat → Nat) × (Nat → Nat) × (Nat → Int32) × (Nat → Int32) × (Nat → Nat) × (Nat → Bool) × (Nat → Int32) × (Nat → Bool) × (Nat → Nat) × (Nat → Nat) × (Bool) × (Bool)
def YSt.n (u : YSt) : Nat := u.1
def YSt.kd (u : YSt) : Nat → Nat := u.2.1
def YSt.ax (u : YSt) : Nat → Nat := u.2.2.1
def YSt.ay (u : YSt) : Nat → Int32 := u.2.2.2.1
def YSt.az (u : YSt) : Nat → Int32 := u.2.2.2.2.1
def YSt.le (u : YSt) : Nat → Nat := u.2.2.2.2.2.1
def YSt.ii (u : YSt) : Nat → Bool := u.2.2.2.2.2.2.1
def YSt.iv (u : YSt) : Nat → Int32 := u.2.2.2.2.2.2.2.1
def YSt.ip (u : YSt) : Nat → Bool := u.2.2.2.2.2.2.2.2.1
def YSt.pa (u : YSt) : Nat → Nat := u.2.2.2.2.2.2.2.2.2.1
def YSt.pb (u : YSt) : Nat → Nat := u.2.2.2.2.2.2.2.2.2.2.1
def YSt.bk (u : YSt) : Bool := u.2.2.2.2.2.2.2.2.2.2.2.1
def YSt.fr (u : YSt) : Bool := u.2.2.2.2.2.2.2.2.2.2.2.2
def YSt.s_n (u : YSt) (v : Nat) : YSt := (v, u.2.1, u.2.2.1, u.2.2.2.1, u.2.2.2.2.1, u.2.2.2.2.2.1, u.2.2.2.2.2.2.1, u.2.2.2.2.2.2.2.1, u.2.2.2.2.2.2.2.2.1, u.2.2.2.2.2.2.2.2.2.1, u.2.2.2.2.2.2.2.2.2.2.1, u.2.2.2.2.2.2.2.2.2.2.2.1, u.2.2.2.2.2.2.2.2.2.2.2.2)
def YSt.s_kd (u : YSt) (v : Nat → Nat) : YSt := (u.1, v, u.2.2.1, u.2.2.2.1, u.2.2.2.2.1, u.2.2.2.2.2.1, u.2.2.2.2.2.2.1, u.2.2.2.2.2.2.2.1, u.2.2.2.2.2.2.2.2.1, u.2.2.2.2.2.2.2.2.2.1, u.2.2.2.2.2.2.2.2.2.2.1, u.2.2.2.2.2.2.2.2.2.2.2.1, u.2.2.2.2.2.2.2.2.2.2.2.2)
def YSt.s_ax (u : YSt) (v : Nat → Nat) : YSt := (u.1, u.2.1, v, u.2.2.2.1, u.2.2.2.2.1, u.2.2.2.2.2.1, u.2.2.2.2.2.2.1, u.2.2.2.2.2.2.2.1, u.2.2.2.2.2.2.2.2.1, u.2.2.2.2.2.2.2.2.2.1, u.2.2.2.2.2.2.2.2.2.2.1, u.2.2.2.2.2.2.2.2.2.2.2.1, u.2.2.2.2.2.2.2.2.2.2.2.2)
def YSt.s_ay (u : YSt) (v : Nat → Int32) : YSt := (u.1, u.2.1, u.2.2.1, v, u.2.2.2.2.1, u.2.2.2.2.2.1, u.2.2.2.2.2.2.1, u.2.2.2.2.2.2.2.1, u.2.2.2.2.2.2.2.2.1, u.2.2.2.2.2.2.2.2.2.1, u.2.2.2.2.2.2.2.2.2.2.1, u.2.2.2.2.2.2.2.2.2.2.2.1, u.2.2.2.2.2.2.2.2.2.2.2.2)
def YSt.s_az (u : YSt) (v : Nat → Int32) : YSt := (u.1, u.2.1, u.2.2.1, u.2.2.2.1, v, u.2.2.2.2.2.1, u.2.2.2.2.2.2.1, u.2.2.2.2.2.2.2.1, u.2.2.2.2.2.2.2.2.1, u.2.2.2.2.2.2.2.2.2.1, u.2.2.2.2.2.2.2.2.2.2.1, u.2.2.2.2.2.2.2.2.2.2.2.1, u.2.2.2.2.2.2.2.2.2.2.2.2)
def YSt.s_le (u : YSt) (v : Nat → Nat) : YSt := (u.1, u.2.1, u.2.2.1, u.2.2.2.1, u.2.2.2.2.1, v, u.2.2.2.2.2.2.1, u.2.2.2.2.2.2.2.1, u.2.2.2.2.2.2.2.2.1, u.2.2.2.2.2.2.2.2.2.1, u.2.2.2.2.2.2.2.2.2.2.1, u.2.2.2.2.2.2.2.2.2.2.2.1, u.2.2.2.2.2.2.2.2.2.2.2.2)
def YSt.s_ii (u : YSt) (v : Nat → Bool) : YSt := (u.1, u.2.1, u.2.2.1, u.2.2.2.1, u.2.2.2.2.1, u.2.2.2.2.2.1, v, u.2.2.2.2.2.2.2.1, u.2.2.2.2.2.2.2.2.1, u.2.2.2.2.2.2.2.2.2.1, u.2.2.2.2.2.2.2.2.2.2.1, u.2.2.2.2.2.2.2.2.2.2.2.1, u.2.2.2.2.2.2.2.2.2.2.2.2)
def YSt.s_iv (u : YSt) (v : Nat → Int32) : YSt := (u.1, u.2.1, u.2.2.1, u.2.2.2.1, u.2.2.2.2.1, u.2.2.2.2.2.1, u.2.2.2.2.2.2.1, v, u.2.2.2.2.2.2.2.2.1, u.2.2.2.2.2.2.2.2.2.1, u.2.2.2.2.2.2.2.2.2.2.1, u.2.2.2.2.2.2.2.2.2.2.2.1, u.2.2.2.2.2.2.2.2.2.2.2.2)
def YSt.s_ip (u : YSt) (v : Nat → Bool) : YSt := (u.1, u.2.1, u.2.2.1, u.2.2.2.1, u.2.2.2.2.1, u.2.2.2.2.2.1, u.2.2.2.2.2.2.1, u.2.2.2.2.2.2.2.1, v, u.2.2.2.2.2.2.2.2.2.1, u.2.2.2.2.2.2.2.2.2.2.1, u.2.2.2.2.2.2.2.2.2.2.2.1, u.2.2.2.2.2.2.2.2.2.2.2.2)
def YSt.s_pa (u : YSt) (v : Nat → Nat) : YSt := (u.1, u.2.1, u.2.2.1, u.2.2.2.1, u.2.2.2.2.1, u.2.2.2.2.2.1, u.2.2.2.2.2.2.1, u.2.2.2.2.2.2.2.1, u.2.2.2.2.2.2.2.2.1, v, u.2.2.2.2.2.2.2.2.2.2.1, u.2.2.2.2.2.2.2.2.2.2.2.1, u.2.2.2.2.2.2.2.2.2.2.2.2)
def YSt.s_pb (u : YSt) (v : Nat → Nat) : YSt := (u.1, u.2.1, u.2.2.1, u.2.2.2.1, u.2.2.2.2.1, u.2.2.2.2.2.1, u.2.2.2.2.2.2.1, u.2.2.2.2.2.2.2.1, u.2.2.2.2.2.2.2.2.1, u.2.2.2.2.2.2.2.2.2.1, v, u.2.2.2.2.2.2.2.2.2.2.2.1, u.2.2.2.2.2.2.2.2.2.2.2.2)
def YSt.s_bk (u : YSt) (v : Bool) : YSt := (u.1, u.2.1, u.2.2.1, u.2.2.2.1, u.2.2.2.2.1, u.2.2.2.2.2.1, u.2.2.2.2.2.2.1, u.2.2.2.2.2.2.2.1, u.2.2.2.2.2.2.2.2.1, u.2.2.2.2.2.2.2.2.2.1, u.2.2.2.2.2.2.2.2.2.2.1, v, u.2.2.2.2.2.2.2.2.2.2.2.2)
def YSt.s_fr (u : YSt) (v : Bool) : YSt := (u.1, u.2.1, u.2.2.1, u.2.2.2.1, u.2.2.2.2.1, u.2.2.2.2.2.1, u.2.2.2.2.2.2.1, u.2.2.2.2.2.2.2.1, u.2.2.2.2.2.2.2.2.1, u.2.2.2.2.2.2.2.2.2.1, u.2.2.2.2.2.2.2.2.2.2.1, u.2.2.2.2.2.2.2.2.2.2.2.1, v)
def fY (h : Nat → Nat) (u : YSt) : List Value := [.int (nI u.n), .ref (h 1), .ref (h 2), .ref (h 3), .ref (h 4), .ref (h 5), .ref (h 6), .ref (h 7), .ref (h 8), .ref (h 9), .ref (h 10), .int (bI u.bk), .int (bI u.fr)]
def wY (h : Nat → Nat) (dA : Nat → ClassId) (u : YSt) : va_W := [(h 0, .inr (1, fY h u)), (h 1, .inl (dA 1, 40, .inl (fun i => nI (u.kd i)))), (h 2, .inl (dA 2, 40, .inl (fun i => nI (u.ax i)))), (h 3, .inl (dA 3, 40, .inl (u.ay))), (h 4, .inl (dA 4, 40, .inl (u.az))), (h 5, .inl (dA 5, 12, .inl (fun i => nI (u.le i)))), (h 6, .inl (dA 6, 12, .inl (fun i => bI (u.ii i)))), (h 7, .inl (dA 7, 12, .inl (u.iv))), (h 8, .inl (dA 8, 12, .inl (fun i => bI (u.ip i)))), (h 9, .inl (dA 9, 12, .inl (fun i => nI (u.pa i)))), (h 10, .inl (dA 10, 12, .inl (fun i => nI (u.pb i))))]
def tY (dA : Nat → ClassId) : List (ClassId × FieldType) := [(dA 1, .int), (dA 2, .int), (dA 3, .int), (dA 4, .int), (dA 5, .int), (dA 6, .boolean), (dA 7, .int), (dA 8, .boolean), (dA 9, .int), (dA 10, .int)]
def AY (h : Nat → Nat) : Nat → Prop := fun q => ∃ k, k < 18 ∧ q = h k
def YC (p : Program) (s : State) (m : MethodId) (args : Array Value) (c : Code) (cc : ByteArray) (nL : Nat) (D : va_G) (dA : Nat → ClassId) : Prop := p.tables.exec = Jvm.exec ∧ c.code = cc ∧ c.maxLocals = nL ∧ s.vm.findClass RX1 = some m.cls ∧ (∀ w ∈ lw_all, w.before args s = true) ∧ va_K D vwCl (tY dA) s
def YW (D : va_G) (h : Nat → Nat) (dA : Nat → ClassId) (u : YSt) (H0 H : Heap) (locs : List Loc) : Prop := va_P D vwCl (wY h dA u) H ∧ va_D (AY h) (wY h dA u) ∧ va_S (AY h) H0 H locs
def YB (D : va_G) (h : Nat → Nat) (dA : Nat → ClassId) (u : YSt) (t : State) : Prop := va_P D vwCl (wY h dA u) t.heap ∧ va_D (AY h) (wY h dA u) ∧ va_K D vwCl (tY dA) t
def YPc (D : va_G) (h : Nat → Nat) (dA : Nat → ClassId) (u : YSt) (As : List Value) : Array Value → State → Prop := va_Pc (.ref (h 0) :: As) (fun U => YB D h dA u U)
def YQv (D : va_G) (h : Nat → Nat) (dA : Nat → ClassId) (post : YSt → Prop) : Array Value → State → Outcome → State → Prop := va_Qv (fun q : YSt => post q) (fun q t => YB D h dA q t) (AY h)
def YQi (D : va_G) (h : Nat → Nat) (dA : Nat → ClassId) (post : Int32 → YSt → Prop) : Array Value → State → Outcome → State → Prop := va_Qi (fun (r : Int32) (q : YSt) => post r q) (fun q t => YB D h dA q t) (AY h)
theorem YB.blind {D : va_G} {h : Nat → Nat} {dA : Nat → ClassId} {u : YSt} {As : List Value} : FrameBlind (YPc D h dA u As) := fun a U g mk q => ⟨q.1, q.2.1, q.2.2.1, va_K.moved (u := U) (U := U.calling g mk a) (Vm.Alike.refl U.vm) q.2.2.2⟩
section
variable {p : Program} {l : Launch} {e : Env} {R : Room} {s : State} {m : MethodId} {args : Array Value} {below : List Frame} {meth : Method} {c : Code} {H : Heap} {locs : List Loc} {cells slots : Nat} {Q : State → Prop} {cc : ByteArray} {pc nL : Nat} {ls : Array Slot} {rest : List Value} {D : va_G} {h : Nat → Nat} {dA : Nat → ClassId} {u : YSt}
theorem y_get (C : YC p s m args c cc nL D dA) (hW : YW D h dA u s.heap H locs) (k : Nat) (hk : k < 13) {idx : Nat} (hl : Cond.fieldLink RX1 idx RX1 (TX1 k).2.1 (TX1 k).2.2.1 ∈ lw_all) (hrr : (TX1 k).1 = RX1) {v : Value} (hv : (fY h u)[k]? = some v) (hdg : decode cc pc = .ok (.getfield idx, 3)) (kk : W p l e R s m args below meth c H locs cells slots Q (F0 m (pc + 3) ls (v :: rest))) : W p l e R s m args below meth c H locs cells slots Q (F0 m pc ls (.ref (h 0) :: rest)) :=
  va_get (ci := 1) (C := RX1) (T := TX1) (N := 13) C.1 C.2.1 C.2.2.2.2.1 in_X1 C.2.2.2.1 C.2.2.2.2.2 hW.1 0 (fs := fY h u) rfl rfl k hk (C.2.2.2.2.1 _ hl) (fun x hx => by rw [hrr] at hx; exact hx) hv hdg kk
theorem y_put_n (C : YC p s m args c cc nL D dA) (hW : YW D h dA u s.heap H locs) {v : Nat} {idx : Nat} (hl : Cond.fieldLink RX1 idx RX1 (TX1 0).2.1 (TX1 0).2.2.1 ∈ lw_all) (hdg : decode cc pc = .ok (.putfield idx, 3)) (kk : ∀ (H : Heap) (locs : List Loc), YW D h dA (u.s_n v) s.heap H locs → W p l e R s m args below meth c H locs cells slots Q (F0 m (pc + 3) ls rest)) : W p l e R s m args below meth c H locs cells slots Q (F0 m pc ls (.int (nI v) :: .ref (h 0) :: rest)) :=
  va_put (ci := 1) (C := RX1) (T := TX1) (N := 13) (ty := .int) C.1 C.2.1 C.2.2.2.2.1 in_X1 tyX1 tyX1_ok nmX1 C.2.2.2.1 C.2.2.2.2.2 hW.1 hW.2.1 hW.2.2 0 (fs := fY h u) rfl rfl 0 (by decide) (C.2.2.2.2.1 _ hl) (fun x hx => hx) rfl (by decide +kernel) rfl rfl (Nat.le_of_ble_eq_true rfl) hdg (fun H locs hP hD hS => kk H locs ⟨hP, hD, hS⟩)
theorem y_put_bk (C : YC p s m args c cc nL D dA) (hW : YW D h dA u s.heap H locs) {v : Bool} {idx : Nat} (hl : Cond.fieldLink RX1 idx RX1 (TX1 11).2.1 (TX1 11).2.2.1 ∈ lw_all) (hdg : decode cc pc = .ok (.putfield idx, 3)) (kk : ∀ (H : Heap) (locs : List Loc), YW D h dA (u.s_bk v) s.heap H locs → W p l e R s m args below meth c H locs cells slots Q (F0 m (pc + 3) ls rest)) : W p l e R s m args below meth c H locs cells slots Q (F0 m pc ls (.int (bI v) :: .ref (h 0) :: rest)) :=
  va_put (ci := 1) (C := RX1) (T := TX1) (N := 13) (ty := .boolean) C.1 C.2.1 C.2.2.2.2.1 in_X1 tyX1 tyX1_ok nmX1 C.2.2.2.1 C.2.2.2.2.2 hW.1 hW.2.1 hW.2.2 0 (fs := fY h u) rfl rfl 11 (by decide) (C.2.2.2.2.1 _ hl) (fun x hx => hx) rfl (by decide +kernel) (by cases v <;> rfl) (by cases v <;> rfl) (Nat.le_of_ble_eq_true rfl) hdg (fun H locs hP hD hS => kk H locs ⟨hP, hD, hS⟩)
theorem y_put_fr (C : YC p s m args c cc nL D dA) (hW : YW D h dA u s.heap H locs) {v : Bool} {idx : Nat} (hl : Cond.fieldLink RX1 idx RX1 (TX1 12).2.1 (TX1 12).2.2.1 ∈ lw_all) (hdg : decode cc pc = .ok (.putfield idx, 3)) (kk : ∀ (H : Heap) (locs : List Loc), YW D h dA (u.s_fr v) s.heap H locs → W p l e R s m args below meth c H locs cells slots Q (F0 m (pc + 3) ls rest)) : W p l e R s m args below meth c H locs cells slots Q (F0 m pc ls (.int (bI v) :: .ref (h 0) :: rest)) :=
  va_put (ci := 1) (C := RX1) (T := TX1) (N := 13) (ty := .boolean) C.1 C.2.1 C.2.2.2.2.1 in_X1 tyX1 tyX1_ok nmX1 C.2.2.2.1 C.2.2.2.2.2 hW.1 hW.2.1 hW.2.2 0 (fs := fY h u) rfl rfl 12 (by decide) (C.2.2.2.2.1 _ hl) (fun x hx => hx) rfl (by decide +kernel) (by cases v <;> rfl) (by cases v <;> rfl) (Nat.le_of_ble_eq_true rfl) hdg (fun H locs hP hD hS => kk H locs ⟨hP, hD, hS⟩)
theorem y_ld_kd (C : YC p s m args c cc nL D dA) (hW : YW D h dA u s.heap H locs) {i : Nat} (hi : i < 40) (hdg : decode cc pc = .ok (.iaload, 1)) (kk : W p l e R s m args below meth c H locs cells slots Q (F0 m (pc + 1) ls (.int (nI (u.kd i)) :: rest))) : W p l e R s m args below meth c H locs cells slots Q (F0 m pc ls (.int (nI i) :: .ref (h 1) :: rest)) := by
  refine va_iald C.1 C.2.1 C.2.2.2.2.2 hW.1 1 0 rfl rfl (vp_in_nI hi (by omega)) hdg ?_
  rw [nI_clamp (show i < 2 ^ 31 by omega)]
  exact kk
theorem y_st_kd (C : YC p s m args c cc nL D dA) (hW : YW D h dA u s.heap H locs) {i : Nat} {v : Nat} (hi : i < 40) (hdg : decode cc pc = .ok (.iastore, 1)) (kk : ∀ (H : Heap) (locs : List Loc), YW D h dA (u.s_kd (va_up u.kd i v)) s.heap H locs → W p l e R s m args below meth c H locs cells slots Q (F0 m (pc + 1) ls rest)) : W p l e R s m args below meth c H locs cells slots Q (F0 m pc ls (.int (nI v) :: .int (nI i) :: .ref (h 1) :: rest)) := by
  refine va_iast C.1 C.2.1 C.2.2.2.2.2 hW.1 hW.2.1 hW.2.2 1 0 rfl rfl (vp_in_nI hi (by omega)) hdg (fun H locs hP hD hS => ?_)
  rw [nI_clamp (show i < 2 ^ 31 by omega), updN] at hP hD
  exact kk H locs ⟨hP, hD, hS⟩
theorem y_ld_ax (C : YC p s m args c cc nL D dA) (hW : YW D h dA u s.heap H locs) {i : Nat} (hi : i < 40) (hdg : decode cc pc = .ok (.iaload, 1)) (kk : W p l e R s m args below meth c H locs cells slots Q (F0 m (pc + 1) ls (.int (nI (u.ax i)) :: rest))) : W p l e R s m args below meth c H locs cells slots Q (F0 m pc ls (.int (nI i) :: .ref (h 2) :: rest)) := by
  refine va_iald C.1 C.2.1 C.2.2.2.2.2 hW.1 2 1 rfl rfl (vp_in_nI hi (by omega)) hdg ?_
  rw [nI_clamp (show i < 2 ^ 31 by omega)]
  exact kk
theorem y_st_ax (C : YC p s m args c cc nL D dA) (hW : YW D h dA u s.heap H locs) {i : Nat} {v : Nat} (hi : i < 40) (hdg : decode cc pc = .ok (.iastore, 1)) (kk : ∀ (H : Heap) (locs : List Loc), YW D h dA (u.s_ax (va_up u.ax i v)) s.heap H locs → W p l e R s m args below meth c H locs cells slots Q (F0 m (pc + 1) ls rest)) : W p l e R s m args below meth c H locs cells slots Q (F0 m pc ls (.int (nI v) :: .int (nI i) :: .ref (h 2) :: rest)) := by
  refine va_iast C.1 C.2.1 C.2.2.2.2.2 hW.1 hW.2.1 hW.2.2 2 1 rfl rfl (vp_in_nI hi (by omega)) hdg (fun H locs hP hD hS => ?_)
  rw [nI_clamp (show i < 2 ^ 31 by omega), updN] at hP hD
  exact kk H locs ⟨hP, hD, hS⟩
theorem y_ld_ay (C : YC p s m args c cc nL D dA) (hW : YW D h dA u s.heap H locs) {i : Nat} (hi : i < 40) (hdg : decode cc pc = .ok (.iaload, 1)) (kk : W p l e R s m args below meth c H locs cells slots Q (F0 m (pc + 1) ls (.int (u.ay i) :: rest))) : W p l e R s m args below meth c H locs cells slots Q (F0 m pc ls (.int (nI i) :: .ref (h 3) :: rest)) := by
  refine va_iald C.1 C.2.1 C.2.2.2.2.2 hW.1 3 2 rfl rfl (vp_in_nI hi (by omega)) hdg ?_
  rw [nI_clamp (show i < 2 ^ 31 by omega)]
  exact kk
theorem y_st_ay (C : YC p s m args c cc nL D dA) (hW : YW D h dA u s.heap H locs) {i : Nat} {v : Int32} (hi : i < 40) (hdg : decode cc pc = .ok (.iastore, 1)) (kk : ∀ (H : Heap) (locs : List Loc), YW D h dA (u.s_ay (va_up u.ay i v)) s.heap H locs → W p l e R s m args below meth c H locs cells slots Q (F0 m (pc + 1) ls rest)) : W p l e R s m args below meth c H locs cells slots Q (F0 m pc ls (.int v :: .int (nI i) :: .ref (h 3) :: rest)) := by
  refine va_iast C.1 C.2.1 C.2.2.2.2.2 hW.1 hW.2.1 hW.2.2 3 2 rfl rfl (vp_in_nI hi (by omega)) hdg (fun H locs hP hD hS => ?_)
  rw [nI_clamp (show i < 2 ^ 31 by omega), updR] at hP hD
  exact kk H locs ⟨hP, hD, hS⟩
theorem y_ld_az (C : YC p s m args c cc nL D dA) (hW : YW D h dA u s.heap H locs) {i : Nat} (hi : i < 40) (hdg : decode cc pc = .ok (.iaload, 1)) (kk : W p l e R s m args below meth c H locs cells slots Q (F0 m (pc + 1) ls (.int (u.az i) :: rest))) : W p l e R s m args below meth c H locs cells slots Q (F0 m pc ls (.int (nI i) :: .ref (h 4) :: rest)) := by
  refine va_iald C.1 C.2.1 C.2.2.2.2.2 hW.1 4 3 rfl rfl (vp_in_nI hi (by omega)) hdg ?_
  rw [nI_clamp (show i < 2 ^ 31 by omega)]
  exact kk
theorem y_st_az (C : YC p s m args c cc nL D dA) (hW : YW D h dA u s.heap H locs) {i : Nat} {v : Int32} (hi : i < 40) (hdg : decode cc pc = .ok (.iastore, 1)) (kk : ∀ (H : Heap) (locs : List Loc), YW D h dA (u.s_az (va_up u.az i v)) s.heap H locs → W p l e R s m args below meth c H locs cells slots Q (F0 m (pc + 1) ls rest)) : W p l e R s m args below meth c H locs cells slots Q (F0 m pc ls (.int v :: .int (nI i) :: .ref (h 4) :: rest)) := by
  refine va_iast C.1 C.2.1 C.2.2.2.2.2 hW.1 hW.2.1 hW.2.2 4 3 rfl rfl (vp_in_nI hi (by omega)) hdg (fun H locs hP hD hS => ?_)
  rw [nI_clamp (show i < 2 ^ 31 by omega), updR] at hP hD
  exact kk H locs ⟨hP, hD, hS⟩
theorem y_ld_le (C : YC p s m args c cc nL D dA) (hW : YW D h dA u s.heap H locs) {i : Nat} (hi : i < 12) (hdg : decode cc pc = .ok (.iaload, 1)) (kk : W p l e R s m args below meth c H locs cells slots Q (F0 m (pc + 1) ls (.int (nI (u.le i)) :: rest))) : W p l e R s m args below meth c H locs cells slots Q (F0 m pc ls (.int (nI i) :: .ref (h 5) :: rest)) := by
  refine va_iald C.1 C.2.1 C.2.2.2.2.2 hW.1 5 4 rfl rfl (vp_in_nI hi (by omega)) hdg ?_
  rw [nI_clamp (show i < 2 ^ 31 by omega)]
  exact kk
theorem y_st_le (C : YC p s m args c cc nL D dA) (hW : YW D h dA u s.heap H locs) {i : Nat} {v : Nat} (hi : i < 12) (hdg : decode cc pc = .ok (.iastore, 1)) (kk : ∀ (H : Heap) (locs : List Loc), YW D h dA (u.s_le (va_up u.le i v)) s.heap H locs → W p l e R s m args below meth c H locs cells slots Q (F0 m (pc + 1) ls rest)) : W p l e R s m args below meth c H locs cells slots Q (F0 m pc ls (.int (nI v) :: .int (nI i) :: .ref (h 5) :: rest)) := by
  refine va_iast C.1 C.2.1 C.2.2.2.2.2 hW.1 hW.2.1 hW.2.2 5 4 rfl rfl (vp_in_nI hi (by omega)) hdg (fun H locs hP hD hS => ?_)
  rw [nI_clamp (show i < 2 ^ 31 by omega), updN] at hP hD
  exact kk H locs ⟨hP, hD, hS⟩
theorem y_ld_ii (C : YC p s m args c cc nL D dA) (hW : YW D h dA u s.heap H locs) {i : Nat} (hi : i < 12) (hdg : decode cc pc = .ok (.baload, 1)) (kk : W p l e R s m args below meth c H locs cells slots Q (F0 m (pc + 1) ls (.int (bI (u.ii i)) :: rest))) : W p l e R s m args below meth c H locs cells slots Q (F0 m pc ls (.int (nI i) :: .ref (h 6) :: rest)) := by
  refine va_zald C.1 C.2.1 C.2.2.2.2.2 hW.1 6 5 rfl rfl (vp_in_nI hi (by omega)) hdg ?_
  rw [nI_clamp (show i < 2 ^ 31 by omega)]
  exact kk
theorem y_st_ii (C : YC p s m args c cc nL D dA) (hW : YW D h dA u s.heap H locs) {i : Nat} {v : Bool} (hi : i < 12) (hdg : decode cc pc = .ok (.bastore, 1)) (kk : ∀ (H : Heap) (locs : List Loc), YW D h dA (u.s_ii (va_up u.ii i v)) s.heap H locs → W p l e R s m args below meth c H locs cells slots Q (F0 m (pc + 1) ls rest)) : W p l e R s m args below meth c H locs cells slots Q (F0 m pc ls (.int (bI v) :: .int (nI i) :: .ref (h 6) :: rest)) := by
  refine va_zast C.1 C.2.1 C.2.2.2.2.2 hW.1 hW.2.1 hW.2.2 6 5 rfl rfl (vp_in_nI hi (by omega)) hdg (fun H locs hP hD hS => ?_)
  rw [nI_clamp (show i < 2 ^ 31 by omega), updZ] at hP hD
  exact kk H locs ⟨hP, hD, hS⟩
theorem y_ld_iv (C : YC p s m args c cc nL D dA) (hW : YW D h dA u s.heap H locs) {i : Nat} (hi : i < 12) (hdg : decode cc pc = .ok (.iaload, 1)) (kk : W p l e R s m args below meth c H locs cells slots Q (F0 m (pc + 1) ls (.int (u.iv i) :: rest))) : W p l e R s m args below meth c H locs cells slots Q (F0 m pc ls (.int (nI i) :: .ref (h 7) :: rest)) := by
  refine va_iald C.1 C.2.1 C.2.2.2.2.2 hW.1 7 6 rfl rfl (vp_in_nI hi (by omega)) hdg ?_
  rw [nI_clamp (show i < 2 ^ 31 by omega)]
  exact kk
theorem y_st_iv (C : YC p s m args c cc nL D dA) (hW : YW D h dA u s.heap H locs) {i : Nat} {v : Int32} (hi : i < 12) (hdg : decode cc pc = .ok (.iastore, 1)) (kk : ∀ (H : Heap) (locs : List Loc), YW D h dA (u.s_iv (va_up u.iv i v)) s.heap H locs → W p l e R s m args below meth c H locs cells slots Q (F0 m (pc + 1) ls rest)) : W p l e R s m args below meth c H locs cells slots Q (F0 m pc ls (.int v :: .int (nI i) :: .ref (h 7) :: rest)) := by
  refine va_iast C.1 C.2.1 C.2.2.2.2.2 hW.1 hW.2.1 hW.2.2 7 6 rfl rfl (vp_in_nI hi (by omega)) hdg (fun H locs hP hD hS => ?_)
  rw [nI_clamp (show i < 2 ^ 31 by omega), updR] at hP hD
  exact kk H locs ⟨hP, hD, hS⟩
theorem y_ld_ip (C : YC p s m args c cc nL D dA) (hW : YW D h dA u s.heap H locs) {i : Nat} (hi : i < 12) (hdg : decode cc pc = .ok (.baload, 1)) (kk : W p l e R s m args below meth c H locs cells slots Q (F0 m (pc + 1) ls (.int (bI (u.ip i)) :: rest))) : W p l e R s m args below meth c H locs cells slots Q (F0 m pc ls (.int (nI i) :: .ref (h 8) :: rest)) := by
  refine va_zald C.1 C.2.1 C.2.2.2.2.2 hW.1 8 7 rfl rfl (vp_in_nI hi (by omega)) hdg ?_
  rw [nI_clamp (show i < 2 ^ 31 by omega)]
  exact kk
theorem y_st_ip (C : YC p s m args c cc nL D dA) (hW : YW D h dA u s.heap H locs) {i : Nat} {v : Bool} (hi : i < 12) (hdg : decode cc pc = .ok (.bastore, 1)) (kk : ∀ (H : Heap) (locs : List Loc), YW D h dA (u.s_ip (va_up u.ip i v)) s.heap H locs → W p l e R s m args below meth c H locs cells slots Q (F0 m (pc + 1) ls rest)) : W p l e R s m args below meth c H locs cells slots Q (F0 m pc ls (.int (bI v) :: .int (nI i) :: .ref (h 8) :: rest)) := by
  refine va_zast C.1 C.2.1 C.2.2.2.2.2 hW.1 hW.2.1 hW.2.2 8 7 rfl rfl (vp_in_nI hi (by omega)) hdg (fun H locs hP hD hS => ?_)
  rw [nI_clamp (show i < 2 ^ 31 by omega), updZ] at hP hD
  exact kk H locs ⟨hP, hD, hS⟩
theorem y_ld_pa (C : YC p s m args c cc nL D dA) (hW : YW D h dA u s.heap H locs) {i : Nat} (hi : i < 12) (hdg : decode cc pc = .ok (.iaload, 1)) (kk : W p l e R s m args below meth c H locs cells slots Q (F0 m (pc + 1) ls (.int (nI (u.pa i)) :: rest))) : W p l e R s m args below meth c H locs cells slots Q (F0 m pc ls (.int (nI i) :: .ref (h 9) :: rest)) := by
  refine va_iald C.1 C.2.1 C.2.2.2.2.2 hW.1 9 8 rfl rfl (vp_in_nI hi (by omega)) hdg ?_
  rw [nI_clamp (show i < 2 ^ 31 by omega)]
  exact kk
theorem y_st_pa (C : YC p s m args c cc nL D dA) (hW : YW D h dA u s.heap H locs) {i : Nat} {v : Nat} (hi : i < 12) (hdg : decode cc pc = .ok (.iastore, 1)) (kk : ∀ (H : Heap) (locs : List Loc), YW D h dA (u.s_pa (va_up u.pa i v)) s.heap H locs → W p l e R s m args below meth c H locs cells slots Q (F0 m (pc + 1) ls rest)) : W p l e R s m args below meth c H locs cells slots Q (F0 m pc ls (.int (nI v) :: .int (nI i) :: .ref (h 9) :: rest)) := by
  refine va_iast C.1 C.2.1 C.2.2.2.2.2 hW.1 hW.2.1 hW.2.2 9 8 rfl rfl (vp_in_nI hi (by omega)) hdg (fun H locs hP hD hS => ?_)
  rw [nI_clamp (show i < 2 ^ 31 by omega), updN] at hP hD
  exact kk H locs ⟨hP, hD, hS⟩
theorem y_ld_pb (C : YC p s m args c cc nL D dA) (hW : YW D h dA u s.heap H locs) {i : Nat} (hi : i < 12) (hdg : decode cc pc = .ok (.iaload, 1)) (kk : W p l e R s m args below meth c H locs cells slots Q (F0 m (pc + 1) ls (.int (nI (u.pb i)) :: rest))) : W p l e R s m args below meth c H locs cells slots Q (F0 m pc ls (.int (nI i) :: .ref (h 10) :: rest)) := by
  refine va_iald C.1 C.2.1 C.2.2.2.2.2 hW.1 10 9 rfl rfl (vp_in_nI hi (by omega)) hdg ?_
  rw [nI_clamp (show i < 2 ^ 31 by omega)]
  exact kk
theorem y_st_pb (C : YC p s m args c cc nL D dA) (hW : YW D h dA u s.heap H locs) {i : Nat} {v : Nat} (hi : i < 12) (hdg : decode cc pc = .ok (.iastore, 1)) (kk : ∀ (H : Heap) (locs : List Loc), YW D h dA (u.s_pb (va_up u.pb i v)) s.heap H locs → W p l e R s m args below meth c H locs cells slots Q (F0 m (pc + 1) ls rest)) : W p l e R s m args below meth c H locs cells slots Q (F0 m pc ls (.int (nI v) :: .int (nI i) :: .ref (h 10) :: rest)) := by
  refine va_iast C.1 C.2.1 C.2.2.2.2.2 hW.1 hW.2.1 hW.2.2 10 9 rfl rfl (vp_in_nI hi (by omega)) hdg (fun H locs hP hD hS => ?_)
  rw [nI_clamp (show i < 2 ^ 31 by omega), updN] at hP hD
  exact kk H locs ⟨hP, hD, hS⟩
theorem y_vret (C : YC p s m args c cc nL D dA) (hW : YW D h dA u s.heap H locs) {post : YSt → Prop} (hr : meth.sig.returnType = none) (hlocks : meth.locks = false) (hp : post u) (hdg : decode cc pc = .ok (.return_, 1)) : W p l e R s m args below meth c H locs 0 0 (MQ below (YQv D h dA post) args s 0 0 (AY h)) (F0 m pc ls []) :=
  W.vret C.1 C.2.1 hr (fun t ht hw => ⟨⟨u, rfl, hp, by rw [ht]; exact hW.1, hW.2.1, va_K.moved hw.alike C.2.2.2.2.2⟩, hW.2.2.F ht⟩) hW.2.2.2.2 hdg hlocks
theorem y_iret (C : YC p s m args c cc nL D dA) (hW : YW D h dA u s.heap H locs) {v : Int32} {post : Int32 → YSt → Prop} (hr : meth.sig.returnType = some .int) (hlocks : meth.locks = false) (hp : post v u) (hdg : decode cc pc = .ok (.ireturn, 1)) : W p l e R s m args below meth c H locs 0 0 (MQ below (YQi D h dA post) args s 0 0 (AY h)) (F0 m pc ls [.int v]) :=
  W.iret C.1 C.2.1 hr (fun t ht hw => ⟨⟨v, u, rfl, hp, by rw [ht]; exact hW.1, hW.2.1, va_K.moved hw.alike C.2.2.2.2.2⟩, hW.2.2.F ht⟩) hW.2.2.2.2 hdg hlocks
theorem y_zret (C : YC p s m args c cc nL D dA) (hW : YW D h dA u s.heap H locs) {v : Bool} {post : Int32 → YSt → Prop} (hr : meth.sig.returnType = some .boolean) (hlocks : meth.locks = false) (hp : post (bI v) u) (hdg : decode cc pc = .ok (.ireturn, 1)) : W p l e R s m args below meth c H locs 0 0 (MQ below (YQi D h dA post) args s 0 0 (AY h)) (F0 m pc ls [.int (bI v)]) :=
  W.zret C.1 C.2.1 hr (by cases v <;> rfl) (fun t ht hw => ⟨⟨bI v, u, rfl, hp, by rw [ht]; exact hW.1, hW.2.1, va_K.moved hw.alike C.2.2.2.2.2⟩, hW.2.2.F ht⟩) hW.2.2.2.2 hdg hlocks
theorem y_met {y : MethodName} {maxL : Nat} {ret : Option FieldType} {rm : Room} {As : List Value} {Qc : Array Value → State → Outcome → State → Prop} (hcl : y.cls = RX1) (hlen : (lg_sl (.ref (h 0) :: As)).length ≤ maxL) (body : ∀ (p : Program) (e : Env) (s : State) (m : MethodId) (below : List Frame) (meth : Method) (c : Code) (ls : Array Slot), YC p s m (.ref (h 0) :: As).toArray c cc maxL D dA → meth.sig.returnType = ret → meth.locks = false → YW D h dA u s.heap s.heap [] → lv_has ls maxL (lv_args 0 (.ref (h 0) :: As)) → W p l e rm s m (.ref (h 0) :: As).toArray below meth c s.heap [] 0 0 (MQ below Qc (.ref (h 0) :: As).toArray s 0 0 (AY h)) (F0 m 0 ls [])) : Met l y (ws_ y cc maxL ret) rm (YPc D h dA u As) Qc 0 0 (AY h) := by
  refine Met.ofW (cc := cc) (maxL := maxL) (ret := ret) (by rw [hcl]; decide) rfl ?_
  intro p e s m args below meth c s₁ B hml hv
  obtain ⟨rfl, hP, hD, hK⟩ := hv
  have hts := atoms_spec (ws := ws_ y cc maxL ret) B.pre
  have hts : ∀ w ∈ lw_all, w.before _ s = true := fun w h => hts w (List.mem_cons_of_mem _ h)
  have hl := lv_entry (.ref (h 0) :: As) (n := maxL) hlen
  rw [lg_entry_eq]
  exact body p e s m below meth c _ ⟨B.exec, B.bytes, hml, by rw [← hcl]; exact findClass_of_methodNamed B.named, hts, hK⟩ B.returns B.notSynchronized ⟨hP, hD, va_S.rf⟩ hl
theorem y_callv (C : YC p s m args c cc nL D dA) (hW : YW D h dA u s.heap H locs) {index : Nat} {y : MethodName} {bytes : ByteArray} {maxL n : Nat} {rm : Room} {As st0 : List Value} {post : YSt → Prop} (hM : Met l y (ws_ y bytes maxL none) rm (YPc D h dA u As) (YQv D h dA post) 0 0 (AY h)) (cb : Cb RX1 RX1 index y bytes maxL none n) (hR : rm.frames + 1 ≤ R.frames ∧ 8 + (maxL + 11) + rm.locals ≤ R.locals) (hrm : rm.cells = 0 ∧ rm.slots = 0) (hRm : cells ≤ R.cells ∧ slots ≤ R.slots) (hn : As.length = n) (hsz : ls.size = nL) (hst : st0 = As.reverse ++ .ref (h 0) :: rest) (hroom : (rest.map fun v => v.category).sum ≤ 8) (hdg : decode cc pc = .ok (.invokevirtual index, 3)) (kk : ∀ (u' : YSt) (H : Heap) (locs : List Loc), post u' → YW D h dA u' s.heap H locs → W p l e R s m args below meth c H locs cells slots Q (F0 m (pc + 3) ls rest)) : W p l e R s m args below meth c H locs cells slots Q (F0 m pc ls st0) := by
  subst hst
  refine va_callv (va_runV (cc := cc) (nL := nL) (Ts := lw_all) (own := RX1) (C := RX1) (b := h 0) (As := As) (rest := rest) (index := index) (n := n) (g := F0 m pc ls (As.reverse ++ .ref (h 0) :: rest)) ⟨C.1, C.2.1, C.2.2.1, C.2.2.2.1, C.2.2.2.2.1⟩ hM (cwV n C.2.2.2.2.1 (lw_V cb.1 cb.2.1 cb.2.2.1 cb.2.2.2.1 cb.2.2.2.2.1) rfl hrm.1 hrm.2 cb.2.2.2.2.2 hR) ⟨YB.blind, va_recv C.2.2.2.2.2 hW.1 (ci := 1) (q0 := 0) rfl rfl, fun U hU hw => ⟨rfl, by rw [hU]; exact hW.1, hW.2.1, va_K.moved hw.alike C.2.2.2.2.2⟩⟩ rfl hn hsz rfl (lv_room hroom) hdg hRm) hW.2.2 (fun q _ hq => hq) (fun q hq => hq) (fun u1 t H1 locs1 ht hvm hp hB hz hk hS => ?_)
  obtain ⟨hP1, hD1, hK1⟩ := hB
  rw [ht] at hP1
  exact kk u1 H1 locs1 hp ⟨hP1, hD1, hS⟩
theorem y_calli (C : YC p s m args c cc nL D dA) (hW : YW D h dA u s.heap H locs) {index : Nat} {y : MethodName} {bytes : ByteArray} {maxL n : Nat} {rm : Room} {As st0 : List Value} {post : Int32 → YSt → Prop} (hM : Met l y (ws_ y bytes maxL (some .int)) rm (YPc D h dA u As) (YQi D h dA post) 0 0 (AY h)) (cb : Cb RX1 RX1 index y bytes maxL (some .int) n) (hR : rm.frames + 1 ≤ R.frames ∧ 8 + (maxL + 11) + rm.locals ≤ R.locals) (hrm : rm.cells = 0 ∧ rm.slots = 0) (hRm : cells ≤ R.cells ∧ slots ≤ R.slots) (hn : As.length = n) (hsz : ls.size = nL) (hst : st0 = As.reverse ++ .ref (h 0) :: rest) (hroom : (rest.map fun v => v.category).sum ≤ 8) (hdg : decode cc pc = .ok (.invokevirtual index, 3)) (kk : ∀ (r : Int32) (u' : YSt) (H : Heap) (locs : List Loc), post r u' → YW D h dA u' s.heap H locs → W p l e R s m args below meth c H locs cells slots Q (F0 m (pc + 3) ls (.int r :: rest))) : W p l e R s m args below meth c H locs cells slots Q (F0 m pc ls st0) := by
  subst hst
  refine va_calli (va_runV (cc := cc) (nL := nL) (Ts := lw_all) (own := RX1) (C := RX1) (b := h 0) (As := As) (rest := rest) (index := index) (n := n) (g := F0 m pc ls (As.reverse ++ .ref (h 0) :: rest)) ⟨C.1, C.2.1, C.2.2.1, C.2.2.2.1, C.2.2.2.2.1⟩ hM (cwV n C.2.2.2.2.1 (lw_V cb.1 cb.2.1 cb.2.2.1 cb.2.2.2.1 cb.2.2.2.2.1) rfl hrm.1 hrm.2 cb.2.2.2.2.2 hR) ⟨YB.blind, va_recv C.2.2.2.2.2 hW.1 (ci := 1) (q0 := 0) rfl rfl, fun U hU hw => ⟨rfl, by rw [hU]; exact hW.1, hW.2.1, va_K.moved hw.alike C.2.2.2.2.2⟩⟩ rfl hn hsz rfl (lv_room hroom) hdg hRm) hW.2.2 (fun q _ hq => hq) (fun q hq => hq) (fun r u1 t H1 locs1 ht hvm hp hB hz hk hS => ?_)
  obtain ⟨hP1, hD1, hK1⟩ := hB
  rw [ht] at hP1
  exact kk r u1 H1 locs1 hp ⟨hP1, hD1, hS⟩
theorem y_callz (C : YC p s m args c cc nL D dA) (hW : YW D h dA u s.heap H locs) {index : Nat} {y : MethodName} {bytes : ByteArray} {maxL n : Nat} {rm : Room} {As st0 : List Value} {post : Int32 → YSt → Prop} (hM : Met l y (ws_ y bytes maxL (some .boolean)) rm (YPc D h dA u As) (YQi D h dA post) 0 0 (AY h)) (cb : Cb RX1 RX1 index y bytes maxL (some .boolean) n) (hR : rm.frames + 1 ≤ R.frames ∧ 8 + (maxL + 11) + rm.locals ≤ R.locals) (hrm : rm.cells = 0 ∧ rm.slots = 0) (hRm : cells ≤ R.cells ∧ slots ≤ R.slots) (hn : As.length = n) (hsz : ls.size = nL) (hst : st0 = As.reverse ++ .ref (h 0) :: rest) (hroom : (rest.map fun v => v.category).sum ≤ 8) (hdg : decode cc pc = .ok (.invokevirtual index, 3)) (kk : ∀ (r : Int32) (u' : YSt) (H : Heap) (locs : List Loc), post r u' → YW D h dA u' s.heap H locs → W p l e R s m args below meth c H locs cells slots Q (F0 m (pc + 3) ls (.int r :: rest))) : W p l e R s m args below meth c H locs cells slots Q (F0 m pc ls st0) := by
  subst hst
  refine va_calli (va_runV (cc := cc) (nL := nL) (Ts := lw_all) (own := RX1) (C := RX1) (b := h 0) (As := As) (rest := rest) (index := index) (n := n) (g := F0 m pc ls (As.reverse ++ .ref (h 0) :: rest)) ⟨C.1, C.2.1, C.2.2.1, C.2.2.2.1, C.2.2.2.2.1⟩ hM (cwV n C.2.2.2.2.1 (lw_V cb.1 cb.2.1 cb.2.2.1 cb.2.2.2.1 cb.2.2.2.2.1) rfl hrm.1 hrm.2 cb.2.2.2.2.2 hR) ⟨YB.blind, va_recv C.2.2.2.2.2 hW.1 (ci := 1) (q0 := 0) rfl rfl, fun U hU hw => ⟨rfl, by rw [hU]; exact hW.1, hW.2.1, va_K.moved hw.alike C.2.2.2.2.2⟩⟩ rfl hn hsz rfl (lv_room hroom) hdg hRm) hW.2.2 (fun q _ hq => hq) (fun q hq => hq) (fun r u1 t H1 locs1 ht hvm hp hB hz hk hS => ?_)
  obtain ⟨hP1, hD1, hK1⟩ := hB
  rw [ht] at hP1
  exact kk r u1 H1 locs1 hp ⟨hP1, hD1, hS⟩
end
end
section
set_option maxRecDepth 100000
theorem cbX_bindCouple : Cb "DataflowStore" RX0 83 yX0_bindCouple cX0_bindCouple 5 none 3 := ⟨q117, q119, qs6, q21, q120, by decide +kernel⟩
theorem cbX_bindNumber : Cb "DataflowStore" RX0 76 yX0_bindNumber cX0_bindNumber 4 none 2 := ⟨q101, q103, qs2, q21, q104, by decide +kernel⟩
theorem cbX_computed : Cb "DataflowStore" RX0 110 yX0_computed cX0_computed 4 (some .int) 3 := ⟨q138, q140, qs11, q21, q141, by decide +kernel⟩
theorem cbX_head : Cb "DataflowStore" RX0 90 yX0_head cX0_head 3 (some .int) 1 := ⟨q105, q107, qs3, q21, q108, by decide +kernel⟩
theorem cbX_isVariable : Cb "DataflowStore" RX0 72 yX0_isVariable cX0_isVariable 2 (some .boolean) 1 := ⟨q97, q99, qs1, q21, q100, by decide +kernel⟩
theorem cbX_join : Cb "DataflowStore" RX0 98 yX0_join cX0_join 7 none 2 := ⟨q125, q127, qs8, q21, q128, by decide +kernel⟩
theorem cbX_lowestReady : Cb "DataflowStore" RX0 101 yX0_lowestReady cX0_lowestReady 2 (some .int) 0 := ⟨q129, q131, qs9, q21, q132, by decide +kernel⟩
theorem cbX_restart : Cb "DataflowStore" RX0 51 yX0_restart cX0_restart 2 none 0 := ⟨q31, q33, qs0, q21, q34, by decide +kernel⟩
theorem cbX_tryStatement : Cb "DataflowStore" RX0 107 yX0_tryStatement cX0_tryStatement 7 none 1 := ⟨q134, q136, qs10, q21, q137, by decide +kernel⟩
theorem cbX_wake : Cb "DataflowStore" RX0 94 yX0_wake cX0_wake 2 none 1 := ⟨q109, q111, qs4, q21, q112, by decide +kernel⟩
theorem cbX_want : Cb "DataflowStore" RX0 80 yX0_want cX0_want 3 none 2 := ⟨q113, q115, qs5, q21, q116, by decide +kernel⟩
theorem cbX_work : Cb "DataflowStore" RX0 87 yX0_work cX0_work 2 none 0 := ⟨q121, q123, qs7, q21, q124, by decide +kernel⟩
theorem cbLX_classes : Cb "DataflowStoreLaw" RX0 47 yX0_classes cX0_classes 3 (some .int) 0 := ⟨q166, q167, q168, q21, q169, by decide +kernel⟩
theorem cbLX_clear : Cb "DataflowStoreLaw" RX0 51 yX0_clear cX0_clear 2 (some .int) 0 := ⟨q170, q171, q172, q21, q173, by decide +kernel⟩
theorem cbLX_failed : Cb "DataflowStoreLaw" RX0 18 yX0_failed cX0_failed 1 (some .boolean) 0 := ⟨q142, q143, q144, q21, q145, by decide +kernel⟩
theorem cbLX_linked : Cb "DataflowStoreLaw" RX0 32 yX0_linked cX0_linked 3 (some .boolean) 2 := ⟨q154, q155, q156, q21, q157, by decide +kernel⟩
theorem cbLX_part : Cb "DataflowStoreLaw" RX0 37 yX0_part cX0_part 6 (some .int) 2 := ⟨q158, q159, q160, q21, q161, by decide +kernel⟩
theorem cbLX_state : Cb "DataflowStoreLaw" RX0 23 yX0_state cX0_state 2 (some .int) 1 := ⟨q146, q147, q148, q21, q149, by decide +kernel⟩
theorem cbLX_tell : Cb "DataflowStoreLaw" RX0 13 yX0_tell cX0_tell 7 (some .int) 4 := ⟨q93, q94, q95, q21, q96, by decide +kernel⟩
theorem cbLX_value : Cb "DataflowStoreLaw" RX0 28 yX0_value cX0_value 3 (some .int) 1 := ⟨q150, q151, q152, q21, q153, by decide +kernel⟩
theorem cbLX_waiting : Cb "DataflowStoreLaw" RX0 42 yX0_waiting cX0_waiting 3 (some .int) 0 := ⟨q162, q163, q164, q21, q165, by decide +kernel⟩
theorem cbLY_classes : Cb "DataflowStoreLaw" RX1 50 yX1_classes cX1_classes 3 (some .int) 0 := ⟨q281, q282, q283, q22, q284, by decide +kernel⟩
theorem cbLY_clear : Cb "DataflowStoreLaw" RX1 54 yX1_clear cX1_clear 2 (some .int) 0 := ⟨q285, q286, q287, q22, q288, by decide +kernel⟩
theorem cbLY_failed : Cb "DataflowStoreLaw" RX1 22 yX1_failed cX1_failed 1 (some .boolean) 0 := ⟨q257, q258, q259, q22, q260, by decide +kernel⟩
theorem cbLY_linked : Cb "DataflowStoreLaw" RX1 36 yX1_linked cX1_linked 3 (some .boolean) 2 := ⟨q269, q270, q271, q22, q272, by decide +kernel⟩
theorem cbLY_part : Cb "DataflowStoreLaw" RX1 41 yX1_part cX1_part 3 (some .int) 2 := ⟨q273, q274, q275, q22, q276, by decide +kernel⟩
theorem cbLY_state : Cb "DataflowStoreLaw" RX1 27 yX1_state cX1_state 2 (some .int) 1 := ⟨q261, q262, q263, q22, q264, by decide +kernel⟩
theorem cbLY_tell : Cb "DataflowStoreLaw" RX1 17 yX1_tell cX1_tell 5 (some .int) 4 := ⟨q245, q246, q247, q22, q248, by decide +kernel⟩
theorem cbLY_value : Cb "DataflowStoreLaw" RX1 31 yX1_value cX1_value 2 (some .int) 1 := ⟨q265, q266, q267, q22, q268, by decide +kernel⟩
theorem cbLY_waiting : Cb "DataflowStoreLaw" RX1 46 yX1_waiting cX1_waiting 3 (some .int) 0 := ⟨q277, q278, q279, q22, q280, by decide +kernel⟩
theorem cbY_apply : Cb "DataflowStoreModel" RX1 77 yX1_apply cX1_apply 4 none 1 := ⟨q188, q190, qs14, q22, q191, by decide +kernel⟩
theorem cbY_beInt : Cb "DataflowStoreModel" RX1 63 yX1_beInt cX1_beInt 4 none 2 := ⟨q196, q198, qs16, q22, q199, by decide +kernel⟩
theorem cbY_bePair : Cb "DataflowStoreModel" RX1 70 yX1_bePair cX1_bePair 6 none 3 := ⟨q200, q202, qs17, q22, q203, by decide +kernel⟩
theorem cbY_fits : Cb "DataflowStoreModel" RX1 56 yX1_fits cX1_fits 5 (some .boolean) 4 := ⟨q249, q251, qs18, q22, q252, by decide +kernel⟩
theorem cbY_follow : Cb "DataflowStoreModel" RX1 49 yX1_follow cX1_follow 3 none 0 := ⟨q180, q182, qs12, q22, q183, by decide +kernel⟩
theorem cbY_isVariable : Cb "DataflowStoreModel" RX1 52 yX1_isVariable cX1_isVariable 2 (some .boolean) 1 := ⟨q253, q255, qs19, q22, q256, by decide +kernel⟩
theorem cbY_join : Cb "DataflowStoreModel" RX1 67 yX1_join cX1_join 6 none 2 := ⟨q192, q194, qs15, q22, q195, by decide +kernel⟩
theorem cbY_ready : Cb "DataflowStoreModel" RX1 74 yX1_ready cX1_ready 3 (some .boolean) 1 := ⟨q184, q186, qs13, q22, q187, by decide +kernel⟩
end
section
/-! what DataflowStore's methods do to its state, as plain functions -/
def xs_bit (s : Nat) : Int64 := (1 : Int64) <<< ((nI s).toInt64 &&& 63)
def xs_wake (u : XSt) (h : Nat) : XSt := (u.s_rd (u.rd ||| (u.wa h &&& u.su))).s_wa (va_up u.wa h 0)
def xs_want (u : XSt) (x y : Nat) : XSt := ((u.s_ja (va_up u.ja u.jc x)).s_jb (va_up u.jb u.jc y)).s_jc (u.jc + 1)
def xs_bindN (u : XSt) (h : Nat) (n : Int32) : XSt :=
  if u.st h = 0 then xs_wake ((u.s_st (va_up u.st h 1)).s_nu (va_up u.nu h n)) h
  else if u.st h = 2 ∨ u.nu h ≠ n then u.s_bk true else u
def xs_bindC (u : XSt) (h a b : Nat) : XSt :=
  if u.st h = 0 then xs_wake (((u.s_st (va_up u.st h 2)).s_lf (va_up u.lf h a)).s_rt (va_up u.rt h b)) h
  else if u.st h = 2 then xs_want (xs_want u (u.lf h) a) (u.rt h) b
  else u.s_bk true
def xs_merge0 (u : XSt) (big small : Nat) : XSt :=
  (u.s_wt (va_up u.wt big (vp_nar .byte ((u.wt big + u.wt small).toInt8.toInt32)))).s_wa (va_up u.wa big (u.wa big ||| u.wa small))
def xs_merge (u : XSt) (big small : Nat) : XSt := (xs_merge0 u big small).s_r (fun z => if u.r z = small then big else u.r z)
theorem XW.s_r {D : va_G} {h : Nat → Nat} {dA : Nat → ClassId} {L : Nat → Nat} {u : XSt} {H0 H : Heap} {locs : List Loc} (hW : XW D h dA L u H0 H locs) (f : Nat → Nat) : XW D h dA L (u.s_r f) H0 H locs := hW
def xs_j2 (u : XSt) (big small : Nat) : XSt := if u.st small = 1 then xs_bindN u big (u.nu small) else u
def xs_j3 (u : XSt) (big small : Nat) : XSt := if u.st small = 2 then xs_bindC u big (u.lf small) (u.rt small) else u
def xs_j4 (u : XSt) (big : Nat) : XSt := if u.st big = 0 then u else xs_wake u big
def xs_join2 (u : XSt) (big small : Nat) : XSt := xs_j4 (xs_j3 (xs_j2 (xs_merge u big small) big small) big small) big
def xs_join (u : XSt) (x y : Nat) : XSt := if u.r x = u.r y then u else if u.wt (u.r y) ≤ u.wt (u.r x) then xs_join2 u (u.r x) (u.r y) else xs_join2 u (u.r y) (u.r x)
def xs_comp (op : Nat) (p q : Int32) : Int32 := if op = 3 then p + q else if op = 4 then p * q else if p = q then 1 else 0
def xs_wanted (k : Nat) : Nat := if k = 5 ∨ k = 6 then 2 else 1
def xs_fire (u : XSt) (s : Nat) : XSt :=
  if u.kd s = 5 ∨ u.kd s = 6 then xs_want u (u.tg s) (if u.kd s = 5 then u.lf (u.r (u.sy s)) else u.rt (u.r (u.sy s)))
  else xs_bindN u (u.r (u.tg s)) (xs_comp (u.kd s) (u.nu (u.r (u.sy s))) (u.nu (u.r (u.sz s))))
def xs_park (u : XSt) (k s : Nat) : XSt := u.s_wa (va_up u.wa k (u.wa k ||| xs_bit s))
def xs_try (u : XSt) (s : Nat) : XSt :=
  if u.st (u.r (u.sy s)) = 0 then xs_park u (u.r (u.sy s)) s
  else if u.st (u.r (u.sz s)) = 0 then xs_park u (u.r (u.sz s)) s
  else if u.st (u.r (u.sy s)) ≠ xs_wanted (u.kd s) ∨ u.st (u.r (u.sz s)) ≠ xs_wanted (u.kd s) then u
  else xs_fire (u.s_su (u.su &&& (xs_bit s ^^^ (-1)))) s
def bt (x : Int64) (i : Nat) : Bool := x.toBitVec.getLsbD i
/-- leads-to links L, the head of each variable's class r, a depth d -/
def FD (L r d : Nat → Nat) : Prop := ∀ x, x < 12 → L x < 12 ∧ r x < 12 ∧ r (L x) = r x ∧ L (r x) = r x ∧ (L x ≠ x → d (L x) < d x) ∧ (L x = x → r x = x)
def Forest (L r : Nat → Nat) : Prop := ∃ d, FD L r d
theorem Forest.lt {L r : Nat → Nat} (h : Forest L r) {x : Nat} (hx : x < 12) : r x < 12 := by
  obtain ⟨d, h⟩ := h
  exact (h x hx).2.1
theorem Forest.Llt {L r : Nat → Nat} (h : Forest L r) {x : Nat} (hx : x < 12) : L x < 12 := by
  obtain ⟨d, h⟩ := h
  exact (h x hx).1
theorem Forest.rr {L r : Nat → Nat} (h : Forest L r) {x : Nat} (hx : x < 12) : r (r x) = r x := by
  obtain ⟨d, h⟩ := h
  exact (h (r x) (h x hx).2.1).2.2.2.2.2 (h x hx).2.2.2.1
theorem Forest.root {L r : Nat → Nat} (h : Forest L r) {x : Nat} (hx : x < 12) : L x = x ↔ r x = x := by
  obtain ⟨d, h⟩ := h
  constructor
  · exact (h x hx).2.2.2.2.2
  · intro e
    have := (h x hx).2.2.2.1
    rw [e] at this
    exact this
theorem FD.halve {L r d : Nat → Nat} (h : FD L r d) {x : Nat} (hx : x < 12) (hne : L x ≠ x) : FD (va_up L x (L (L x))) r d := by
  have h1 := h x hx
  have h2 := h (L x) h1.1
  have hrx : r x ≠ x := fun e => hne (by have := h1.2.2.2.1; rw [e] at this; exact this)
  have hdd : d (L (L x)) < d x := by
    by_cases e : L (L x) = L x
    · rw [e]; exact h1.2.2.2.2.1 hne
    · exact Nat.lt_trans (h2.2.2.2.2.1 e) (h1.2.2.2.2.1 hne)
  intro y hy
  have h3 := h y hy
  have hry : r y ≠ x := fun e => hrx (by
    have h5 := h3.2.2.2.1
    have h6 := (h (r y) h3.2.1).2.2.2.2.2 h5
    rw [e] at h6
    exact h6)
  by_cases e : y = x
  · subst e
    have e1 : va_up L y (L (L y)) y = L (L y) := by simp [va_up]
    have e2 : va_up L y (L (L y)) (r y) = L (r y) := by simp [va_up, hrx]
    rw [e1, e2]
    refine ⟨h2.1, h1.2.1, by rw [h2.2.2.1, h1.2.2.1], h1.2.2.2.1, fun _ => hdd, fun e => ?_⟩
    rw [e] at hdd
    exact absurd hdd (Nat.lt_irrefl _)
  · have e1 : va_up L x (L (L x)) y = L y := by simp [va_up, e]
    have e2 : va_up L x (L (L x)) (r y) = L (r y) := by simp [va_up, hry]
    rw [e1, e2]
    exact h3
theorem Forest.merge {L r : Nat → Nat} (h : Forest L r) {big small : Nat} (hb : big < 12) (hs : small < 12) (rb : r big = big) (rs : r small = small) (hne : big ≠ small) : Forest (va_up L small big) (fun z => if r z = small then big else r z) := by
  obtain ⟨d, h⟩ := h
  have hLb : L big = big := by have := (h big hb).2.2.2.1; rw [rb] at this; exact this
  refine ⟨fun z => if r z = small then d z + d big + 1 else d z, fun y hy => ?_⟩
  have h3 := h y hy
  have hLr := (h (r y) h3.2.1)
  have hrr : r (r y) = r y := hLr.2.2.2.2.2 h3.2.2.2.1
  by_cases e : y = small
  · subst e
    have e1 : va_up L y big y = big := by simp [va_up]
    have e2 : va_up L y big big = L big := by simp [va_up, hne]
    simp only [e1, rs, if_true, rb, if_neg hne, e2, hLb]
    refine ⟨hb, hb, trivial, trivial, fun _ => by omega, fun e => e⟩
  · have e1 : va_up L small big y = L y := by simp [va_up, e]
    have e2 : va_up L small big big = L big := by simp [va_up, hne]
    have e3 : ∀ z, z ≠ small → va_up L small big z = L z := fun z hz => by simp [va_up, hz]
    rw [e1]
    by_cases f : r y = small
    · simp only [h3.2.2.1, f, if_true, e2, hLb]
      refine ⟨h3.1, hb, trivial, trivial, fun e => by have := h3.2.2.2.2.1 e; omega, fun e => ?_⟩
      have := h3.2.2.2.2.2 e
      exact absurd (this.symm.trans f) (by assumption)
    · simp only [h3.2.2.1, if_neg f, e3 _ f]
      exact ⟨h3.1, h3.2.1, trivial, h3.2.2.2.1, h3.2.2.2.2.1, h3.2.2.2.2.2⟩
/-- what always holds of the contents, broken or not -/
def XSr (u : XSt) : Prop := u.sc ≤ 40 ∧ (∀ h, u.st h ≤ 2) ∧ (∀ h, u.lf h < 12) ∧ (∀ h, u.rt h < 12) ∧ (∀ h, u.ja h < 12) ∧ (∀ h, u.jb h < 12) ∧ (∀ h, u.kd h < 8) ∧ (∀ h, u.tg h < 12) ∧ (∀ h, u.sy h < 12) ∧ (∀ h, u.sz h < 12)
theorem lt31 {a : Nat} (h : a ≤ 1000) : a < 2 ^ 31 := by omega
end
section
/-! bounds kept by the plain functions -/
theorem up_le {f : Nat → Nat} {b k v : Nat} (h : ∀ i, f i ≤ b) (hv : v ≤ b) : ∀ i, va_up f k v i ≤ b := fun i => by
  unfold va_up
  split
  · exact hv
  · exact h i
theorem up_lt {f : Nat → Nat} {b k v : Nat} (h : ∀ i, f i < b) (hv : v < b) : ∀ i, va_up f k v i < b := fun i => by
  unfold va_up
  split
  · exact hv
  · exact h i
theorem XSr.st31 {u : XSt} (h : XSr u) (k : Nat) : u.st k < 2 ^ 31 := by have := h.2.1 k; omega
theorem XSr.kd31 {u : XSt} (h : XSr u) (k : Nat) : u.kd k < 2 ^ 31 := by have := h.2.2.2.2.2.2.1 k; omega
theorem XSr.lf {u : XSt} (h : XSr u) (k : Nat) : u.lf k < 12 := h.2.2.1 k
theorem XSr.rt {u : XSt} (h : XSr u) (k : Nat) : u.rt k < 12 := h.2.2.2.1 k
theorem XSr.ja {u : XSt} (h : XSr u) (k : Nat) : u.ja k < 12 := h.2.2.2.2.1 k
theorem XSr.jb {u : XSt} (h : XSr u) (k : Nat) : u.jb k < 12 := h.2.2.2.2.2.1 k
theorem XSr.tg {u : XSt} (h : XSr u) (k : Nat) : u.tg k < 12 := h.2.2.2.2.2.2.2.1 k
theorem XSr.sy {u : XSt} (h : XSr u) (k : Nat) : u.sy k < 12 := h.2.2.2.2.2.2.2.2.1 k
theorem XSr.sz {u : XSt} (h : XSr u) (k : Nat) : u.sz k < 12 := h.2.2.2.2.2.2.2.2.2 k
theorem XSr.wake {u : XSt} (h : XSr u) (k : Nat) : XSr (xs_wake u k) := h
theorem XSr.merge {u : XSt} (h : XSr u) (a b : Nat) : XSr (xs_merge u a b) := h
theorem XSr.park {u : XSt} (h : XSr u) (a b : Nat) : XSr (xs_park u a b) := h
theorem XSr.want {u : XSt} (h : XSr u) {x y : Nat} (hx : x < 12) (hy : y < 12) : XSr (xs_want u x y) := by
  obtain ⟨h0, h1, h2, h3, h4, h5, h6⟩ := h
  exact ⟨h0, h1, h2, h3, up_lt h4 hx, up_lt h5 hy, h6⟩
theorem XSr.bindN {u : XSt} (h : XSr u) (k : Nat) (n : Int32) : XSr (xs_bindN u k n) := by
  unfold xs_bindN
  split
  · obtain ⟨h0, h1, h2⟩ := h
    exact ⟨h0, up_le h1 (by decide), h2⟩
  · split
    · exact h
    · exact h
theorem XSr.bindC {u : XSt} (h : XSr u) (k : Nat) {a b : Nat} (ha : a < 12) (hb : b < 12) : XSr (xs_bindC u k a b) := by
  unfold xs_bindC
  split
  · obtain ⟨h0, h1, h2, h3, h4⟩ := h
    exact ⟨h0, up_le h1 (by decide), up_lt h2 ha, up_lt h3 hb, h4⟩
  · split
    · exact (h.want (h.lf k) ha).want (h.rt k) hb
    · exact h
theorem XSr.j2 {u : XSt} (h : XSr u) (a b : Nat) : XSr (xs_j2 u a b) := by
  unfold xs_j2
  split
  · exact h.bindN _ _
  · exact h
theorem XSr.j3 {u : XSt} (h : XSr u) (a b : Nat) : XSr (xs_j3 u a b) := by
  unfold xs_j3
  split
  · exact h.bindC _ (h.lf b) (h.rt b)
  · exact h
theorem XSr.j4 {u : XSt} (h : XSr u) (a : Nat) : XSr (xs_j4 u a) := by
  unfold xs_j4
  split
  · exact h
  · exact h
theorem XSr.join2 {u : XSt} (h : XSr u) (a b : Nat) : XSr (xs_join2 u a b) := (((h.merge a b).j2 a b).j3 a b).j4 a
theorem XSr.join {u : XSt} (h : XSr u) (a b : Nat) : XSr (xs_join u a b) := by
  unfold xs_join
  split
  · exact h
  · split
    · exact h.join2 _ _
    · exact h.join2 _ _
theorem XSr.fire {u : XSt} (h : XSr u) (s : Nat) : XSr (xs_fire u s) := by
  unfold xs_fire
  split
  · refine h.want (h.tg s) ?_
    split
    · exact h.lf _
    · exact h.rt _
  · exact h.bindN _ _
theorem XSr.tryS {u : XSt} (h : XSr u) (s : Nat) : XSr (xs_try u s) := by
  unfold xs_try
  split
  · exact h.park _ _
  · split
    · exact h.park _ _
    · split
      · exact h
      · exact XSr.fire (u := u.s_su (u.su &&& (xs_bit s ^^^ -1))) h s
theorem bindN_r (u : XSt) (k : Nat) (n : Int32) : (xs_bindN u k n).r = u.r := by
  unfold xs_bindN
  split
  · rfl
  · split <;> rfl
theorem bindN_jc (u : XSt) (k : Nat) (n : Int32) : (xs_bindN u k n).jc = u.jc := by
  unfold xs_bindN
  split
  · rfl
  · split <;> rfl
theorem bindC_r (u : XSt) (k a b : Nat) : (xs_bindC u k a b).r = u.r := by
  unfold xs_bindC
  split
  · rfl
  · split <;> rfl
theorem j2_r (u : XSt) (a b : Nat) : (xs_j2 u a b).r = u.r := by
  unfold xs_j2
  split
  · exact bindN_r _ _ _
  · rfl
theorem j2_jc (u : XSt) (a b : Nat) : (xs_j2 u a b).jc = u.jc := by
  unfold xs_j2
  split
  · exact bindN_jc _ _ _
  · rfl
theorem j3_r (u : XSt) (a b : Nat) : (xs_j3 u a b).r = u.r := by
  unfold xs_j3
  split
  · exact bindC_r _ _ _ _
  · rfl
/-! bits -/
theorem bit_tp : ∀ s, s < 64 → (xs_bit s).toBitVec = BitVec.twoPow 64 s := by decide +kernel
theorem bt_bit {s : Nat} (hs : s < 64) (i : Nat) : bt (xs_bit s) i = decide (i = s) := by
  unfold bt
  rw [bit_tp s hs, BitVec.getLsbD_twoPow]
  by_cases h : s = i
  · subst h; simp [hs]
  · simp [h, Ne.symm h]
theorem bt_or (x y : Int64) (i : Nat) : bt (x ||| y) i = (bt x i || bt y i) := by
  unfold bt
  rw [Int64.toBitVec_or, BitVec.getLsbD_or]
theorem bt_and (x y : Int64) (i : Nat) : bt (x &&& y) i = (bt x i && bt y i) := by
  unfold bt
  rw [Int64.toBitVec_and, BitVec.getLsbD_and]
theorem bt_not (x : Int64) {i : Nat} (hi : i < 64) : bt (x ^^^ (-1)) i = !(bt x i) := by
  unfold bt
  rw [Int64.toBitVec_xor, BitVec.getLsbD_xor, show (-1 : Int64).toBitVec = BitVec.allOnes 64 from by decide, BitVec.getLsbD_allOnes]
  simp [hi]
theorem bt_big (x : Int64) {i : Nat} (hi : 64 ≤ i) : bt x i = false := by
  unfold bt
  exact BitVec.getLsbD_of_ge _ _ hi
theorem bt_0 (i : Nat) : bt 0 i = false := by
  unfold bt
  rw [show (0 : Int64).toBitVec = 0#64 from by decide]
  simp
theorem bt_clr (x : Int64) {s : Nat} (hs : s < 64) (i : Nat) : bt (x &&& (xs_bit s ^^^ (-1))) i = (bt x i && !(decide (i = s))) := by
  rw [bt_and]
  by_cases hi : i < 64
  · rw [bt_not _ hi, bt_bit hs]
  · rw [bt_big x (by omega)]; simp
theorem bt_ext {x y : Int64} (h : ∀ i, i < 64 → bt x i = bt y i) : x = y := by
  apply Int64.toBitVec_inj.mp
  apply BitVec.eq_of_getLsbD_eq
  intro i hi
  exact h i hi
theorem bt_ne0 {x : Int64} (h : x ≠ 0) : ∃ i, i < 64 ∧ bt x i = true := by
  apply Classical.byContradiction
  intro hn
  apply h
  apply bt_ext
  intro i hi
  rw [bt_0]
  cases e : bt x i with
  | false => rfl
  | true => exact absurd ⟨i, hi, e⟩ hn
theorem sh_cu : ∀ k, k < 64 → ((nI k).toInt64.toUInt64 &&& Int64.toUInt64 63) = UInt64.ofNat k := by decide +kernel
theorem bt_shr (x : Int64) {s : Nat} (hs : s < 64) : ((x.toUInt64 >>> ((nI s).toInt64.toUInt64 &&& Int64.toUInt64 63)).toInt64 &&& 1) = if bt x s then 1 else 0 := by
  apply bt_ext
  intro i hi
  rw [bt_and]
  have e1 : bt (x.toUInt64 >>> ((nI s).toInt64.toUInt64 &&& Int64.toUInt64 63)).toInt64 i = bt x (s + i) := by
    unfold bt
    rw [sh_cu s hs]
    have : (x.toUInt64 >>> UInt64.ofNat s).toInt64.toBitVec = x.toBitVec >>> s := by
      show (x.toUInt64 >>> UInt64.ofNat s).toBitVec = _
      rw [UInt64.toBitVec_shiftRight]
      have h2 : (UInt64.ofNat s).toBitVec % 64 = BitVec.ofNat 64 s := by
        apply BitVec.eq_of_toNat_eq
        simp [BitVec.toNat_umod]
        omega
      rw [h2]
      show x.toBitVec >>> (BitVec.ofNat 64 s) = _
      rw [BitVec.ushiftRight_eq']
      congr 1
      simp
      omega
    rw [this, BitVec.getLsbD_ushiftRight]
  have e2 : bt 1 i = decide (i = 0) := by
    unfold bt
    rw [show (1 : Int64).toBitVec = BitVec.twoPow 64 0 from by decide, BitVec.getLsbD_twoPow]
    by_cases h : i = 0
    · subst h; simp
    · simp [h, Ne.symm h]
  rw [e1, e2]
  by_cases h : i = 0
  · subst h
    cases hb : bt x s with
    | true => simp [hb, e2]
    | false => simp [hb, bt_0]
  · cases hb : bt x s with
    | true => simp [h, e2]
    | false => simp [h, bt_0]
end
section
set_option maxRecDepth 100000
set_option maxHeartbeats 4000000 in
set_option maxRecDepth 100000 in
/-- wake(k) -/
theorem mX_wake (l : Launch) (D : va_G) (h : Nat → Nat) (dA : Nat → ClassId) (L : Nat → Nat) (u : XSt) (k : Nat) (hk : k < 12) (hF : Forest L u.r) : Met l yX0_wake (ws_ yX0_wake cX0_wake 2 none) (rmN 0) (XPc D h dA L u [.int (nI k)]) (XQv D h dA (fun L' u' => Forest L' u'.r ∧ u' = xs_wake u k)) 0 0 (AX h) := by
  refine x_met rfl (Nat.le_of_ble_eq_true rfl) ?_
  intro p e s m below meth c ls C hr hlocks hW hl
  have hx := C.1
  have hb := C.2.1
  have hl : lv_has ls 2 [(0, .ref (h 0)), (1, .int (nI k))] := hl
  refine lv_aload_n hx hb dX0_wake_0 rfl (lv_at hl 0 rfl) ?_
  refine lv_dup hx hb dX0_wake_1 rfl ?_
  refine x_get C hW 16 (by decide) q51 rfl rfl dX0_wake_2 ?_
  refine lv_aload_n hx hb dX0_wake_5 rfl (lv_at hl 0 rfl) ?_
  refine x_get C hW 12 (by decide) q47 rfl rfl dX0_wake_6 ?_
  refine lv_iload_n hx hb dX0_wake_9 rfl (lv_at hl 1 rfl) ?_
  refine x_ld_wa C hW hk dX0_wake_10 ?_
  refine lv_aload_n hx hb dX0_wake_11 rfl (lv_at hl 0 rfl) ?_
  refine x_get C hW 5 (by decide) q40 rfl rfl dX0_wake_12 ?_
  refine lv_land hx hb dX0_wake_15 ?_
  refine lv_lor hx hb dX0_wake_16 ?_
  refine x_put_rd C hW q51 dX0_wake_17 (fun H locs hW => ?_)
  refine lv_aload_n hx hb dX0_wake_20 rfl (lv_at hl 0 rfl) ?_
  refine x_get C hW 12 (by decide) q47 rfl rfl dX0_wake_21 ?_
  refine lv_iload_n hx hb dX0_wake_24 rfl (lv_at hl 1 rfl) ?_
  refine lv_lconst (v := 0) hx hb dX0_wake_25 (by decide) ?_
  refine x_st_wa C hW hk dX0_wake_26 (fun H locs hW => ?_)
  exact x_vret C hW hr hlocks ⟨hF, rfl⟩ dX0_wake_27
set_option maxHeartbeats 4000000 in
set_option maxRecDepth 100000 in
/-- want(x, y) -/
theorem mX_want (l : Launch) (D : va_G) (h : Nat → Nat) (dA : Nat → ClassId) (L : Nat → Nat) (u : XSt) (x y : Nat) (hx12 : x < 12) (hy12 : y < 12) (hj : u.jc < 40) (hF : Forest L u.r) : Met l yX0_want (ws_ yX0_want cX0_want 3 none) (rmN 0) (XPc D h dA L u [.int (nI x), .int (nI y)]) (XQv D h dA (fun L' u' => Forest L' u'.r ∧ u' = xs_want u x y)) 0 0 (AX h) := by
  refine x_met rfl (Nat.le_of_ble_eq_true rfl) ?_
  intro p e s m below meth c ls C hr hlocks hW hl
  have hx := C.1
  have hb := C.2.1
  have hl : lv_has ls 3 [(0, .ref (h 0)), (1, .int (nI x)), (2, .int (nI y))] := hl
  refine lv_aload_n hx hb dX0_want_0 rfl (lv_at hl 0 rfl) ?_
  refine x_get C hW 14 (by decide) q49 rfl rfl dX0_want_1 ?_
  refine lv_aload_n hx hb dX0_want_4 rfl (lv_at hl 0 rfl) ?_
  refine x_get C hW 13 (by decide) q48 rfl rfl dX0_want_5 ?_
  refine lv_iload_n hx hb dX0_want_8 rfl (lv_at hl 1 rfl) ?_
  refine n_i2b hx hb (by omega) dX0_want_9 ?_
  refine x_st_ja C hW hj (by omega) dX0_want_10 (fun H locs hW => ?_)
  refine lv_aload_n hx hb dX0_want_11 rfl (lv_at hl 0 rfl) ?_
  refine x_get C hW 15 (by decide) q50 rfl rfl dX0_want_12 ?_
  refine lv_aload_n hx hb dX0_want_15 rfl (lv_at hl 0 rfl) ?_
  refine x_get C hW 13 (by decide) q48 rfl rfl dX0_want_16 ?_
  refine lv_iload_n hx hb dX0_want_19 rfl (lv_at hl 2 rfl) ?_
  refine n_i2b hx hb (by omega) dX0_want_20 ?_
  refine x_st_jb C hW hj (by omega) dX0_want_21 (fun H locs hW => ?_)
  refine lv_aload_n hx hb dX0_want_22 rfl (lv_at hl 0 rfl) ?_
  refine lv_dup hx hb dX0_want_23 rfl ?_
  refine x_get C hW 13 (by decide) q48 rfl rfl dX0_want_24 ?_
  refine lv_iconst (v := nI 1) hx hb dX0_want_27 (by decide) ?_
  refine n_iadd hx hb dX0_want_28 ?_
  refine x_put_jc C hW q48 dX0_want_29 (fun H locs hW => ?_)
  exact x_vret C hW hr hlocks ⟨hF, rfl⟩ dX0_want_32
set_option maxHeartbeats 4000000 in
set_option maxRecDepth 100000 in
/-- head(x) -/
theorem mX_head (l : Launch) (D : va_G) (h : Nat → Nat) (dA : Nat → ClassId) (L : Nat → Nat) (u : XSt) (x : Nat) (hx12 : x < 12) (hF : Forest L u.r) : Met l yX0_head (ws_ yX0_head cX0_head 3 (some .int)) (rmN 0) (XPc D h dA L u [.int (nI x)]) (XQi D h dA (fun r L' u' => r = nI (u.r x) ∧ Forest L' u.r ∧ u' = u)) 0 0 (AX h) := by
  refine x_met rfl (Nat.le_of_ble_eq_true rfl) ?_
  intro p e s m below meth c ls C hr hlocks hW hl
  have hx := C.1
  have hb := C.2.1
  have hl : lv_has ls 3 [(0, .ref (h 0)), (1, .int (nI x))] := hl
  obtain ⟨d, hF⟩ := hF
  have loop : ∀ (n k : Nat) (L : Nat → Nat) (H : Heap) (locs : List Loc) (ls : Array Slot), d k < n → k < 12 → u.r k = u.r x → FD L u.r d → XW D h dA L u s.heap H locs → lv_has ls 3 [(2, .int (nI k)), (0, .ref (h 0)), (1, .int (nI x))] → W p l e (rmN 0) s m (.ref (h 0) :: [.int (nI x)]).toArray below meth c H locs 0 0 (MQ below (XQi D h dA (fun r L' u' => r = nI (u.r x) ∧ Forest L' u.r ∧ u' = u)) (.ref (h 0) :: [.int (nI x)]).toArray s 0 0 (AX h)) (F0 m 2 ls []) := by
    intro n
    induction n with
    | zero => intro k L H locs ls hn; exact absurd hn (by omega)
    | succ n ih =>
      intro k L H locs ls hn hk hrk hF hW hl
      have h1 := hF k hk
      have h2 := hF (L k) h1.1
      refine lv_aload_n hx hb dX0_head_2 rfl (lv_at hl 1 rfl) ?_
      refine x_get C hW 6 (by decide) q41 rfl rfl dX0_head_3 ?_
      refine lv_iload_n hx hb dX0_head_6 rfl (lv_at hl 0 rfl) ?_
      refine x_ld_L C hW hk dX0_head_7 ?_
      refine lv_iload_n hx hb dX0_head_8 rfl (lv_at hl 0 rfl) ?_
      refine n_icmp_eq (tgt := 39) hx hb (by omega) (by omega) dX0_head_9 (by decide) (fun c9 => ?_) (fun c9 => ?_)
      · have e := h1.2.2.2.2.2 c9
        skip
        refine lv_iload_n hx hb dX0_head_39 rfl (lv_at hl 0 rfl) ?_
        exact x_iret C hW hr hlocks ⟨by rw [← hrk, e], ⟨d, hF⟩, rfl⟩ dX0_head_40
      · refine lv_aload_n hx hb dX0_head_12 rfl (lv_at hl 1 rfl) ?_
        refine x_get C hW 6 (by decide) q41 rfl rfl dX0_head_13 ?_
        refine lv_iload_n hx hb dX0_head_16 rfl (lv_at hl 0 rfl) ?_
        refine lv_aload_n hx hb dX0_head_17 rfl (lv_at hl 1 rfl) ?_
        refine x_get C hW 6 (by decide) q41 rfl rfl dX0_head_18 ?_
        refine lv_aload_n hx hb dX0_head_21 rfl (lv_at hl 1 rfl) ?_
        refine x_get C hW 6 (by decide) q41 rfl rfl dX0_head_22 ?_
        refine lv_iload_n hx hb dX0_head_25 rfl (lv_at hl 0 rfl) ?_
        refine x_ld_L C hW hk dX0_head_26 ?_
        refine x_ld_L C hW h1.1 dX0_head_27 ?_
        refine x_st_L C hW hk (by have := h2.1; omega) dX0_head_28 (fun H locs hW => ?_)
        refine lv_aload_n hx hb dX0_head_29 rfl (lv_at hl 1 rfl) ?_
        refine x_get C hW 6 (by decide) q41 rfl rfl dX0_head_30 ?_
        refine lv_iload_n hx hb dX0_head_33 rfl (lv_at hl 0 rfl) ?_
        refine x_ld_L C hW hk dX0_head_34 ?_
        refine lv_istore_n (lv' := [(2, _), (0, _), (1, _)]) hx hb dX0_head_35 rfl hl (by decide) rfl (fun ls hl => ?_)
        refine lv_goto (tgt := 2) hx hb dX0_head_36 (by decide) ?_
        have ev : va_up L k (L (L k)) k = L (L k) := by simp [va_up]
        exact ih (va_up L k (L (L k)) k) _ H locs ls (by rw [ev]; by_cases z : L (L k) = L k; (have := h1.2.2.2.2.1 c9; rw [z]; omega); (have := h1.2.2.2.2.1 c9; have := h2.2.2.2.2.1 z; omega)) (by rw [ev]; exact h2.1) (by rw [ev, h2.2.2.1, h1.2.2.1]; exact hrk) (hF.halve hk c9) hW hl
  refine lv_iload_n hx hb dX0_head_0 rfl (lv_at hl 1 rfl) ?_
  refine lv_istore_n (lv' := [(2, _), (0, _), (1, _)]) hx hb dX0_head_1 rfl hl (by decide) rfl (fun ls hl => ?_)
  exact loop (d x + 1) x L s.heap [] ls (Nat.lt_succ_self _) hx12 rfl hF hW hl
end
section
set_option maxRecDepth 100000
set_option maxHeartbeats 4000000 in
set_option maxRecDepth 100000 in
/-- computed(op, a, b) -/
theorem mX_computed (l : Launch) (D : va_G) (h : Nat → Nat) (dA : Nat → ClassId) (L : Nat → Nat) (u : XSt) (op : Nat) (hop : op < 8) (a b : Int32) : Met l yX0_computed (ws_ yX0_computed cX0_computed 4 (some .int)) (rmN 0) (XPc D h dA L u [.int (nI op), .int a, .int b]) (XQi D h dA (fun r L' u' => r = xs_comp op a b ∧ L' = L ∧ u' = u)) 0 0 (AX h) := by
  refine x_met rfl (Nat.le_of_ble_eq_true rfl) ?_
  intro p e s m below meth c ls C hr hlocks hW hl
  have hx := C.1
  have hb := C.2.1
  have hl : lv_has ls 4 [(0, .ref (h 0)), (1, .int (nI op)), (2, .int a), (3, .int b)] := hl
  refine lv_iload_n hx hb dX0_computed_0 rfl (lv_at hl 1 rfl) ?_
  refine lv_iconst (v := nI 3) hx hb dX0_computed_1 (by decide) ?_
  refine n_icmp_ne (tgt := 9) hx hb (by omega) (by omega) dX0_computed_2 (by decide) (fun c2 => ?_) (fun c2 => ?_)
  · refine lv_iload_n hx hb dX0_computed_9 rfl (lv_at hl 1 rfl) ?_
    refine lv_iconst (v := nI 4) hx hb dX0_computed_10 (by decide) ?_
    refine n_icmp_ne (tgt := 18) hx hb (by omega) (by omega) dX0_computed_11 (by decide) (fun c11 => ?_) (fun c11 => ?_)
    · refine lv_iload_n hx hb dX0_computed_18 rfl (lv_at hl 2 rfl) ?_
      refine lv_iload_n hx hb dX0_computed_19 rfl (lv_at hl 3 rfl) ?_
      refine lv_icmp_ne (tgt := 27) hx hb dX0_computed_20 (by decide) (fun c20 => ?_) (fun c20 => ?_)
      · refine lv_iconst (v := 0) hx hb dX0_computed_27 (by decide) ?_
        exact x_iret C hW hr hlocks ⟨((if_neg c2).trans ((if_neg c11).trans (if_neg c20))).symm, rfl, rfl⟩ dX0_computed_28
      · refine lv_iconst (v := 1) hx hb dX0_computed_23 (by decide) ?_
        refine lv_goto (tgt := 28) hx hb dX0_computed_24 (by decide) ?_
        exact x_iret C hW hr hlocks ⟨((if_neg c2).trans ((if_neg c11).trans (if_pos c20))).symm, rfl, rfl⟩ dX0_computed_28
    · refine lv_iload_n hx hb dX0_computed_14 rfl (lv_at hl 2 rfl) ?_
      refine lv_iload_n hx hb dX0_computed_15 rfl (lv_at hl 3 rfl) ?_
      refine lv_imul hx hb dX0_computed_16 ?_
      exact x_iret C hW hr hlocks ⟨((if_neg c2).trans (if_pos c11)).symm, rfl, rfl⟩ dX0_computed_17
  · refine lv_iload_n hx hb dX0_computed_5 rfl (lv_at hl 2 rfl) ?_
    refine lv_iload_n hx hb dX0_computed_6 rfl (lv_at hl 3 rfl) ?_
    refine lv_iadd hx hb dX0_computed_7 ?_
    exact x_iret C hW hr hlocks ⟨(if_pos c2).symm, rfl, rfl⟩ dX0_computed_8
set_option maxHeartbeats 4000000 in
set_option maxRecDepth 100000 in
/-- lowestReady() -/
theorem mX_lowestReady (l : Launch) (D : va_G) (h : Nat → Nat) (dA : Nat → ClassId) (L : Nat → Nat) (u : XSt)  : Met l yX0_lowestReady (ws_ yX0_lowestReady cX0_lowestReady 2 (some .int)) (rmN 0) (XPc D h dA L u []) (XQi D h dA (fun r L' u' => (∃ k : Nat, r = nI k ∧ k ≤ 39 ∧ (k < 39 → bt u.rd k = true) ∧ ∀ j, j < k → bt u.rd j = false) ∧ L' = L ∧ u' = u)) 0 0 (AX h) := by
  refine x_met rfl (Nat.le_of_ble_eq_true rfl) ?_
  intro p e s m below meth c ls C hr hlocks hW hl
  have hx := C.1
  have hb := C.2.1
  have hl : lv_has ls 2 [(0, .ref (h 0))] := hl
  have loop : ∀ (n k : Nat) (ls : Array Slot), 39 < n + k → k ≤ 39 → (∀ j, j < k → bt u.rd j = false) → lv_has ls 2 [(1, .int (nI k)), (0, .ref (h 0))] → W p l e (rmN 0) s m (.ref (h 0) :: []).toArray below meth c s.heap [] 0 0 (MQ below (XQi D h dA (fun r L' u' => (∃ k : Nat, r = nI k ∧ k ≤ 39 ∧ (k < 39 → bt u.rd k = true) ∧ ∀ j, j < k → bt u.rd j = false) ∧ L' = L ∧ u' = u)) (.ref (h 0) :: []).toArray s 0 0 (AX h)) (F0 m 2 ls []) := by
    intro n
    induction n with
    | zero => intro k ls hn hk; exact absurd hn (by omega)
    | succ n ih =>
      intro k ls hn hk hlow hl
      refine lv_iload_n hx hb dX0_lowestReady_2 rfl (lv_at hl 0 rfl) ?_
      refine lv_bipush (v := nI 39) hx hb dX0_lowestReady_3 (by decide) ?_
      refine n_icmp_ge (tgt := 27) hx hb (by omega) (by omega) dX0_lowestReady_5 (by decide) (fun c5 => ?_) (fun c5 => ?_)
      · refine lv_iload_n hx hb dX0_lowestReady_27 rfl (lv_at hl 0 rfl) ?_
        exact x_iret C hW hr hlocks ⟨⟨k, rfl, hk, fun z => absurd c5 (by omega), hlow⟩, rfl, rfl⟩ dX0_lowestReady_28
      · refine lv_aload_n hx hb dX0_lowestReady_8 rfl (lv_at hl 1 rfl) ?_
        refine x_get C hW 16 (by decide) q51 rfl rfl dX0_lowestReady_9 ?_
        refine lv_iload_n hx hb dX0_lowestReady_12 rfl (lv_at hl 0 rfl) ?_
        refine lv_lushr hx hb dX0_lowestReady_13 rfl ?_
        refine lv_lconst (v := 1) hx hb dX0_lowestReady_14 (by decide) ?_
        refine lv_land hx hb dX0_lowestReady_15 ?_
        refine lv_lconst (v := 0) hx hb dX0_lowestReady_16 (by decide) ?_
        refine W.lcmp hx hb dX0_lowestReady_17 ?_
        refine lv_if_ne (tgt := 27) hx hb dX0_lowestReady_18 (by decide) (fun c18 => ?_) (fun c18 => ?_)
        · have hbit : bt u.rd k = true := by
            rw [bt_shr _ (show k < 64 by omega)] at c18
            cases hq : bt u.rd k with
            | true => rfl
            | false => rw [hq] at c18; exact absurd (by decide) c18
          refine lv_iload_n hx hb dX0_lowestReady_27 rfl (lv_at hl 0 rfl) ?_
          exact x_iret C hW hr hlocks ⟨⟨k, rfl, hk, fun _ => hbit, hlow⟩, rfl, rfl⟩ dX0_lowestReady_28
        · have hbit : bt u.rd k = false := by
            rw [bt_shr _ (show k < 64 by omega)] at c18
            cases hq : bt u.rd k with
            | false => rfl
            | true => rw [hq] at c18; exact absurd c18 (by decide)
          refine lv_iinc (lv' := [(1, _), (0, _)]) hx hb dX0_lowestReady_21 hl (k := 0) rfl (nI_1 _) (by decide) rfl (fun ls hl => ?_)
          refine lv_goto (tgt := 2) hx hb dX0_lowestReady_24 (by decide) ?_
          exact ih (k + 1) ls (by omega) (by omega) (fun j hj => by rcases Nat.lt_succ_iff_lt_or_eq.mp hj with q | q; exact hlow j q; rw [q]; exact hbit) hl
  refine lv_iconst (v := nI 0) hx hb dX0_lowestReady_0 (by decide) ?_
  refine lv_istore_n (lv' := [(1, _), (0, _)]) hx hb dX0_lowestReady_1 rfl hl (by decide) rfl (fun ls hl => ?_)
  exact loop 40 0 ls (by omega) (by omega) (fun j hj => absurd hj (Nat.not_lt_zero _)) hl
set_option maxHeartbeats 4000000 in
set_option maxRecDepth 100000 in
/-- bindNumber(x, a) -/
theorem mX_bindNumber (l : Launch) (D : va_G) (h : Nat → Nat) (dA : Nat → ClassId) (L : Nat → Nat) (u : XSt) (x : Nat) (hx12 : x < 12) (a : Int32) (hS : XSr u) (hF : Forest L u.r) : Met l yX0_bindNumber (ws_ yX0_bindNumber cX0_bindNumber 4 none) (rmN 1) (XPc D h dA L u [.int (nI x), .int a]) (XQv D h dA (fun L' u' => Forest L' u'.r ∧ u' = xs_bindN u (u.r x) a)) 0 0 (AX h) := by
  refine x_met rfl (Nat.le_of_ble_eq_true rfl) ?_
  intro p e s m below meth c ls C hr hlocks hW hl
  have hx := C.1
  have hb := C.2.1
  have hl : lv_has ls 4 [(0, .ref (h 0)), (1, .int (nI x)), (2, .int a)] := hl
  have hrx := hF.lt hx12
  refine lv_aload_n hx hb dX0_bindNumber_0 rfl (lv_at hl 0 rfl) ?_
  refine lv_iload_n hx hb dX0_bindNumber_1 rfl (lv_at hl 1 rfl) ?_
  refine x_calli C hW (As := [_]) (rest := []) (mX_head l D h dA L _ (x) (hx12) hF) cbX_head ⟨by decide, by decide⟩ ⟨rfl, rfl⟩ ⟨Nat.zero_le _, Nat.zero_le _⟩ rfl hl.1 rfl (Nat.le_of_ble_eq_true rfl) dX0_bindNumber_2 (fun r L u' H locs hp hW => ?_)
  obtain ⟨hre, hF, hu⟩ := hp
  rw [hu] at hW
  clear hu
  subst hre
  refine lv_istore_n (lv' := [(3, _), (0, _), (1, _), (2, _)]) hx hb dX0_bindNumber_5 rfl hl (by decide) rfl (fun ls hl => ?_)
  refine lv_aload_n hx hb dX0_bindNumber_6 rfl (lv_at hl 1 rfl) ?_
  refine x_get C hW 8 (by decide) q43 rfl rfl dX0_bindNumber_7 ?_
  refine lv_iload_n hx hb dX0_bindNumber_10 rfl (lv_at hl 0 rfl) ?_
  refine x_ld_st C hW hrx dX0_bindNumber_11 ?_
  refine n_if_ne (tgt := 37) hx hb (hS.st31 _) dX0_bindNumber_12 (by decide) (fun c12 => ?_) (fun c12 => ?_)
  · refine lv_aload_n hx hb dX0_bindNumber_37 rfl (lv_at hl 1 rfl) ?_
    refine x_get C hW 8 (by decide) q43 rfl rfl dX0_bindNumber_38 ?_
    refine lv_iload_n hx hb dX0_bindNumber_41 rfl (lv_at hl 0 rfl) ?_
    refine x_ld_st C hW hrx dX0_bindNumber_42 ?_
    refine lv_iconst (v := nI 2) hx hb dX0_bindNumber_43 (by decide) ?_
    refine n_icmp_eq (tgt := 57) hx hb (hS.st31 _) (by decide) dX0_bindNumber_44 (by decide) (fun c44 => ?_) (fun c44 => ?_)
    · refine lv_aload_n hx hb dX0_bindNumber_57 rfl (lv_at hl 1 rfl) ?_
      refine lv_iconst (v := bI true) hx hb dX0_bindNumber_58 (by decide) ?_
      refine x_put_bk C hW q52 dX0_bindNumber_59 (fun H locs hW => ?_)
      exact x_vret C hW hr hlocks ⟨hF, ((if_neg c12).trans (if_pos (Or.inl c44))).symm⟩ dX0_bindNumber_62
    · refine lv_aload_n hx hb dX0_bindNumber_47 rfl (lv_at hl 1 rfl) ?_
      refine x_get C hW 9 (by decide) q44 rfl rfl dX0_bindNumber_48 ?_
      refine lv_iload_n hx hb dX0_bindNumber_51 rfl (lv_at hl 0 rfl) ?_
      refine x_ld_nu C hW hrx dX0_bindNumber_52 ?_
      refine lv_iload_n hx hb dX0_bindNumber_53 rfl (lv_at hl 3 rfl) ?_
      refine lv_icmp_eq (tgt := 62) hx hb dX0_bindNumber_54 (by decide) (fun c54 => ?_) (fun c54 => ?_)
      · exact x_vret C hW hr hlocks ⟨hF, ((if_neg c12).trans (if_neg (fun z => z.elim c44 (fun z => z c54)))).symm⟩ dX0_bindNumber_62
      · refine lv_aload_n hx hb dX0_bindNumber_57 rfl (lv_at hl 1 rfl) ?_
        refine lv_iconst (v := bI true) hx hb dX0_bindNumber_58 (by decide) ?_
        refine x_put_bk C hW q52 dX0_bindNumber_59 (fun H locs hW => ?_)
        exact x_vret C hW hr hlocks ⟨hF, ((if_neg c12).trans (if_pos (Or.inr c54))).symm⟩ dX0_bindNumber_62
  · refine lv_aload_n hx hb dX0_bindNumber_15 rfl (lv_at hl 1 rfl) ?_
    refine x_get C hW 8 (by decide) q43 rfl rfl dX0_bindNumber_16 ?_
    refine lv_iload_n hx hb dX0_bindNumber_19 rfl (lv_at hl 0 rfl) ?_
    refine lv_iconst (v := nI 1) hx hb dX0_bindNumber_20 (by decide) ?_
    refine x_st_st C hW hrx (by decide) dX0_bindNumber_21 (fun H locs hW => ?_)
    refine lv_aload_n hx hb dX0_bindNumber_22 rfl (lv_at hl 1 rfl) ?_
    refine x_get C hW 9 (by decide) q44 rfl rfl dX0_bindNumber_23 ?_
    refine lv_iload_n hx hb dX0_bindNumber_26 rfl (lv_at hl 0 rfl) ?_
    refine lv_iload_n hx hb dX0_bindNumber_27 rfl (lv_at hl 3 rfl) ?_
    refine x_st_nu C hW hrx dX0_bindNumber_28 (fun H locs hW => ?_)
    refine lv_aload_n hx hb dX0_bindNumber_29 rfl (lv_at hl 1 rfl) ?_
    refine lv_iload_n hx hb dX0_bindNumber_30 rfl (lv_at hl 0 rfl) ?_
    refine x_callv C hW (As := [_]) (rest := []) (mX_wake l D h dA L _ (u.r x) hrx hF) cbX_wake ⟨by decide, by decide⟩ ⟨rfl, rfl⟩ ⟨Nat.zero_le _, Nat.zero_le _⟩ rfl hl.1 rfl (Nat.le_of_ble_eq_true rfl) dX0_bindNumber_31 (fun L u' H locs hp hW => ?_)
    obtain ⟨hF, hu⟩ := hp
    subst hu
    refine lv_goto (tgt := 62) hx hb dX0_bindNumber_34 (by decide) ?_
    exact x_vret C hW hr hlocks ⟨hF, (if_pos c12).symm⟩ dX0_bindNumber_62
set_option maxHeartbeats 4000000 in
set_option maxRecDepth 100000 in
/-- bindCouple(x, a, b) -/
theorem mX_bindCouple (l : Launch) (D : va_G) (h : Nat → Nat) (dA : Nat → ClassId) (L : Nat → Nat) (u : XSt) (x a b : Nat) (hx12 : x < 12) (ha12 : a < 12) (hb12 : b < 12) (hj : u.jc + 2 ≤ 40) (hS : XSr u) (hF : Forest L u.r) : Met l yX0_bindCouple (ws_ yX0_bindCouple cX0_bindCouple 5 none) (rmN 1) (XPc D h dA L u [.int (nI x), .int (nI a), .int (nI b)]) (XQv D h dA (fun L' u' => Forest L' u'.r ∧ u' = xs_bindC u (u.r x) a b)) 0 0 (AX h) := by
  refine x_met rfl (Nat.le_of_ble_eq_true rfl) ?_
  intro p e s m below meth c ls C hr hlocks hW hl
  have hx := C.1
  have hb := C.2.1
  have hl : lv_has ls 5 [(0, .ref (h 0)), (1, .int (nI x)), (2, .int (nI a)), (3, .int (nI b))] := hl
  have hrx := hF.lt hx12
  refine lv_aload_n hx hb dX0_bindCouple_0 rfl (lv_at hl 0 rfl) ?_
  refine lv_iload_n hx hb dX0_bindCouple_1 rfl (lv_at hl 1 rfl) ?_
  refine x_calli C hW (As := [_]) (rest := []) (mX_head l D h dA L _ (x) (hx12) hF) cbX_head ⟨by decide, by decide⟩ ⟨rfl, rfl⟩ ⟨Nat.zero_le _, Nat.zero_le _⟩ rfl hl.1 rfl (Nat.le_of_ble_eq_true rfl) dX0_bindCouple_2 (fun r L u' H locs hp hW => ?_)
  obtain ⟨hre, hF, hu⟩ := hp
  rw [hu] at hW
  clear hu
  subst hre
  refine lv_istore (lv' := [(4, _), (0, _), (1, _), (2, _), (3, _)]) hx hb dX0_bindCouple_5 hl (by decide) rfl (fun ls hl => ?_)
  refine lv_aload_n hx hb dX0_bindCouple_7 rfl (lv_at hl 1 rfl) ?_
  refine x_get C hW 8 (by decide) q43 rfl rfl dX0_bindCouple_8 ?_
  refine lv_iload hx hb dX0_bindCouple_11 (lv_at hl 0 rfl) ?_
  refine x_ld_st C hW hrx dX0_bindCouple_13 ?_
  refine n_if_ne (tgt := 52) hx hb (hS.st31 _) dX0_bindCouple_14 (by decide) (fun c14 => ?_) (fun c14 => ?_)
  · refine lv_aload_n hx hb dX0_bindCouple_52 rfl (lv_at hl 1 rfl) ?_
    refine x_get C hW 8 (by decide) q43 rfl rfl dX0_bindCouple_53 ?_
    refine lv_iload hx hb dX0_bindCouple_56 (lv_at hl 0 rfl) ?_
    refine x_ld_st C hW hrx dX0_bindCouple_58 ?_
    refine lv_iconst (v := nI 2) hx hb dX0_bindCouple_59 (by decide) ?_
    refine n_icmp_ne (tgt := 90) hx hb (hS.st31 _) (by decide) dX0_bindCouple_60 (by decide) (fun c60 => ?_) (fun c60 => ?_)
    · refine lv_aload_n hx hb dX0_bindCouple_90 rfl (lv_at hl 1 rfl) ?_
      refine lv_iconst (v := bI true) hx hb dX0_bindCouple_91 (by decide) ?_
      refine x_put_bk C hW q52 dX0_bindCouple_92 (fun H locs hW => ?_)
      exact x_vret C hW hr hlocks ⟨hF, ((if_neg c14).trans (if_neg c60)).symm⟩ dX0_bindCouple_95
    · refine lv_aload_n hx hb dX0_bindCouple_63 rfl (lv_at hl 1 rfl) ?_
      refine lv_aload_n hx hb dX0_bindCouple_64 rfl (lv_at hl 1 rfl) ?_
      refine x_get C hW 10 (by decide) q45 rfl rfl dX0_bindCouple_65 ?_
      refine lv_iload hx hb dX0_bindCouple_68 (lv_at hl 0 rfl) ?_
      refine x_ld_lf C hW hrx dX0_bindCouple_70 ?_
      refine lv_iload_n hx hb dX0_bindCouple_71 rfl (lv_at hl 3 rfl) ?_
      refine x_callv C hW (As := [_, _]) (rest := []) (mX_want l D h dA L _ (u.lf (u.r x)) (a) (hS.lf _) (ha12) (by omega) hF) cbX_want ⟨by decide, by decide⟩ ⟨rfl, rfl⟩ ⟨Nat.zero_le _, Nat.zero_le _⟩ rfl hl.1 rfl (Nat.le_of_ble_eq_true rfl) dX0_bindCouple_72 (fun L u' H locs hp hW => ?_)
      obtain ⟨hF, hu⟩ := hp
      subst hu
      refine lv_aload_n hx hb dX0_bindCouple_75 rfl (lv_at hl 1 rfl) ?_
      refine lv_aload_n hx hb dX0_bindCouple_76 rfl (lv_at hl 1 rfl) ?_
      refine x_get C hW 11 (by decide) q46 rfl rfl dX0_bindCouple_77 ?_
      refine lv_iload hx hb dX0_bindCouple_80 (lv_at hl 0 rfl) ?_
      refine x_ld_rt C hW hrx dX0_bindCouple_82 ?_
      refine lv_iload_n hx hb dX0_bindCouple_83 rfl (lv_at hl 4 rfl) ?_
      refine x_callv C hW (As := [_, _]) (rest := []) (mX_want l D h dA L _ (u.rt (u.r x)) (b) (hS.rt _) (hb12) (show u.jc + 1 < 40 by omega) hF) cbX_want ⟨by decide, by decide⟩ ⟨rfl, rfl⟩ ⟨Nat.zero_le _, Nat.zero_le _⟩ rfl hl.1 rfl (Nat.le_of_ble_eq_true rfl) dX0_bindCouple_84 (fun L u' H locs hp hW => ?_)
      obtain ⟨hF, hu⟩ := hp
      subst hu
      refine lv_goto (tgt := 95) hx hb dX0_bindCouple_87 (by decide) ?_
      exact x_vret C hW hr hlocks ⟨hF, ((if_neg c14).trans (if_pos c60)).symm⟩ dX0_bindCouple_95
  · refine lv_aload_n hx hb dX0_bindCouple_17 rfl (lv_at hl 1 rfl) ?_
    refine x_get C hW 8 (by decide) q43 rfl rfl dX0_bindCouple_18 ?_
    refine lv_iload hx hb dX0_bindCouple_21 (lv_at hl 0 rfl) ?_
    refine lv_iconst (v := nI 2) hx hb dX0_bindCouple_23 (by decide) ?_
    refine x_st_st C hW hrx (by decide) dX0_bindCouple_24 (fun H locs hW => ?_)
    refine lv_aload_n hx hb dX0_bindCouple_25 rfl (lv_at hl 1 rfl) ?_
    refine x_get C hW 10 (by decide) q45 rfl rfl dX0_bindCouple_26 ?_
    refine lv_iload hx hb dX0_bindCouple_29 (lv_at hl 0 rfl) ?_
    refine lv_iload_n hx hb dX0_bindCouple_31 rfl (lv_at hl 3 rfl) ?_
    refine n_i2b hx hb (by omega) dX0_bindCouple_32 ?_
    refine x_st_lf C hW hrx (by omega) dX0_bindCouple_33 (fun H locs hW => ?_)
    refine lv_aload_n hx hb dX0_bindCouple_34 rfl (lv_at hl 1 rfl) ?_
    refine x_get C hW 11 (by decide) q46 rfl rfl dX0_bindCouple_35 ?_
    refine lv_iload hx hb dX0_bindCouple_38 (lv_at hl 0 rfl) ?_
    refine lv_iload_n hx hb dX0_bindCouple_40 rfl (lv_at hl 4 rfl) ?_
    refine n_i2b hx hb (by omega) dX0_bindCouple_41 ?_
    refine x_st_rt C hW hrx (by omega) dX0_bindCouple_42 (fun H locs hW => ?_)
    refine lv_aload_n hx hb dX0_bindCouple_43 rfl (lv_at hl 1 rfl) ?_
    refine lv_iload hx hb dX0_bindCouple_44 (lv_at hl 0 rfl) ?_
    refine x_callv C hW (As := [_]) (rest := []) (mX_wake l D h dA L _ (u.r x) hrx hF) cbX_wake ⟨by decide, by decide⟩ ⟨rfl, rfl⟩ ⟨Nat.zero_le _, Nat.zero_le _⟩ rfl hl.1 rfl (Nat.le_of_ble_eq_true rfl) dX0_bindCouple_46 (fun L u' H locs hp hW => ?_)
    obtain ⟨hF, hu⟩ := hp
    subst hu
    refine lv_goto (tgt := 95) hx hb dX0_bindCouple_49 (by decide) ?_
    exact x_vret C hW hr hlocks ⟨hF, (if_pos c14).symm⟩ dX0_bindCouple_95
end
section
set_option maxRecDepth 100000
set_option maxHeartbeats 4000000 in
set_option maxRecDepth 100000 in
/-- join(x, y) -/
theorem mX_join (l : Launch) (D : va_G) (h : Nat → Nat) (dA : Nat → ClassId) (L : Nat → Nat) (u : XSt) (x y : Nat) (hx12 : x < 12) (hy12 : y < 12) (hj : u.jc + 2 ≤ 40) (hS : XSr u) (hF : Forest L u.r) : Met l yX0_join (ws_ yX0_join cX0_join 7 none) (rmN 2) (XPc D h dA L u [.int (nI x), .int (nI y)]) (XQv D h dA (fun L' u' => Forest L' u'.r ∧ u' = xs_join u x y)) 0 0 (AX h) := by
  refine x_met rfl (Nat.le_of_ble_eq_true rfl) ?_
  intro p e s m below meth c ls C hr hlocks hW hl
  have hx := C.1
  have hb := C.2.1
  have hl : lv_has ls 7 [(0, .ref (h 0)), (1, .int (nI x)), (2, .int (nI y))] := hl
  have key : ∀ (big small : Nat) (L : Nat → Nat) (H : Heap) (locs : List Loc) (ls : Array Slot), big < 12 → small < 12 → u.r big = big → u.r small = small → big ≠ small → xs_join u x y = xs_join2 u big small → Forest L u.r → XW D h dA L u s.heap H locs → lv_has ls 7 [(6, .int (nI small)), (5, .int (nI big)), (0, .ref (h 0))] → W p l e (rmN 2) s m (.ref (h 0) :: [.int (nI x), .int (nI y)]).toArray below meth c H locs 0 0 (MQ below (XQv D h dA (fun L' u' => Forest L' u'.r ∧ u' = xs_join u x y)) (.ref (h 0) :: [.int (nI x), .int (nI y)]).toArray s 0 0 (AX h)) (F0 m 58 ls []) := by
    intro big small L H locs ls hbig hsmall rbig rsmall hne hJ hF hW hl
    have k158 : ∀ (v : XSt) (L : Nat → Nat) (H : Heap) (locs : List Loc), XSr v → Forest L v.r → xs_join u x y = xs_j4 v big → XW D h dA L v s.heap H locs → W p l e (rmN 2) s m (.ref (h 0) :: [.int (nI x), .int (nI y)]).toArray below meth c H locs 0 0 (MQ below (XQv D h dA (fun L' u' => Forest L' u'.r ∧ u' = xs_join u x y)) (.ref (h 0) :: [.int (nI x), .int (nI y)]).toArray s 0 0 (AX h)) (F0 m 158 ls []) := by
      intro v L H locs hS hF hJ hW
      refine lv_aload_n hx hb dX0_join_158 rfl (lv_at hl 2 rfl) ?_
      refine x_get C hW 8 (by decide) q43 rfl rfl dX0_join_159 ?_
      refine lv_iload hx hb dX0_join_162 (lv_at hl 1 rfl) ?_
      refine x_ld_st C hW hbig dX0_join_164 ?_
      refine n_if_eq (tgt := 174) hx hb (hS.st31 _) dX0_join_165 (by decide) (fun c165 => ?_) (fun c165 => ?_)
      · exact x_vret C hW hr hlocks ⟨hF, by rw [hJ]; exact (if_pos c165).symm⟩ dX0_join_174
      · refine lv_aload_n hx hb dX0_join_168 rfl (lv_at hl 2 rfl) ?_
        refine lv_iload hx hb dX0_join_169 (lv_at hl 1 rfl) ?_
        refine x_callv C hW (As := [_]) (rest := []) (mX_wake l D h dA L _ big hbig hF) cbX_wake ⟨by decide, by decide⟩ ⟨rfl, rfl⟩ ⟨Nat.zero_le _, Nat.zero_le _⟩ rfl hl.1 rfl (by decide) dX0_join_171 (fun L u' H locs hp hW => ?_)
        obtain ⟨hF, hu⟩ := hp
        subst hu
        exact x_vret C hW hr hlocks ⟨hF, by rw [hJ]; exact (if_neg c165).symm⟩ dX0_join_174
    have k127 : ∀ (v : XSt) (L : Nat → Nat) (H : Heap) (locs : List Loc), XSr v → v.r big = big → v.jc + 2 ≤ 40 → Forest L v.r → xs_join u x y = xs_j4 (xs_j3 v big small) big → XW D h dA L v s.heap H locs → W p l e (rmN 2) s m (.ref (h 0) :: [.int (nI x), .int (nI y)]).toArray below meth c H locs 0 0 (MQ below (XQv D h dA (fun L' u' => Forest L' u'.r ∧ u' = xs_join u x y)) (.ref (h 0) :: [.int (nI x), .int (nI y)]).toArray s 0 0 (AX h)) (F0 m 127 ls []) := by
      intro v L H locs hS rbig hj hF hJ hW
      refine lv_aload_n hx hb dX0_join_127 rfl (lv_at hl 2 rfl) ?_
      refine x_get C hW 8 (by decide) q43 rfl rfl dX0_join_128 ?_
      refine lv_iload hx hb dX0_join_131 (lv_at hl 0 rfl) ?_
      refine x_ld_st C hW hsmall dX0_join_133 ?_
      refine lv_iconst (v := nI 2) hx hb dX0_join_134 (by decide) ?_
      refine n_icmp_ne (tgt := 158) hx hb (hS.st31 _) (by decide) dX0_join_135 (by decide) (fun c135 => ?_) (fun c135 => ?_)
      · exact k158 _ L H locs hS hF (by rw [hJ]; exact congrArg (fun z => xs_j4 z big) (if_neg c135)) hW
      · refine lv_aload_n hx hb dX0_join_138 rfl (lv_at hl 2 rfl) ?_
        refine lv_iload hx hb dX0_join_139 (lv_at hl 1 rfl) ?_
        refine lv_aload_n hx hb dX0_join_141 rfl (lv_at hl 2 rfl) ?_
        refine x_get C hW 10 (by decide) q45 rfl rfl dX0_join_142 ?_
        refine lv_iload hx hb dX0_join_145 (lv_at hl 0 rfl) ?_
        refine x_ld_lf C hW hsmall dX0_join_147 ?_
        refine lv_aload_n hx hb dX0_join_148 rfl (lv_at hl 2 rfl) ?_
        refine x_get C hW 11 (by decide) q46 rfl rfl dX0_join_149 ?_
        refine lv_iload hx hb dX0_join_152 (lv_at hl 0 rfl) ?_
        refine x_ld_rt C hW hsmall dX0_join_154 ?_
        refine x_callv C hW (As := [_, _, _]) (rest := []) (mX_bindCouple l D h dA L _ big (v.lf small) (v.rt small) hbig (hS.lf _) (hS.rt _) hj hS hF) cbX_bindCouple ⟨by decide, by decide⟩ ⟨rfl, rfl⟩ ⟨Nat.zero_le _, Nat.zero_le _⟩ rfl hl.1 rfl (by decide) dX0_join_155 (fun L u' H locs hp hW => ?_)
        obtain ⟨hF, hu⟩ := hp
        rw [rbig] at hu
        subst hu
        exact k158 _ L H locs (hS.bindC _ (hS.lf _) (hS.rt _)) hF (by rw [hJ]; exact congrArg (fun z => xs_j4 z big) (if_pos c135)) hW
    refine lv_aload_n hx hb dX0_join_58 rfl (lv_at hl 2 rfl) ?_
    refine x_get C hW 6 (by decide) q41 rfl rfl dX0_join_59 ?_
    refine lv_iload hx hb dX0_join_62 (lv_at hl 0 rfl) ?_
    refine lv_iload hx hb dX0_join_64 (lv_at hl 1 rfl) ?_
    refine n_i2b hx hb (by omega) dX0_join_66 ?_
    refine x_st_L C hW hsmall (by omega) dX0_join_67 (fun H locs hW => ?_)
    refine lv_aload_n hx hb dX0_join_68 rfl (lv_at hl 2 rfl) ?_
    refine x_get C hW 7 (by decide) q42 rfl rfl dX0_join_69 ?_
    refine lv_iload hx hb dX0_join_72 (lv_at hl 1 rfl) ?_
    refine lv_dup2_11 hx hb dX0_join_74 rfl rfl ?_
    refine x_ld_wt C hW hbig dX0_join_75 ?_
    refine lv_aload_n hx hb dX0_join_76 rfl (lv_at hl 2 rfl) ?_
    refine x_get C hW 7 (by decide) q42 rfl rfl dX0_join_77 ?_
    refine lv_iload hx hb dX0_join_80 (lv_at hl 0 rfl) ?_
    refine x_ld_wt C hW hsmall dX0_join_82 ?_
    refine lv_iadd hx hb dX0_join_83 ?_
    refine lv_i2b hx hb dX0_join_84 rfl ?_
    refine x_st_wt C hW hbig dX0_join_85 (fun H locs hW => ?_)
    refine lv_aload_n hx hb dX0_join_86 rfl (lv_at hl 2 rfl) ?_
    refine x_get C hW 12 (by decide) q47 rfl rfl dX0_join_87 ?_
    refine lv_iload hx hb dX0_join_90 (lv_at hl 1 rfl) ?_
    refine lv_dup2_11 hx hb dX0_join_92 rfl rfl ?_
    refine x_ld_wa C hW hbig dX0_join_93 ?_
    refine lv_aload_n hx hb dX0_join_94 rfl (lv_at hl 2 rfl) ?_
    refine x_get C hW 12 (by decide) q47 rfl rfl dX0_join_95 ?_
    refine lv_iload hx hb dX0_join_98 (lv_at hl 0 rfl) ?_
    refine x_ld_wa C hW hsmall dX0_join_100 ?_
    refine lv_lor hx hb dX0_join_101 ?_
    refine x_st_wa C hW hbig dX0_join_102 (fun H locs hW => ?_)
    have hW : XW D h dA (va_up L small big) (xs_merge0 u big small) s.heap H locs := hW
    have hW : XW D h dA (va_up L small big) (xs_merge u big small) s.heap H locs := hW.s_r _
    have hF := hF.merge hbig hsmall rbig rsmall hne
    have hS1 := hS.merge big small
    have rb1 : (xs_merge u big small).r big = big := by
      show (if u.r big = small then big else u.r big) = big
      rw [rbig, if_neg hne]
    refine lv_aload_n hx hb dX0_join_103 rfl (lv_at hl 2 rfl) ?_
    refine x_get C hW 8 (by decide) q43 rfl rfl dX0_join_104 ?_
    refine lv_iload hx hb dX0_join_107 (lv_at hl 0 rfl) ?_
    refine x_ld_st C hW hsmall dX0_join_109 ?_
    refine lv_iconst (v := nI 1) hx hb dX0_join_110 (by decide) ?_
    refine n_icmp_ne (tgt := 127) hx hb (hS1.st31 _) (by decide) dX0_join_111 (by decide) (fun c111 => ?_) (fun c111 => ?_)
    · exact k127 _ _ H locs hS1 rb1 hj hF (by rw [hJ]; exact congrArg (fun z => xs_j4 (xs_j3 z big small) big) (if_neg c111)) hW
    · refine lv_aload_n hx hb dX0_join_114 rfl (lv_at hl 2 rfl) ?_
      refine lv_iload hx hb dX0_join_115 (lv_at hl 1 rfl) ?_
      refine lv_aload_n hx hb dX0_join_117 rfl (lv_at hl 2 rfl) ?_
      refine x_get C hW 9 (by decide) q44 rfl rfl dX0_join_118 ?_
      refine lv_iload hx hb dX0_join_121 (lv_at hl 0 rfl) ?_
      refine x_ld_nu C hW hsmall dX0_join_123 ?_
      refine x_callv C hW (As := [_, _]) (rest := []) (mX_bindNumber l D h dA _ _ big hbig _ hS1 hF) cbX_bindNumber ⟨by decide, by decide⟩ ⟨rfl, rfl⟩ ⟨Nat.zero_le _, Nat.zero_le _⟩ rfl hl.1 rfl (by decide) dX0_join_124 (fun L u' H locs hp hW => ?_)
      obtain ⟨hF, hu⟩ := hp
      rw [rb1] at hu
      subst hu
      exact k127 _ _ H locs (hS1.bindN _ _) (by rw [bindN_r]; exact rb1) (by rw [bindN_jc]; exact hj) hF (by rw [hJ]; exact congrArg (fun z => xs_j4 (xs_j3 z big small) big) (if_pos c111)) hW
  have hrx := hF.lt hx12
  have hry := hF.lt hy12
  have hrrx := hF.rr hx12
  have hrry := hF.rr hy12
  refine lv_aload_n hx hb dX0_join_0 rfl (lv_at hl 0 rfl) ?_
  refine lv_iload_n hx hb dX0_join_1 rfl (lv_at hl 1 rfl) ?_
  refine x_calli C hW (As := [_]) (rest := []) (mX_head l D h dA L _ (x) (hx12) hF) cbX_head ⟨by decide, by decide⟩ ⟨rfl, rfl⟩ ⟨Nat.zero_le _, Nat.zero_le _⟩ rfl hl.1 rfl (by decide) dX0_join_2 (fun r L u' H locs hp hW => ?_)
  obtain ⟨hre, hF, hu⟩ := hp
  rw [hu] at hW
  clear hu
  subst hre
  refine lv_istore_n (lv' := [(3, _), (0, _), (1, _), (2, _)]) hx hb dX0_join_5 rfl hl (by decide) rfl (fun ls hl => ?_)
  refine lv_aload_n hx hb dX0_join_6 rfl (lv_at hl 1 rfl) ?_
  refine lv_iload_n hx hb dX0_join_7 rfl (lv_at hl 3 rfl) ?_
  refine x_calli C hW (As := [_]) (rest := []) (mX_head l D h dA L _ (y) (hy12) hF) cbX_head ⟨by decide, by decide⟩ ⟨rfl, rfl⟩ ⟨Nat.zero_le _, Nat.zero_le _⟩ rfl hl.1 rfl (by decide) dX0_join_8 (fun r L u' H locs hp hW => ?_)
  obtain ⟨hre, hF, hu⟩ := hp
  rw [hu] at hW
  clear hu
  subst hre
  refine lv_istore (lv' := [(4, _), (3, _), (0, _), (1, _), (2, _)]) hx hb dX0_join_11 hl (by decide) rfl (fun ls hl => ?_)
  refine lv_iload_n hx hb dX0_join_13 rfl (lv_at hl 1 rfl) ?_
  refine lv_iload hx hb dX0_join_14 (lv_at hl 0 rfl) ?_
  refine n_icmp_ne (tgt := 20) hx hb (by omega) (by omega) dX0_join_16 (by decide) (fun c16 => ?_) (fun c16 => ?_)
  · refine lv_aload_n hx hb dX0_join_20 rfl (lv_at hl 2 rfl) ?_
    refine x_get C hW 7 (by decide) q42 rfl rfl dX0_join_21 ?_
    refine lv_iload_n hx hb dX0_join_24 rfl (lv_at hl 1 rfl) ?_
    refine x_ld_wt C hW hrx dX0_join_25 ?_
    refine lv_aload_n hx hb dX0_join_26 rfl (lv_at hl 2 rfl) ?_
    refine x_get C hW 7 (by decide) q42 rfl rfl dX0_join_27 ?_
    refine lv_iload hx hb dX0_join_30 (lv_at hl 0 rfl) ?_
    refine x_ld_wt C hW hry dX0_join_32 ?_
    refine lv_icmp_lt (tgt := 40) hx hb dX0_join_33 (by decide) (fun c33 => ?_) (fun c33 => ?_)
    · refine lv_iload hx hb dX0_join_40 (lv_at hl 0 rfl) ?_
      refine lv_istore (lv' := [(5, _), (4, _), (3, _), (0, _), (1, _), (2, _)]) hx hb dX0_join_42 hl (by decide) rfl (fun ls hl => ?_)
      refine lv_iload hx hb dX0_join_44 (lv_at hl 0 rfl) ?_
      refine lv_iload_n hx hb dX0_join_46 rfl (lv_at hl 2 rfl) ?_
      refine n_icmp_ne (tgt := 55) hx hb (by omega) (by omega) dX0_join_47 (by decide) (fun c47 => ?_) (fun c47 => ?_)
      · refine lv_iload_n hx hb dX0_join_55 rfl (lv_at hl 2 rfl) ?_
        refine lv_istore (lv' := [(6, _), (5, _), (4, _), (3, _), (0, _), (1, _), (2, _)]) hx hb dX0_join_56 hl (by decide) rfl (fun ls hl => ?_)
        exact key (u.r y) (u.r x) L H locs ls hry hrx hrry hrrx (Ne.symm c16) ((if_neg c16).trans (if_neg (fun z => Int32.not_lt.mpr z c33))) hF hW (lv_sub hl [0, 1, 4] rfl)
      · exact absurd c47.symm c16
    · refine lv_iload_n hx hb dX0_join_36 rfl (lv_at hl 1 rfl) ?_
      refine lv_goto (tgt := 42) hx hb dX0_join_37 (by decide) ?_
      refine lv_istore (lv' := [(5, _), (4, _), (3, _), (0, _), (1, _), (2, _)]) hx hb dX0_join_42 hl (by decide) rfl (fun ls hl => ?_)
      refine lv_iload hx hb dX0_join_44 (lv_at hl 0 rfl) ?_
      refine lv_iload_n hx hb dX0_join_46 rfl (lv_at hl 2 rfl) ?_
      refine n_icmp_ne (tgt := 55) hx hb (by omega) (by omega) dX0_join_47 (by decide) (fun c47 => ?_) (fun c47 => ?_)
      · exact absurd rfl c47
      · refine lv_iload hx hb dX0_join_50 (lv_at hl 1 rfl) ?_
        refine lv_goto (tgt := 56) hx hb dX0_join_52 (by decide) ?_
        refine lv_istore (lv' := [(6, _), (5, _), (4, _), (3, _), (0, _), (1, _), (2, _)]) hx hb dX0_join_56 hl (by decide) rfl (fun ls hl => ?_)
        exact key (u.r x) (u.r y) L H locs ls hrx hry hrrx hrry c16 ((if_neg c16).trans (if_pos (Int32.not_lt.mp c33))) hF hW (lv_sub hl [0, 1, 4] rfl)
  · exact x_vret C hW hr hlocks ⟨hF, (if_pos c16).symm⟩ dX0_join_19
set_option maxHeartbeats 4000000 in
set_option maxRecDepth 100000 in
/-- tryStatement(k) -/
theorem mX_tryStatement (l : Launch) (D : va_G) (h : Nat → Nat) (dA : Nat → ClassId) (L : Nat → Nat) (u : XSt) (k : Nat) (hk : k < 40) (hj : u.jc < 40) (hS : XSr u) (hF : Forest L u.r) : Met l yX0_tryStatement (ws_ yX0_tryStatement cX0_tryStatement 7 none) (rmN 2) (XPc D h dA L u [.int (nI k)]) (XQv D h dA (fun L' u' => Forest L' u'.r ∧ u' = xs_try u k)) 0 0 (AX h) := by
  refine x_met rfl (Nat.le_of_ble_eq_true rfl) ?_
  intro p e s m below meth c ls C hr hlocks hW hl
  have hx := C.1
  have hb := C.2.1
  have hl : lv_has ls 7 [(0, .ref (h 0)), (1, .int (nI k))] := hl
  have hry := hF.lt (hS.sy k)
  have hrz := hF.lt (hS.sz k)
  have k48 : ∀ (tk : Bool) (L : Nat → Nat) (H : Heap) (locs : List Loc) (ls : Array Slot), (tk = true ↔ u.kd k = 5 ∨ u.kd k = 6) → Forest L u.r → XW D h dA L u s.heap H locs → lv_has ls 7 [(3, .int (nI (u.r (u.sz k)))), (2, .int (nI (u.r (u.sy k)))), (0, .ref (h 0)), (1, .int (nI k))] → W p l e (rmN 2) s m (.ref (h 0) :: [.int (nI k)]).toArray below meth c H locs 0 0 (MQ below (XQv D h dA (fun L' u' => Forest L' u'.r ∧ u' = xs_try u k)) (.ref (h 0) :: [.int (nI k)]).toArray s 0 0 (AX h)) (F0 m 48 ls [.int (bI tk)]) := by
    intro tk L H locs ls htk hF hW hl
    refine lv_istore (lv' := [(4, _), (3, _), (2, _), (0, _), (1, _)]) hx hb dX0_tryStatement_48 hl (by decide) rfl (fun ls hl => ?_)
    refine lv_iload hx hb dX0_tryStatement_50 (lv_at hl 0 rfl) ?_
    refine b_if_eq (tgt := 59) hx hb dX0_tryStatement_52 (by decide) (fun c52 => ?_) (fun c52 => ?_)
    · have hnt : ¬ (u.kd k = 5 ∨ u.kd k = 6) := fun z => absurd (htk.mpr z) (by rw [c52]; decide)
      have hwt : xs_wanted (u.kd k) = 1 := if_neg hnt
      refine lv_iconst (v := nI 1) hx hb dX0_tryStatement_59 (by decide) ?_
      refine lv_istore (lv' := [(5, _), (4, _), (3, _), (2, _), (0, _), (1, _)]) hx hb dX0_tryStatement_60 hl (by decide) rfl (fun ls hl => ?_)
      refine lv_aload_n hx hb dX0_tryStatement_62 rfl (lv_at hl 4 rfl) ?_
      refine x_get C hW 8 (by decide) q43 rfl rfl dX0_tryStatement_63 ?_
      refine lv_iload_n hx hb dX0_tryStatement_66 rfl (lv_at hl 3 rfl) ?_
      refine x_ld_st C hW hry dX0_tryStatement_67 ?_
      refine n_if_eq (tgt := 80) hx hb (hS.st31 _) dX0_tryStatement_68 (by decide) (fun c68 => ?_) (fun c68 => ?_)
      · refine lv_aload_n hx hb dX0_tryStatement_80 rfl (lv_at hl 4 rfl) ?_
        refine x_get C hW 12 (by decide) q47 rfl rfl dX0_tryStatement_81 ?_
        refine lv_aload_n hx hb dX0_tryStatement_84 rfl (lv_at hl 4 rfl) ?_
        refine x_get C hW 8 (by decide) q43 rfl rfl dX0_tryStatement_85 ?_
        refine lv_iload_n hx hb dX0_tryStatement_88 rfl (lv_at hl 3 rfl) ?_
        refine x_ld_st C hW hry dX0_tryStatement_89 ?_
        refine n_if_ne (tgt := 97) hx hb (hS.st31 _) dX0_tryStatement_90 (by decide) (fun c90 => ?_) (fun c90 => ?_)
        · exact absurd c68 c90
        · refine lv_iload_n hx hb dX0_tryStatement_93 rfl (lv_at hl 3 rfl) ?_
          refine lv_goto (tgt := 98) hx hb dX0_tryStatement_94 (by decide) ?_
          refine lv_dup2_11 hx hb dX0_tryStatement_98 rfl rfl ?_
          refine x_ld_wa C hW hry dX0_tryStatement_99 ?_
          refine lv_lconst (v := 1) hx hb dX0_tryStatement_100 (by decide) ?_
          refine lv_iload_n hx hb dX0_tryStatement_101 rfl (lv_at hl 5 rfl) ?_
          refine lv_lshl hx hb dX0_tryStatement_102 rfl ?_
          refine lv_lor hx hb dX0_tryStatement_103 ?_
          refine x_st_wa C hW hry dX0_tryStatement_104 (fun H locs hW => ?_)
          exact x_vret C hW hr hlocks ⟨hF, (if_pos c68).symm⟩ dX0_tryStatement_105
      · refine lv_aload_n hx hb dX0_tryStatement_71 rfl (lv_at hl 4 rfl) ?_
        refine x_get C hW 8 (by decide) q43 rfl rfl dX0_tryStatement_72 ?_
        refine lv_iload_n hx hb dX0_tryStatement_75 rfl (lv_at hl 2 rfl) ?_
        refine x_ld_st C hW hrz dX0_tryStatement_76 ?_
        refine n_if_ne (tgt := 106) hx hb (hS.st31 _) dX0_tryStatement_77 (by decide) (fun c77 => ?_) (fun c77 => ?_)
        · refine lv_aload_n hx hb dX0_tryStatement_106 rfl (lv_at hl 4 rfl) ?_
          refine x_get C hW 8 (by decide) q43 rfl rfl dX0_tryStatement_107 ?_
          refine lv_iload_n hx hb dX0_tryStatement_110 rfl (lv_at hl 3 rfl) ?_
          refine x_ld_st C hW hry dX0_tryStatement_111 ?_
          refine lv_iload hx hb dX0_tryStatement_112 (lv_at hl 0 rfl) ?_
          refine n_icmp_ne (tgt := 128) hx hb (hS.st31 _) (by decide) dX0_tryStatement_114 (by decide) (fun c114 => ?_) (fun c114 => ?_)
          · exact x_vret C hW hr hlocks ⟨hF, ((if_neg c68).trans ((if_neg c77).trans (if_pos (Or.inl (by rw [hwt]; exact c114))))).symm⟩ dX0_tryStatement_128
          · refine lv_aload_n hx hb dX0_tryStatement_117 rfl (lv_at hl 4 rfl) ?_
            refine x_get C hW 8 (by decide) q43 rfl rfl dX0_tryStatement_118 ?_
            refine lv_iload_n hx hb dX0_tryStatement_121 rfl (lv_at hl 2 rfl) ?_
            refine x_ld_st C hW hrz dX0_tryStatement_122 ?_
            refine lv_iload hx hb dX0_tryStatement_123 (lv_at hl 0 rfl) ?_
            refine n_icmp_eq (tgt := 129) hx hb (hS.st31 _) (by decide) dX0_tryStatement_125 (by decide) (fun c125 => ?_) (fun c125 => ?_)
            · have hfire : xs_try u k = xs_fire (u.s_su (u.su &&& (xs_bit k ^^^ (-1)))) k := (if_neg c68).trans ((if_neg c77).trans (if_neg (fun z => z.elim (fun z => z (by rw [hwt]; exact c114)) (fun z => z (by rw [hwt]; exact c125)))))
              refine lv_aload_n hx hb dX0_tryStatement_129 rfl (lv_at hl 4 rfl) ?_
              refine lv_dup hx hb dX0_tryStatement_130 rfl ?_
              refine x_get C hW 5 (by decide) q40 rfl rfl dX0_tryStatement_131 ?_
              refine lv_lconst (v := 1) hx hb dX0_tryStatement_134 (by decide) ?_
              refine lv_iload_n hx hb dX0_tryStatement_135 rfl (lv_at hl 5 rfl) ?_
              refine lv_lshl hx hb dX0_tryStatement_136 rfl ?_
              refine lv_ldc2 (v := -1) hx hb C.2.2.2.1 (C.2.2.2.2.1 _ q133) dX0_tryStatement_137 ?_
              refine lv_lxor hx hb dX0_tryStatement_140 ?_
              refine lv_land hx hb dX0_tryStatement_141 ?_
              refine x_put_su C hW q40 dX0_tryStatement_142 (fun H locs hW => ?_)
              refine lv_iload hx hb dX0_tryStatement_145 (lv_at hl 1 rfl) ?_
              refine b_if_eq (tgt := 186) hx hb dX0_tryStatement_147 (by decide) (fun c147 => ?_) (fun c147 => ?_)
              · refine lv_aload_n hx hb dX0_tryStatement_186 rfl (lv_at hl 4 rfl) ?_
                refine lv_aload_n hx hb dX0_tryStatement_187 rfl (lv_at hl 4 rfl) ?_
                refine x_get C hW 1 (by decide) q36 rfl rfl dX0_tryStatement_188 ?_
                refine lv_iload_n hx hb dX0_tryStatement_191 rfl (lv_at hl 5 rfl) ?_
                refine x_ld_kd C hW hk dX0_tryStatement_192 ?_
                refine lv_aload_n hx hb dX0_tryStatement_193 rfl (lv_at hl 4 rfl) ?_
                refine x_get C hW 9 (by decide) q44 rfl rfl dX0_tryStatement_194 ?_
                refine lv_iload_n hx hb dX0_tryStatement_197 rfl (lv_at hl 3 rfl) ?_
                refine x_ld_nu C hW hry dX0_tryStatement_198 ?_
                refine lv_aload_n hx hb dX0_tryStatement_199 rfl (lv_at hl 4 rfl) ?_
                refine x_get C hW 9 (by decide) q44 rfl rfl dX0_tryStatement_200 ?_
                refine lv_iload_n hx hb dX0_tryStatement_203 rfl (lv_at hl 2 rfl) ?_
                refine x_ld_nu C hW hrz dX0_tryStatement_204 ?_
                refine x_calli C hW (As := [_, _, _]) (rest := []) (mX_computed l D h dA L _ (u.kd k) (hS.2.2.2.2.2.2.1 k) _ _) cbX_computed ⟨by decide, by decide⟩ ⟨rfl, rfl⟩ ⟨Nat.zero_le _, Nat.zero_le _⟩ rfl hl.1 rfl (by decide) dX0_tryStatement_205 (fun r L u' H locs hp hW => ?_)
                obtain ⟨hre, hLe, hu⟩ := hp
                rw [hu, hLe] at hW
                clear hu hLe
                subst hre
                refine lv_istore (lv' := [(6, _), (5, _), (4, _), (3, _), (2, _), (0, _), (1, _)]) hx hb dX0_tryStatement_208 hl (by decide) rfl (fun ls hl => ?_)
                refine lv_aload_n hx hb dX0_tryStatement_210 rfl (lv_at hl 5 rfl) ?_
                refine lv_aload_n hx hb dX0_tryStatement_211 rfl (lv_at hl 5 rfl) ?_
                refine x_get C hW 2 (by decide) q37 rfl rfl dX0_tryStatement_212 ?_
                refine lv_iload_n hx hb dX0_tryStatement_215 rfl (lv_at hl 6 rfl) ?_
                refine x_ld_tg C hW hk dX0_tryStatement_216 ?_
                refine lv_iload hx hb dX0_tryStatement_217 (lv_at hl 0 rfl) ?_
                refine x_callv C hW (As := [_, _]) (rest := []) (mX_bindNumber l D h dA _ _ (u.tg k) (hS.tg k) _ hS hF) cbX_bindNumber ⟨by decide, by decide⟩ ⟨rfl, rfl⟩ ⟨Nat.zero_le _, Nat.zero_le _⟩ rfl hl.1 rfl (by decide) dX0_tryStatement_219 (fun L u' H locs hp hW => ?_)
                obtain ⟨hF, hu⟩ := hp
                subst hu
                exact x_vret C hW hr hlocks ⟨hF, (hfire.trans (if_neg hnt)).symm⟩ dX0_tryStatement_222
              · exact absurd (c52.symm.trans c147) (by decide)
            · exact x_vret C hW hr hlocks ⟨hF, ((if_neg c68).trans ((if_neg c77).trans (if_pos (Or.inr (by rw [hwt]; exact c125))))).symm⟩ dX0_tryStatement_128
        · refine lv_aload_n hx hb dX0_tryStatement_80 rfl (lv_at hl 4 rfl) ?_
          refine x_get C hW 12 (by decide) q47 rfl rfl dX0_tryStatement_81 ?_
          refine lv_aload_n hx hb dX0_tryStatement_84 rfl (lv_at hl 4 rfl) ?_
          refine x_get C hW 8 (by decide) q43 rfl rfl dX0_tryStatement_85 ?_
          refine lv_iload_n hx hb dX0_tryStatement_88 rfl (lv_at hl 3 rfl) ?_
          refine x_ld_st C hW hry dX0_tryStatement_89 ?_
          refine n_if_ne (tgt := 97) hx hb (hS.st31 _) dX0_tryStatement_90 (by decide) (fun c90 => ?_) (fun c90 => ?_)
          · refine lv_iload_n hx hb dX0_tryStatement_97 rfl (lv_at hl 2 rfl) ?_
            refine lv_dup2_11 hx hb dX0_tryStatement_98 rfl rfl ?_
            refine x_ld_wa C hW hrz dX0_tryStatement_99 ?_
            refine lv_lconst (v := 1) hx hb dX0_tryStatement_100 (by decide) ?_
            refine lv_iload_n hx hb dX0_tryStatement_101 rfl (lv_at hl 5 rfl) ?_
            refine lv_lshl hx hb dX0_tryStatement_102 rfl ?_
            refine lv_lor hx hb dX0_tryStatement_103 ?_
            refine x_st_wa C hW hrz dX0_tryStatement_104 (fun H locs hW => ?_)
            exact x_vret C hW hr hlocks ⟨hF, ((if_neg c68).trans (if_pos c77)).symm⟩ dX0_tryStatement_105
          · exact absurd c90 c68
    · have hyt : u.kd k = 5 ∨ u.kd k = 6 := htk.mp c52
      have hwt : xs_wanted (u.kd k) = 2 := if_pos hyt
      refine lv_iconst (v := nI 2) hx hb dX0_tryStatement_55 (by decide) ?_
      refine lv_goto (tgt := 60) hx hb dX0_tryStatement_56 (by decide) ?_
      refine lv_istore (lv' := [(5, _), (4, _), (3, _), (2, _), (0, _), (1, _)]) hx hb dX0_tryStatement_60 hl (by decide) rfl (fun ls hl => ?_)
      refine lv_aload_n hx hb dX0_tryStatement_62 rfl (lv_at hl 4 rfl) ?_
      refine x_get C hW 8 (by decide) q43 rfl rfl dX0_tryStatement_63 ?_
      refine lv_iload_n hx hb dX0_tryStatement_66 rfl (lv_at hl 3 rfl) ?_
      refine x_ld_st C hW hry dX0_tryStatement_67 ?_
      refine n_if_eq (tgt := 80) hx hb (hS.st31 _) dX0_tryStatement_68 (by decide) (fun c68 => ?_) (fun c68 => ?_)
      · refine lv_aload_n hx hb dX0_tryStatement_80 rfl (lv_at hl 4 rfl) ?_
        refine x_get C hW 12 (by decide) q47 rfl rfl dX0_tryStatement_81 ?_
        refine lv_aload_n hx hb dX0_tryStatement_84 rfl (lv_at hl 4 rfl) ?_
        refine x_get C hW 8 (by decide) q43 rfl rfl dX0_tryStatement_85 ?_
        refine lv_iload_n hx hb dX0_tryStatement_88 rfl (lv_at hl 3 rfl) ?_
        refine x_ld_st C hW hry dX0_tryStatement_89 ?_
        refine n_if_ne (tgt := 97) hx hb (hS.st31 _) dX0_tryStatement_90 (by decide) (fun c90 => ?_) (fun c90 => ?_)
        · exact absurd c68 c90
        · refine lv_iload_n hx hb dX0_tryStatement_93 rfl (lv_at hl 3 rfl) ?_
          refine lv_goto (tgt := 98) hx hb dX0_tryStatement_94 (by decide) ?_
          refine lv_dup2_11 hx hb dX0_tryStatement_98 rfl rfl ?_
          refine x_ld_wa C hW hry dX0_tryStatement_99 ?_
          refine lv_lconst (v := 1) hx hb dX0_tryStatement_100 (by decide) ?_
          refine lv_iload_n hx hb dX0_tryStatement_101 rfl (lv_at hl 5 rfl) ?_
          refine lv_lshl hx hb dX0_tryStatement_102 rfl ?_
          refine lv_lor hx hb dX0_tryStatement_103 ?_
          refine x_st_wa C hW hry dX0_tryStatement_104 (fun H locs hW => ?_)
          exact x_vret C hW hr hlocks ⟨hF, (if_pos c68).symm⟩ dX0_tryStatement_105
      · refine lv_aload_n hx hb dX0_tryStatement_71 rfl (lv_at hl 4 rfl) ?_
        refine x_get C hW 8 (by decide) q43 rfl rfl dX0_tryStatement_72 ?_
        refine lv_iload_n hx hb dX0_tryStatement_75 rfl (lv_at hl 2 rfl) ?_
        refine x_ld_st C hW hrz dX0_tryStatement_76 ?_
        refine n_if_ne (tgt := 106) hx hb (hS.st31 _) dX0_tryStatement_77 (by decide) (fun c77 => ?_) (fun c77 => ?_)
        · refine lv_aload_n hx hb dX0_tryStatement_106 rfl (lv_at hl 4 rfl) ?_
          refine x_get C hW 8 (by decide) q43 rfl rfl dX0_tryStatement_107 ?_
          refine lv_iload_n hx hb dX0_tryStatement_110 rfl (lv_at hl 3 rfl) ?_
          refine x_ld_st C hW hry dX0_tryStatement_111 ?_
          refine lv_iload hx hb dX0_tryStatement_112 (lv_at hl 0 rfl) ?_
          refine n_icmp_ne (tgt := 128) hx hb (hS.st31 _) (by decide) dX0_tryStatement_114 (by decide) (fun c114 => ?_) (fun c114 => ?_)
          · exact x_vret C hW hr hlocks ⟨hF, ((if_neg c68).trans ((if_neg c77).trans (if_pos (Or.inl (by rw [hwt]; exact c114))))).symm⟩ dX0_tryStatement_128
          · refine lv_aload_n hx hb dX0_tryStatement_117 rfl (lv_at hl 4 rfl) ?_
            refine x_get C hW 8 (by decide) q43 rfl rfl dX0_tryStatement_118 ?_
            refine lv_iload_n hx hb dX0_tryStatement_121 rfl (lv_at hl 2 rfl) ?_
            refine x_ld_st C hW hrz dX0_tryStatement_122 ?_
            refine lv_iload hx hb dX0_tryStatement_123 (lv_at hl 0 rfl) ?_
            refine n_icmp_eq (tgt := 129) hx hb (hS.st31 _) (by decide) dX0_tryStatement_125 (by decide) (fun c125 => ?_) (fun c125 => ?_)
            · have hfire : xs_try u k = xs_fire (u.s_su (u.su &&& (xs_bit k ^^^ (-1)))) k := (if_neg c68).trans ((if_neg c77).trans (if_neg (fun z => z.elim (fun z => z (by rw [hwt]; exact c114)) (fun z => z (by rw [hwt]; exact c125)))))
              refine lv_aload_n hx hb dX0_tryStatement_129 rfl (lv_at hl 4 rfl) ?_
              refine lv_dup hx hb dX0_tryStatement_130 rfl ?_
              refine x_get C hW 5 (by decide) q40 rfl rfl dX0_tryStatement_131 ?_
              refine lv_lconst (v := 1) hx hb dX0_tryStatement_134 (by decide) ?_
              refine lv_iload_n hx hb dX0_tryStatement_135 rfl (lv_at hl 5 rfl) ?_
              refine lv_lshl hx hb dX0_tryStatement_136 rfl ?_
              refine lv_ldc2 (v := -1) hx hb C.2.2.2.1 (C.2.2.2.2.1 _ q133) dX0_tryStatement_137 ?_
              refine lv_lxor hx hb dX0_tryStatement_140 ?_
              refine lv_land hx hb dX0_tryStatement_141 ?_
              refine x_put_su C hW q40 dX0_tryStatement_142 (fun H locs hW => ?_)
              refine lv_iload hx hb dX0_tryStatement_145 (lv_at hl 1 rfl) ?_
              refine b_if_eq (tgt := 186) hx hb dX0_tryStatement_147 (by decide) (fun c147 => ?_) (fun c147 => ?_)
              · exact absurd (c52.symm.trans c147) (by decide)
              · refine lv_aload_n hx hb dX0_tryStatement_150 rfl (lv_at hl 4 rfl) ?_
                refine lv_aload_n hx hb dX0_tryStatement_151 rfl (lv_at hl 4 rfl) ?_
                refine x_get C hW 2 (by decide) q37 rfl rfl dX0_tryStatement_152 ?_
                refine lv_iload_n hx hb dX0_tryStatement_155 rfl (lv_at hl 5 rfl) ?_
                refine x_ld_tg C hW hk dX0_tryStatement_156 ?_
                refine lv_aload_n hx hb dX0_tryStatement_157 rfl (lv_at hl 4 rfl) ?_
                refine x_get C hW 1 (by decide) q36 rfl rfl dX0_tryStatement_158 ?_
                refine lv_iload_n hx hb dX0_tryStatement_161 rfl (lv_at hl 5 rfl) ?_
                refine x_ld_kd C hW hk dX0_tryStatement_162 ?_
                refine lv_iconst (v := nI 5) hx hb dX0_tryStatement_163 (by decide) ?_
                refine n_icmp_ne (tgt := 176) hx hb (hS.kd31 _) (by decide) dX0_tryStatement_164 (by decide) (fun c164 => ?_) (fun c164 => ?_)
                · refine lv_aload_n hx hb dX0_tryStatement_176 rfl (lv_at hl 4 rfl) ?_
                  refine x_get C hW 11 (by decide) q46 rfl rfl dX0_tryStatement_177 ?_
                  refine lv_iload_n hx hb dX0_tryStatement_180 rfl (lv_at hl 3 rfl) ?_
                  refine x_ld_rt C hW hry dX0_tryStatement_181 ?_
                  refine x_callv C hW (As := [_, _]) (rest := []) (mX_want l D h dA L _ (u.tg k) (u.rt (u.r (u.sy k))) (hS.tg _) (hS.rt _) (hj) hF) cbX_want ⟨by decide, by decide⟩ ⟨rfl, rfl⟩ ⟨Nat.zero_le _, Nat.zero_le _⟩ rfl hl.1 rfl (by decide) dX0_tryStatement_182 (fun L u' H locs hp hW => ?_)
                  obtain ⟨hF, hu⟩ := hp
                  subst hu
                  exact x_vret C hW hr hlocks ⟨hF, (hfire.trans ((if_pos hyt).trans (congrArg (xs_want (u.s_su (u.su &&& (xs_bit k ^^^ (-1)))) (u.tg k)) (if_neg c164)))).symm⟩ dX0_tryStatement_185
                · refine lv_aload_n hx hb dX0_tryStatement_167 rfl (lv_at hl 4 rfl) ?_
                  refine x_get C hW 10 (by decide) q45 rfl rfl dX0_tryStatement_168 ?_
                  refine lv_iload_n hx hb dX0_tryStatement_171 rfl (lv_at hl 3 rfl) ?_
                  refine x_ld_lf C hW hry dX0_tryStatement_172 ?_
                  refine lv_goto (tgt := 182) hx hb dX0_tryStatement_173 (by decide) ?_
                  refine x_callv C hW (As := [_, _]) (rest := []) (mX_want l D h dA L _ (u.tg k) (u.lf (u.r (u.sy k))) (hS.tg _) (hS.lf _) (hj) hF) cbX_want ⟨by decide, by decide⟩ ⟨rfl, rfl⟩ ⟨Nat.zero_le _, Nat.zero_le _⟩ rfl hl.1 rfl (by decide) dX0_tryStatement_182 (fun L u' H locs hp hW => ?_)
                  obtain ⟨hF, hu⟩ := hp
                  subst hu
                  exact x_vret C hW hr hlocks ⟨hF, (hfire.trans ((if_pos hyt).trans (congrArg (xs_want (u.s_su (u.su &&& (xs_bit k ^^^ (-1)))) (u.tg k)) (if_pos c164)))).symm⟩ dX0_tryStatement_185
            · exact x_vret C hW hr hlocks ⟨hF, ((if_neg c68).trans ((if_neg c77).trans (if_pos (Or.inr (by rw [hwt]; exact c125))))).symm⟩ dX0_tryStatement_128
        · refine lv_aload_n hx hb dX0_tryStatement_80 rfl (lv_at hl 4 rfl) ?_
          refine x_get C hW 12 (by decide) q47 rfl rfl dX0_tryStatement_81 ?_
          refine lv_aload_n hx hb dX0_tryStatement_84 rfl (lv_at hl 4 rfl) ?_
          refine x_get C hW 8 (by decide) q43 rfl rfl dX0_tryStatement_85 ?_
          refine lv_iload_n hx hb dX0_tryStatement_88 rfl (lv_at hl 3 rfl) ?_
          refine x_ld_st C hW hry dX0_tryStatement_89 ?_
          refine n_if_ne (tgt := 97) hx hb (hS.st31 _) dX0_tryStatement_90 (by decide) (fun c90 => ?_) (fun c90 => ?_)
          · refine lv_iload_n hx hb dX0_tryStatement_97 rfl (lv_at hl 2 rfl) ?_
            refine lv_dup2_11 hx hb dX0_tryStatement_98 rfl rfl ?_
            refine x_ld_wa C hW hrz dX0_tryStatement_99 ?_
            refine lv_lconst (v := 1) hx hb dX0_tryStatement_100 (by decide) ?_
            refine lv_iload_n hx hb dX0_tryStatement_101 rfl (lv_at hl 5 rfl) ?_
            refine lv_lshl hx hb dX0_tryStatement_102 rfl ?_
            refine lv_lor hx hb dX0_tryStatement_103 ?_
            refine x_st_wa C hW hrz dX0_tryStatement_104 (fun H locs hW => ?_)
            exact x_vret C hW hr hlocks ⟨hF, ((if_neg c68).trans (if_pos c77)).symm⟩ dX0_tryStatement_105
          · exact absurd c90 c68
  refine lv_aload_n hx hb dX0_tryStatement_0 rfl (lv_at hl 0 rfl) ?_
  refine lv_aload_n hx hb dX0_tryStatement_1 rfl (lv_at hl 0 rfl) ?_
  refine x_get C hW 3 (by decide) q38 rfl rfl dX0_tryStatement_2 ?_
  refine lv_iload_n hx hb dX0_tryStatement_5 rfl (lv_at hl 1 rfl) ?_
  refine x_ld_sy C hW hk dX0_tryStatement_6 ?_
  refine x_calli C hW (As := [_]) (rest := []) (mX_head l D h dA L _ (u.sy k) (hS.sy k) hF) cbX_head ⟨by decide, by decide⟩ ⟨rfl, rfl⟩ ⟨Nat.zero_le _, Nat.zero_le _⟩ rfl hl.1 rfl (by decide) dX0_tryStatement_7 (fun r L u' H locs hp hW => ?_)
  obtain ⟨hre, hF, hu⟩ := hp
  rw [hu] at hW
  clear hu
  subst hre
  refine lv_istore_n (lv' := [(2, _), (0, _), (1, _)]) hx hb dX0_tryStatement_10 rfl hl (by decide) rfl (fun ls hl => ?_)
  refine lv_aload_n hx hb dX0_tryStatement_11 rfl (lv_at hl 1 rfl) ?_
  refine lv_aload_n hx hb dX0_tryStatement_12 rfl (lv_at hl 1 rfl) ?_
  refine x_get C hW 4 (by decide) q39 rfl rfl dX0_tryStatement_13 ?_
  refine lv_iload_n hx hb dX0_tryStatement_16 rfl (lv_at hl 2 rfl) ?_
  refine x_ld_sz C hW hk dX0_tryStatement_17 ?_
  refine x_calli C hW (As := [_]) (rest := []) (mX_head l D h dA L _ (u.sz k) (hS.sz k) hF) cbX_head ⟨by decide, by decide⟩ ⟨rfl, rfl⟩ ⟨Nat.zero_le _, Nat.zero_le _⟩ rfl hl.1 rfl (by decide) dX0_tryStatement_18 (fun r L u' H locs hp hW => ?_)
  obtain ⟨hre, hF, hu⟩ := hp
  rw [hu] at hW
  clear hu
  subst hre
  refine lv_istore_n (lv' := [(3, _), (2, _), (0, _), (1, _)]) hx hb dX0_tryStatement_21 rfl hl (by decide) rfl (fun ls hl => ?_)
  refine lv_aload_n hx hb dX0_tryStatement_22 rfl (lv_at hl 2 rfl) ?_
  refine x_get C hW 1 (by decide) q36 rfl rfl dX0_tryStatement_23 ?_
  refine lv_iload_n hx hb dX0_tryStatement_26 rfl (lv_at hl 3 rfl) ?_
  refine x_ld_kd C hW hk dX0_tryStatement_27 ?_
  refine lv_iconst (v := nI 5) hx hb dX0_tryStatement_28 (by decide) ?_
  refine n_icmp_eq (tgt := 43) hx hb (hS.kd31 _) (by decide) dX0_tryStatement_29 (by decide) (fun c29 => ?_) (fun c29 => ?_)
  · refine lv_iconst (v := bI true) hx hb dX0_tryStatement_43 (by decide) ?_
    refine lv_goto (tgt := 48) hx hb dX0_tryStatement_44 (by decide) ?_
    exact k48 true L H locs ls ⟨fun _ => Or.inl c29, fun _ => rfl⟩ hF hW hl
  · refine lv_aload_n hx hb dX0_tryStatement_32 rfl (lv_at hl 2 rfl) ?_
    refine x_get C hW 1 (by decide) q36 rfl rfl dX0_tryStatement_33 ?_
    refine lv_iload_n hx hb dX0_tryStatement_36 rfl (lv_at hl 3 rfl) ?_
    refine x_ld_kd C hW hk dX0_tryStatement_37 ?_
    refine lv_bipush (v := nI 6) hx hb dX0_tryStatement_38 (by decide) ?_
    refine n_icmp_ne (tgt := 47) hx hb (hS.kd31 _) (by decide) dX0_tryStatement_40 (by decide) (fun c40 => ?_) (fun c40 => ?_)
    · refine lv_iconst (v := bI false) hx hb dX0_tryStatement_47 (by decide) ?_
      exact k48 false L H locs ls ⟨fun z => absurd z (by decide), fun z => (z.elim c29 c40).elim⟩ hF hW hl
    · refine lv_iconst (v := bI true) hx hb dX0_tryStatement_43 (by decide) ?_
      refine lv_goto (tgt := 48) hx hb dX0_tryStatement_44 (by decide) ?_
      exact k48 true L H locs ls ⟨fun _ => Or.inr c40, fun _ => rfl⟩ hF hW hl
end
section
/-! what the questions answer -/
def isV (x : Int32) : Bool := !(decide (x < 0)) && !(decide (11 < x))
theorem isV_of {x : Int32} (h : isV x = true) : ∃ k : Nat, k < 12 ∧ x = nI k := by
  unfold isV at h
  simp only [Bool.and_eq_true, Bool.not_eq_true', decide_eq_false_iff_not] at h
  obtain ⟨j, hj, e⟩ := nI_of2 (M := 11) (n := 11) (by decide) h.1 (Int32.not_lt.mp h.2)
  exact ⟨j, by omega, e⟩
theorem isV_nI {k : Nat} (h : k < 12) : isV (nI k) = true := by
  have key : ∀ k : Fin 12, isV (nI k.val) = true := by decide +kernel
  exact key ⟨k, h⟩
theorem cl12 {k : Nat} (h : k < 12) : (nI k).toNatClampNeg = k := nI_clamp (by omega)
def cntB : Nat → (Nat → Bool) → Nat
  | 0, _ => 0
  | n + 1, f => cntB n f + (if f n then 1 else 0)
theorem cntB_le (n : Nat) (f : Nat → Bool) : cntB n f ≤ n := by
  induction n with
  | zero => exact Nat.le_refl _
  | succ n ih =>
    show cntB n f + (if f n then 1 else 0) ≤ n + 1
    split <;> omega
def vN (x : Int32) : Nat := x.toNatClampNeg
def xq_state (u : XSt) (x : Int32) : Int32 := if u.bk then -3 else if isV x then nI (u.st (u.r (vN x))) else -1
def xq_value (u : XSt) (x : Int32) : Int32 := if isV x = true ∧ u.bk = false ∧ u.st (u.r (vN x)) = 1 then u.nu (u.r (vN x)) else 0
def xq_linked (u : XSt) (x y : Int32) : Bool := isV x && (isV y && (!u.bk && decide (u.r (vN x) = u.r (vN y))))
def xq_waiting (u : XSt) : Int32 := if u.bk then -3 else nI (cntB u.sc (fun s => bt u.su s))
def xq_classes (u : XSt) : Int32 := if u.bk then -3 else nI (cntB 12 (fun x => decide (u.r x = x)))
def xq_partOk (u : XSt) (x pl : Int32) : Prop := isV x = true ∧ u.bk = false ∧ ¬ pl < 0 ∧ pl ≤ 1 ∧ u.st (u.r (vN x)) = 2
def xq_partG (u : XSt) (x pl : Int32) : Nat := if pl = 0 then u.lf (u.r (vN x)) else u.rt (u.r (vN x))
def xq_part (u : XSt) (x pl : Int32) (r : Int32) : Prop := (¬ xq_partOk u x pl → r = -1) ∧ (xq_partOk u x pl → ∃ v, v < 12 ∧ r = nI v ∧ u.r v = u.r (xq_partG u x pl) ∧ ∀ j, j < v → u.r j ≠ u.r (xq_partG u x pl))
def XInit (u : XSt) : Prop := u.sc = 0 ∧ u.su = 0 ∧ u.bk = false ∧ u.rd = 0 ∧ u.jc = 0 ∧ (∀ x, x < 12 → u.st x = 0 ∧ u.wa x = 0) ∧ (∀ x, u.r x = x) ∧ XSr u
theorem forest_id {L : Nat → Nat} (h : ∀ x, x < 12 → L x = x) : Forest L (fun x => x) := ⟨fun _ => 0, fun x hx => ⟨by rw [h x hx]; exact hx, hx, h x hx, h x hx, fun z => absurd (h x hx) z, fun _ => rfl⟩⟩
end
section
set_option maxRecDepth 100000
set_option maxHeartbeats 4000000 in
set_option maxRecDepth 100000 in
/-- isVariable(x) -/
theorem mX_isVariable (l : Launch) (D : va_G) (h : Nat → Nat) (dA : Nat → ClassId) (L : Nat → Nat) (u : XSt) (x : Int32) : Met l yX0_isVariable (ws_ yX0_isVariable cX0_isVariable 2 (some .boolean)) (rmN 0) (XPc D h dA L u [.int x]) (XQi D h dA (fun r L' u' => r = bI (isV x) ∧ L' = L ∧ u' = u)) 0 0 (AX h) := by
  refine x_met rfl (Nat.le_of_ble_eq_true rfl) ?_
  intro p e s m below meth c ls C hr hlocks hW hl
  have hx := C.1
  have hb := C.2.1
  have hl : lv_has ls 2 [(0, .ref (h 0)), (1, .int x)] := hl
  refine lv_iload_n hx hb dX0_isVariable_0 rfl (lv_at hl 1 rfl) ?_
  refine lv_if_lt (tgt := 14) hx hb dX0_isVariable_1 (by decide) (fun c1 => ?_) (fun c1 => ?_)
  · refine lv_iconst (v := bI false) hx hb dX0_isVariable_14 (by decide) ?_
    exact x_zret C hW hr hlocks ⟨by simp [isV, c1], rfl, rfl⟩ dX0_isVariable_15
  · refine lv_iload_n hx hb dX0_isVariable_4 rfl (lv_at hl 1 rfl) ?_
    refine lv_bipush (v := 11) hx hb dX0_isVariable_5 (by decide) ?_
    refine lv_icmp_gt (tgt := 14) hx hb dX0_isVariable_7 (by decide) (fun c7 => ?_) (fun c7 => ?_)
    · refine lv_iconst (v := bI false) hx hb dX0_isVariable_14 (by decide) ?_
      exact x_zret C hW hr hlocks ⟨by simp [isV, c7], rfl, rfl⟩ dX0_isVariable_15
    · refine lv_iconst (v := bI true) hx hb dX0_isVariable_10 (by decide) ?_
      refine lv_goto (tgt := 15) hx hb dX0_isVariable_11 (by decide) ?_
      exact x_zret C hW hr hlocks ⟨by simp [isV, c1, c7], rfl, rfl⟩ dX0_isVariable_15
set_option maxHeartbeats 4000000 in
set_option maxRecDepth 100000 in
/-- failed() -/
theorem mX_failed (l : Launch) (D : va_G) (h : Nat → Nat) (dA : Nat → ClassId) (L : Nat → Nat) (u : XSt) (hF : Forest L u.r) : Met l yX0_failed (ws_ yX0_failed cX0_failed 1 (some .boolean)) (rmN 0) (XPc D h dA L u []) (XQi D h dA (fun r L' u' => r = bI u.bk ∧ Forest L' u.r ∧ u' = u)) 0 0 (AX h) := by
  refine x_met rfl (Nat.le_of_ble_eq_true rfl) ?_
  intro p e s m below meth c ls C hr hlocks hW hl
  have hx := C.1
  have hb := C.2.1
  have hl : lv_has ls 1 [(0, .ref (h 0))] := hl
  refine lv_aload_n hx hb dX0_failed_0 rfl (lv_at hl 0 rfl) ?_
  refine x_get C hW 17 (by decide) q52 rfl rfl dX0_failed_1 ?_
  exact x_zret C hW hr hlocks ⟨rfl, hF, rfl⟩ dX0_failed_4
set_option maxHeartbeats 4000000 in
set_option maxRecDepth 100000 in
/-- state(x) -/
theorem mX_state (l : Launch) (D : va_G) (h : Nat → Nat) (dA : Nat → ClassId) (L : Nat → Nat) (u : XSt) (x : Int32) (hF : Forest L u.r) : Met l yX0_state (ws_ yX0_state cX0_state 2 (some .int)) (rmN 1) (XPc D h dA L u [.int x]) (XQi D h dA (fun r L' u' => r = xq_state u x ∧ Forest L' u.r ∧ u' = u)) 0 0 (AX h) := by
  refine x_met rfl (Nat.le_of_ble_eq_true rfl) ?_
  intro p e s m below meth c ls C hr hlocks hW hl
  have hx := C.1
  have hb := C.2.1
  have hl : lv_has ls 2 [(0, .ref (h 0)), (1, .int x)] := hl
  refine lv_aload_n hx hb dX0_state_0 rfl (lv_at hl 0 rfl) ?_
  refine x_get C hW 17 (by decide) q52 rfl rfl dX0_state_1 ?_
  refine b_if_eq (tgt := 10) hx hb dX0_state_4 (by decide) (fun c4 => ?_) (fun c4 => ?_)
  · refine lv_aload_n hx hb dX0_state_10 rfl (lv_at hl 0 rfl) ?_
    refine lv_iload_n hx hb dX0_state_11 rfl (lv_at hl 1 rfl) ?_
    refine x_callz C hW (As := [_]) (rest := []) (mX_isVariable l D h dA L _ x) cbX_isVariable ⟨by decide, by decide⟩ ⟨rfl, rfl⟩ ⟨Nat.zero_le _, Nat.zero_le _⟩ rfl hl.1 rfl (Nat.le_of_ble_eq_true rfl) dX0_state_12 (fun r L u' H locs hp hW => ?_)
    obtain ⟨hre, hLe, hu⟩ := hp
    rw [hu] at hW
    rw [← hLe] at hF
    clear hu hLe
    subst hre
    refine b_if_ne (tgt := 20) hx hb dX0_state_15 (by decide) (fun c15 => ?_) (fun c15 => ?_)
    · obtain ⟨k, hk, rfl⟩ := isV_of c15
      refine lv_aload_n hx hb dX0_state_20 rfl (lv_at hl 0 rfl) ?_
      refine x_get C hW 8 (by decide) q43 rfl rfl dX0_state_21 ?_
      refine lv_aload_n hx hb dX0_state_24 rfl (lv_at hl 0 rfl) ?_
      refine lv_iload_n hx hb dX0_state_25 rfl (lv_at hl 1 rfl) ?_
      refine x_calli C hW (As := [_]) (rest := [_]) (mX_head l D h dA L _ (k) (hk) hF) cbX_head ⟨by decide, by decide⟩ ⟨rfl, rfl⟩ ⟨Nat.zero_le _, Nat.zero_le _⟩ rfl hl.1 rfl (Nat.le_of_ble_eq_true rfl) dX0_state_26 (fun r L u' H locs hp hW => ?_)
      obtain ⟨hre, hF, hu⟩ := hp
      rw [hu] at hW
      clear hu
      subst hre
      refine x_ld_st C hW (hF.lt hk) dX0_state_29 ?_
      exact x_iret C hW hr hlocks ⟨by unfold xq_state; rw [if_neg (by rw [c4]; decide), if_pos c15, vN, cl12 hk], hF, rfl⟩ dX0_state_30
    · refine lv_iconst (v := -1) hx hb dX0_state_18 (by decide) ?_
      exact x_iret C hW hr hlocks ⟨((if_neg (by rw [c4]; decide)).trans (if_neg (by rw [c15]; decide))).symm, hF, rfl⟩ dX0_state_19
  · refine lv_bipush (v := -3) hx hb dX0_state_7 (by decide) ?_
    exact x_iret C hW hr hlocks ⟨(if_pos c4).symm, hF, rfl⟩ dX0_state_9
set_option maxHeartbeats 4000000 in
set_option maxRecDepth 100000 in
/-- value(x) -/
theorem mX_value (l : Launch) (D : va_G) (h : Nat → Nat) (dA : Nat → ClassId) (L : Nat → Nat) (u : XSt) (x : Int32) (hS : XSr u) (hF : Forest L u.r) : Met l yX0_value (ws_ yX0_value cX0_value 3 (some .int)) (rmN 1) (XPc D h dA L u [.int x]) (XQi D h dA (fun r L' u' => r = xq_value u x ∧ Forest L' u.r ∧ u' = u)) 0 0 (AX h) := by
  refine x_met rfl (Nat.le_of_ble_eq_true rfl) ?_
  intro p e s m below meth c ls C hr hlocks hW hl
  have hx := C.1
  have hb := C.2.1
  have hl : lv_has ls 3 [(0, .ref (h 0)), (1, .int x)] := hl
  refine lv_aload_n hx hb dX0_value_0 rfl (lv_at hl 0 rfl) ?_
  refine lv_iload_n hx hb dX0_value_1 rfl (lv_at hl 1 rfl) ?_
  refine x_callz C hW (As := [_]) (rest := []) (mX_isVariable l D h dA L _ x) cbX_isVariable ⟨by decide, by decide⟩ ⟨rfl, rfl⟩ ⟨Nat.zero_le _, Nat.zero_le _⟩ rfl hl.1 rfl (Nat.le_of_ble_eq_true rfl) dX0_value_2 (fun r L u' H locs hp hW => ?_)
  obtain ⟨hre, hLe, hu⟩ := hp
  rw [hu] at hW
  rw [← hLe] at hF
  clear hu hLe
  subst hre
  refine b_if_eq (tgt := 15) hx hb dX0_value_5 (by decide) (fun c5 => ?_) (fun c5 => ?_)
  · refine lv_iconst (v := 0) hx hb dX0_value_15 (by decide) ?_
    exact x_iret C hW hr hlocks ⟨(if_neg (fun z => by rw [c5] at z; exact absurd z.1 (by decide))).symm, hF, rfl⟩ dX0_value_16
  · refine lv_aload_n hx hb dX0_value_8 rfl (lv_at hl 0 rfl) ?_
    refine x_get C hW 17 (by decide) q52 rfl rfl dX0_value_9 ?_
    refine b_if_eq (tgt := 17) hx hb dX0_value_12 (by decide) (fun c12 => ?_) (fun c12 => ?_)
    · obtain ⟨k, hk, rfl⟩ := isV_of c5
      refine lv_aload_n hx hb dX0_value_17 rfl (lv_at hl 0 rfl) ?_
      refine lv_iload_n hx hb dX0_value_18 rfl (lv_at hl 1 rfl) ?_
      refine x_calli C hW (As := [_]) (rest := []) (mX_head l D h dA L _ (k) (hk) hF) cbX_head ⟨by decide, by decide⟩ ⟨rfl, rfl⟩ ⟨Nat.zero_le _, Nat.zero_le _⟩ rfl hl.1 rfl (Nat.le_of_ble_eq_true rfl) dX0_value_19 (fun r L u' H locs hp hW => ?_)
      obtain ⟨hre, hF, hu⟩ := hp
      rw [hu] at hW
      clear hu
      subst hre
      refine lv_istore_n (lv' := [(2, _), (0, _), (1, _)]) hx hb dX0_value_22 rfl hl (by decide) rfl (fun ls hl => ?_)
      refine lv_aload_n hx hb dX0_value_23 rfl (lv_at hl 1 rfl) ?_
      refine x_get C hW 8 (by decide) q43 rfl rfl dX0_value_24 ?_
      refine lv_iload_n hx hb dX0_value_27 rfl (lv_at hl 0 rfl) ?_
      refine x_ld_st C hW (hF.lt hk) dX0_value_28 ?_
      refine lv_iconst (v := nI 1) hx hb dX0_value_29 (by decide) ?_
      refine n_icmp_ne (tgt := 42) hx hb (hS.st31 _) (by decide) dX0_value_30 (by decide) (fun c30 => ?_) (fun c30 => ?_)
      · refine lv_iconst (v := 0) hx hb dX0_value_42 (by decide) ?_
        exact x_iret C hW hr hlocks ⟨by unfold xq_value; rw [vN, cl12 hk, if_neg (fun z => c30 z.2.2)], hF, rfl⟩ dX0_value_43
      · refine lv_aload_n hx hb dX0_value_33 rfl (lv_at hl 1 rfl) ?_
        refine x_get C hW 9 (by decide) q44 rfl rfl dX0_value_34 ?_
        refine lv_iload_n hx hb dX0_value_37 rfl (lv_at hl 0 rfl) ?_
        refine x_ld_nu C hW (hF.lt hk) dX0_value_38 ?_
        refine lv_goto (tgt := 43) hx hb dX0_value_39 (by decide) ?_
        exact x_iret C hW hr hlocks ⟨by unfold xq_value; rw [vN, cl12 hk, if_pos ⟨c5, c12, c30⟩], hF, rfl⟩ dX0_value_43
    · refine lv_iconst (v := 0) hx hb dX0_value_15 (by decide) ?_
      exact x_iret C hW hr hlocks ⟨(if_neg (fun z => by rw [c12] at z; exact absurd z.2.1 (by decide))).symm, hF, rfl⟩ dX0_value_16
set_option maxHeartbeats 4000000 in
set_option maxRecDepth 100000 in
/-- linked(x, y) -/
theorem mX_linked (l : Launch) (D : va_G) (h : Nat → Nat) (dA : Nat → ClassId) (L : Nat → Nat) (u : XSt) (x y : Int32) (hF : Forest L u.r) : Met l yX0_linked (ws_ yX0_linked cX0_linked 3 (some .boolean)) (rmN 1) (XPc D h dA L u [.int x, .int y]) (XQi D h dA (fun r L' u' => r = bI (xq_linked u x y) ∧ Forest L' u.r ∧ u' = u)) 0 0 (AX h) := by
  refine x_met rfl (Nat.le_of_ble_eq_true rfl) ?_
  intro p e s m below meth c ls C hr hlocks hW hl
  have hx := C.1
  have hb := C.2.1
  have hl : lv_has ls 3 [(0, .ref (h 0)), (1, .int x), (2, .int y)] := hl
  refine lv_aload_n hx hb dX0_linked_0 rfl (lv_at hl 0 rfl) ?_
  refine lv_iload_n hx hb dX0_linked_1 rfl (lv_at hl 1 rfl) ?_
  refine x_callz C hW (As := [_]) (rest := []) (mX_isVariable l D h dA L _ x) cbX_isVariable ⟨by decide, by decide⟩ ⟨rfl, rfl⟩ ⟨Nat.zero_le _, Nat.zero_le _⟩ rfl hl.1 rfl (Nat.le_of_ble_eq_true rfl) dX0_linked_2 (fun r L u' H locs hp hW => ?_)
  obtain ⟨hre, hLe, hu⟩ := hp
  rw [hu] at hW
  rw [← hLe] at hF
  clear hu hLe
  subst hre
  refine b_if_eq (tgt := 40) hx hb dX0_linked_5 (by decide) (fun c5 => ?_) (fun c5 => ?_)
  · refine lv_iconst (v := bI false) hx hb dX0_linked_40 (by decide) ?_
    exact x_zret C hW hr hlocks ⟨by simp [xq_linked, c5], hF, rfl⟩ dX0_linked_41
  · refine lv_aload_n hx hb dX0_linked_8 rfl (lv_at hl 0 rfl) ?_
    refine lv_iload_n hx hb dX0_linked_9 rfl (lv_at hl 2 rfl) ?_
    refine x_callz C hW (As := [_]) (rest := []) (mX_isVariable l D h dA L _ y) cbX_isVariable ⟨by decide, by decide⟩ ⟨rfl, rfl⟩ ⟨Nat.zero_le _, Nat.zero_le _⟩ rfl hl.1 rfl (Nat.le_of_ble_eq_true rfl) dX0_linked_10 (fun r L u' H locs hp hW => ?_)
    obtain ⟨hre, hLe, hu⟩ := hp
    rw [hu] at hW
    rw [← hLe] at hF
    clear hu hLe
    subst hre
    refine b_if_eq (tgt := 40) hx hb dX0_linked_13 (by decide) (fun c13 => ?_) (fun c13 => ?_)
    · refine lv_iconst (v := bI false) hx hb dX0_linked_40 (by decide) ?_
      exact x_zret C hW hr hlocks ⟨by simp [xq_linked, c13], hF, rfl⟩ dX0_linked_41
    · refine lv_aload_n hx hb dX0_linked_16 rfl (lv_at hl 0 rfl) ?_
      refine x_get C hW 17 (by decide) q52 rfl rfl dX0_linked_17 ?_
      refine b_if_ne (tgt := 40) hx hb dX0_linked_20 (by decide) (fun c20 => ?_) (fun c20 => ?_)
      · refine lv_iconst (v := bI false) hx hb dX0_linked_40 (by decide) ?_
        exact x_zret C hW hr hlocks ⟨by simp [xq_linked, c20], hF, rfl⟩ dX0_linked_41
      · obtain ⟨k, hk, rfl⟩ := isV_of c5
        obtain ⟨k2, hk2, rfl⟩ := isV_of c13
        refine lv_aload_n hx hb dX0_linked_23 rfl (lv_at hl 0 rfl) ?_
        refine lv_iload_n hx hb dX0_linked_24 rfl (lv_at hl 1 rfl) ?_
        refine x_calli C hW (As := [_]) (rest := []) (mX_head l D h dA L _ (k) (hk) hF) cbX_head ⟨by decide, by decide⟩ ⟨rfl, rfl⟩ ⟨Nat.zero_le _, Nat.zero_le _⟩ rfl hl.1 rfl (Nat.le_of_ble_eq_true rfl) dX0_linked_25 (fun r L u' H locs hp hW => ?_)
        obtain ⟨hre, hF, hu⟩ := hp
        rw [hu] at hW
        clear hu
        subst hre
        refine lv_aload_n hx hb dX0_linked_28 rfl (lv_at hl 0 rfl) ?_
        refine lv_iload_n hx hb dX0_linked_29 rfl (lv_at hl 2 rfl) ?_
        refine x_calli C hW (As := [_]) (rest := [_]) (mX_head l D h dA L _ (k2) (hk2) hF) cbX_head ⟨by decide, by decide⟩ ⟨rfl, rfl⟩ ⟨Nat.zero_le _, Nat.zero_le _⟩ rfl hl.1 rfl (Nat.le_of_ble_eq_true rfl) dX0_linked_30 (fun r L u' H locs hp hW => ?_)
        obtain ⟨hre, hF, hu⟩ := hp
        rw [hu] at hW
        clear hu
        subst hre
        refine n_icmp_ne (tgt := 40) hx hb (by have := hF.lt hk; omega) (by have := hF.lt hk2; omega) dX0_linked_33 (by decide) (fun c33 => ?_) (fun c33 => ?_)
        · refine lv_iconst (v := bI false) hx hb dX0_linked_40 (by decide) ?_
          exact x_zret C hW hr hlocks ⟨by simp [xq_linked, vN, cl12 hk, cl12 hk2, c33], hF, rfl⟩ dX0_linked_41
        · refine lv_iconst (v := bI true) hx hb dX0_linked_36 (by decide) ?_
          refine lv_goto (tgt := 41) hx hb dX0_linked_37 (by decide) ?_
          exact x_zret C hW hr hlocks ⟨by simp [xq_linked, vN, cl12 hk, cl12 hk2, c33, c5, c13, c20], hF, rfl⟩ dX0_linked_41
set_option maxHeartbeats 4000000 in
set_option maxRecDepth 100000 in
/-- part(x, place) -/
theorem mX_part (l : Launch) (D : va_G) (h : Nat → Nat) (dA : Nat → ClassId) (L : Nat → Nat) (u : XSt) (x pl : Int32) (hS : XSr u) (hF : Forest L u.r) : Met l yX0_part (ws_ yX0_part cX0_part 6 (some .int)) (rmN 1) (XPc D h dA L u [.int x, .int pl]) (XQi D h dA (fun r L' u' => xq_part u x pl r ∧ Forest L' u.r ∧ u' = u)) 0 0 (AX h) := by
  refine x_met rfl (Nat.le_of_ble_eq_true rfl) ?_
  intro p e s m below meth c ls C hr hlocks hW hl
  have hx := C.1
  have hb := C.2.1
  have hl : lv_has ls 6 [(0, .ref (h 0)), (1, .int x), (2, .int pl)] := hl
  have loop : ∀ (n g v : Nat) (L : Nat → Nat) (H : Heap) (locs : List Loc) (ls : Array Slot), g < 12 → g < n + v → xq_partOk u x pl → u.r g = u.r (xq_partG u x pl) → v ≤ g → (∀ j, j < v → u.r j ≠ u.r g) → Forest L u.r → XW D h dA L u s.heap H locs → lv_has ls 6 [(5, .int (nI v)), (4, .int (nI (u.r g))), (0, .ref (h 0))] → W p l e (rmN 1) s m (.ref (h 0) :: [.int x, .int pl]).toArray below meth c H locs 0 0 (MQ below (XQi D h dA (fun r L' u' => xq_part u x pl r ∧ Forest L' u.r ∧ u' = u)) (.ref (h 0) :: [.int x, .int pl]).toArray s 0 0 (AX h)) (F0 m 72 ls []) := by
    intro n
    induction n with
    | zero => intro g v L H locs ls hg hn hok hG hv; exact absurd hn (by omega)
    | succ n ih =>
      intro g v L H locs ls hg hn hok hG hv hlow hF hW hl
      refine lv_aload_n hx hb dX0_part_72 rfl (lv_at hl 2 rfl) ?_
      refine lv_iload hx hb dX0_part_73 (lv_at hl 0 rfl) ?_
      refine x_calli C hW (As := [_]) (rest := []) (mX_head l D h dA L _ (v) (by omega) hF) cbX_head ⟨by decide, by decide⟩ ⟨rfl, rfl⟩ ⟨Nat.zero_le _, Nat.zero_le _⟩ rfl hl.1 rfl (Nat.le_of_ble_eq_true rfl) dX0_part_75 (fun r L u' H locs hp hW => ?_)
      obtain ⟨hre, hF, hu⟩ := hp
      rw [hu] at hW
      clear hu
      subst hre
      refine lv_iload hx hb dX0_part_78 (lv_at hl 1 rfl) ?_
      refine n_icmp_eq (tgt := 89) hx hb (by have := hF.lt (show v < 12 by omega); omega) (by have := hF.lt hg; omega) dX0_part_80 (by decide) (fun c80 => ?_) (fun c80 => ?_)
      · refine lv_iload hx hb dX0_part_89 (lv_at hl 0 rfl) ?_
        exact x_iret C hW hr hlocks ⟨⟨fun z => absurd hok z, fun _ => ⟨v, by omega, rfl, by rw [← hG]; exact c80, fun j hj => by rw [← hG]; exact hlow j hj⟩⟩, hF, rfl⟩ dX0_part_91
      · refine lv_iinc (lv' := [(5, _), (4, _), (0, _)]) hx hb dX0_part_83 hl (k := 0) rfl (nI_1 _) (by decide) rfl (fun ls hl => ?_)
        refine lv_goto (tgt := 72) hx hb dX0_part_86 (by decide) ?_
        exact ih g (v + 1) L H locs ls hg (by omega) hok hG (by rcases Nat.lt_or_ge v g with q | q; exact q; exact absurd (by rw [show v = g by omega]) c80) (fun j hj => by rcases Nat.lt_succ_iff_lt_or_eq.mp hj with q | q; exact hlow j q; rw [q]; exact c80) hF hW hl
  refine lv_aload_n hx hb dX0_part_0 rfl (lv_at hl 0 rfl) ?_
  refine lv_iload_n hx hb dX0_part_1 rfl (lv_at hl 1 rfl) ?_
  refine x_callz C hW (As := [_]) (rest := []) (mX_isVariable l D h dA L _ x) cbX_isVariable ⟨by decide, by decide⟩ ⟨rfl, rfl⟩ ⟨Nat.zero_le _, Nat.zero_le _⟩ rfl hl.1 rfl (Nat.le_of_ble_eq_true rfl) dX0_part_2 (fun r L u' H locs hp hW => ?_)
  obtain ⟨hre, hLe, hu⟩ := hp
  rw [hu] at hW
  rw [← hLe] at hF
  clear hu hLe
  subst hre
  refine b_if_eq (tgt := 24) hx hb dX0_part_5 (by decide) (fun c5 => ?_) (fun c5 => ?_)
  · refine lv_iconst (v := -1) hx hb dX0_part_24 (by decide) ?_
    exact x_iret C hW hr hlocks ⟨⟨fun _ => rfl, fun z => absurd z (fun z => by have z1 := z.1; rw [c5] at z1; exact absurd z1 (by decide))⟩, hF, rfl⟩ dX0_part_25
  · refine lv_aload_n hx hb dX0_part_8 rfl (lv_at hl 0 rfl) ?_
    refine x_get C hW 17 (by decide) q52 rfl rfl dX0_part_9 ?_
    refine b_if_ne (tgt := 24) hx hb dX0_part_12 (by decide) (fun c12 => ?_) (fun c12 => ?_)
    · refine lv_iconst (v := -1) hx hb dX0_part_24 (by decide) ?_
      exact x_iret C hW hr hlocks ⟨⟨fun _ => rfl, fun z => absurd z (fun z => by have z1 := z.2.1; rw [c12] at z1; exact absurd z1 (by decide))⟩, hF, rfl⟩ dX0_part_25
    · refine lv_iload_n hx hb dX0_part_15 rfl (lv_at hl 2 rfl) ?_
      refine lv_if_lt (tgt := 24) hx hb dX0_part_16 (by decide) (fun c16 => ?_) (fun c16 => ?_)
      · refine lv_iconst (v := -1) hx hb dX0_part_24 (by decide) ?_
        exact x_iret C hW hr hlocks ⟨⟨fun _ => rfl, fun z => absurd z (fun z => z.2.2.1 c16)⟩, hF, rfl⟩ dX0_part_25
      · refine lv_iload_n hx hb dX0_part_19 rfl (lv_at hl 2 rfl) ?_
        refine lv_iconst (v := 1) hx hb dX0_part_20 (by decide) ?_
        refine lv_icmp_le (tgt := 26) hx hb dX0_part_21 (by decide) (fun c21 => ?_) (fun c21 => ?_)
        · obtain ⟨k, hk, rfl⟩ := isV_of c5
          have hc := cl12 hk
          refine lv_aload_n hx hb dX0_part_26 rfl (lv_at hl 0 rfl) ?_
          refine lv_iload_n hx hb dX0_part_27 rfl (lv_at hl 1 rfl) ?_
          refine x_calli C hW (As := [_]) (rest := []) (mX_head l D h dA L _ (k) (hk) hF) cbX_head ⟨by decide, by decide⟩ ⟨rfl, rfl⟩ ⟨Nat.zero_le _, Nat.zero_le _⟩ rfl hl.1 rfl (Nat.le_of_ble_eq_true rfl) dX0_part_28 (fun r L u' H locs hp hW => ?_)
          obtain ⟨hre, hF, hu⟩ := hp
          rw [hu] at hW
          clear hu
          subst hre
          refine lv_istore_n (lv' := [(3, _), (0, _), (1, _), (2, _)]) hx hb dX0_part_31 rfl hl (by decide) rfl (fun ls hl => ?_)
          refine lv_aload_n hx hb dX0_part_32 rfl (lv_at hl 1 rfl) ?_
          refine x_get C hW 8 (by decide) q43 rfl rfl dX0_part_33 ?_
          refine lv_iload_n hx hb dX0_part_36 rfl (lv_at hl 0 rfl) ?_
          refine x_ld_st C hW (hF.lt hk) dX0_part_37 ?_
          refine lv_iconst (v := nI 2) hx hb dX0_part_38 (by decide) ?_
          refine n_icmp_eq (tgt := 44) hx hb (hS.st31 _) (by decide) dX0_part_39 (by decide) (fun c39 => ?_) (fun c39 => ?_)
          · refine lv_aload_n hx hb dX0_part_44 rfl (lv_at hl 1 rfl) ?_
            refine lv_iload_n hx hb dX0_part_45 rfl (lv_at hl 3 rfl) ?_
            refine lv_if_ne (tgt := 58) hx hb dX0_part_46 (by decide) (fun c46 => ?_) (fun c46 => ?_)
            · have hok : xq_partOk u (nI k) pl := ⟨c5, c12, c16, c21, by rw [vN, hc]; exact c39⟩
              have hg : xq_partG u (nI k) pl = u.rt (u.r k) := by unfold xq_partG; rw [if_neg c46, vN, hc]
              refine lv_aload_n hx hb dX0_part_58 rfl (lv_at hl 1 rfl) ?_
              refine x_get C hW 11 (by decide) q46 rfl rfl dX0_part_59 ?_
              refine lv_iload_n hx hb dX0_part_62 rfl (lv_at hl 0 rfl) ?_
              refine x_ld_rt C hW (hF.lt hk) dX0_part_63 ?_
              refine x_calli C hW (As := [_]) (rest := []) (mX_head l D h dA L _ (u.rt (u.r k)) (hS.rt _) hF) cbX_head ⟨by decide, by decide⟩ ⟨rfl, rfl⟩ ⟨Nat.zero_le _, Nat.zero_le _⟩ rfl hl.1 rfl (Nat.le_of_ble_eq_true rfl) dX0_part_64 (fun r L u' H locs hp hW => ?_)
              obtain ⟨hre, hF, hu⟩ := hp
              rw [hu] at hW
              clear hu
              subst hre
              refine lv_istore (lv' := [(4, _), (3, _), (0, _), (1, _), (2, _)]) hx hb dX0_part_67 hl (by decide) rfl (fun ls hl => ?_)
              refine lv_iconst (v := nI 0) hx hb dX0_part_69 (by decide) ?_
              refine lv_istore (lv' := [(5, _), (4, _), (3, _), (0, _), (1, _), (2, _)]) hx hb dX0_part_70 hl (by decide) rfl (fun ls hl => ?_)
              exact loop 12 (u.rt (u.r k)) 0 L H locs ls (hS.rt _) (by have := hS.rt (u.r k); omega) hok (by rw [hg]) (Nat.zero_le _) (fun j hj => absurd hj (Nat.not_lt_zero _)) hF hW (lv_sub hl [0, 1, 3] rfl)
            · have c46 : pl = 0 := Classical.byContradiction (fun z => absurd c46 z)
              have hok : xq_partOk u (nI k) pl := ⟨c5, c12, c16, c21, by rw [vN, hc]; exact c39⟩
              have hg : xq_partG u (nI k) pl = u.lf (u.r k) := by unfold xq_partG; rw [if_pos c46, vN, hc]
              refine lv_aload_n hx hb dX0_part_49 rfl (lv_at hl 1 rfl) ?_
              refine x_get C hW 10 (by decide) q45 rfl rfl dX0_part_50 ?_
              refine lv_iload_n hx hb dX0_part_53 rfl (lv_at hl 0 rfl) ?_
              refine x_ld_lf C hW (hF.lt hk) dX0_part_54 ?_
              refine lv_goto (tgt := 64) hx hb dX0_part_55 (by decide) ?_
              refine x_calli C hW (As := [_]) (rest := []) (mX_head l D h dA L _ (u.lf (u.r k)) (hS.lf _) hF) cbX_head ⟨by decide, by decide⟩ ⟨rfl, rfl⟩ ⟨Nat.zero_le _, Nat.zero_le _⟩ rfl hl.1 rfl (Nat.le_of_ble_eq_true rfl) dX0_part_64 (fun r L u' H locs hp hW => ?_)
              obtain ⟨hre, hF, hu⟩ := hp
              rw [hu] at hW
              clear hu
              subst hre
              refine lv_istore (lv' := [(4, _), (3, _), (0, _), (1, _), (2, _)]) hx hb dX0_part_67 hl (by decide) rfl (fun ls hl => ?_)
              refine lv_iconst (v := nI 0) hx hb dX0_part_69 (by decide) ?_
              refine lv_istore (lv' := [(5, _), (4, _), (3, _), (0, _), (1, _), (2, _)]) hx hb dX0_part_70 hl (by decide) rfl (fun ls hl => ?_)
              exact loop 12 (u.lf (u.r k)) 0 L H locs ls (hS.lf _) (by have := hS.lf (u.r k); omega) hok (by rw [hg]) (Nat.zero_le _) (fun j hj => absurd hj (Nat.not_lt_zero _)) hF hW (lv_sub hl [0, 1, 3] rfl)
          · refine lv_iconst (v := -1) hx hb dX0_part_42 (by decide) ?_
            exact x_iret C hW hr hlocks ⟨⟨fun _ => rfl, fun z => absurd z (fun z => c39 (by have := z.2.2.2.2; rw [vN, hc] at this; exact this))⟩, hF, rfl⟩ dX0_part_43
        · refine lv_iconst (v := -1) hx hb dX0_part_24 (by decide) ?_
          exact x_iret C hW hr hlocks ⟨⟨fun _ => rfl, fun z => absurd z (fun z => c21 z.2.2.2.1)⟩, hF, rfl⟩ dX0_part_25
set_option maxHeartbeats 4000000 in
set_option maxRecDepth 100000 in
/-- waiting() -/
theorem mX_waiting (l : Launch) (D : va_G) (h : Nat → Nat) (dA : Nat → ClassId) (L : Nat → Nat) (u : XSt) (hS : XSr u) (hF : Forest L u.r) : Met l yX0_waiting (ws_ yX0_waiting cX0_waiting 3 (some .int)) (rmN 0) (XPc D h dA L u []) (XQi D h dA (fun r L' u' => r = xq_waiting u ∧ Forest L' u.r ∧ u' = u)) 0 0 (AX h) := by
  refine x_met rfl (Nat.le_of_ble_eq_true rfl) ?_
  intro p e s m below meth c ls C hr hlocks hW hl
  have hx := C.1
  have hb := C.2.1
  have hl : lv_has ls 3 [(0, .ref (h 0))] := hl
  have hsc := hS.1
  have loop : ∀ (n i : Nat) (H : Heap) (locs : List Loc) (ls : Array Slot), u.sc < n + i → i ≤ u.sc → u.bk = false → XW D h dA L u s.heap H locs → lv_has ls 3 [(2, .int (nI i)), (1, .int (nI (cntB i (fun s => bt u.su s)))), (0, .ref (h 0))] → W p l e (rmN 0) s m (.ref (h 0) :: []).toArray below meth c H locs 0 0 (MQ below (XQi D h dA (fun r L' u' => r = xq_waiting u ∧ Forest L' u.r ∧ u' = u)) (.ref (h 0) :: []).toArray s 0 0 (AX h)) (F0 m 14 ls []) := by
    intro n
    induction n with
    | zero => intro i H locs ls hn hi; exact absurd hn (by omega)
    | succ n ih =>
      intro i H locs ls hn hi hbk hW hl
      refine lv_iload_n hx hb dX0_waiting_14 rfl (lv_at hl 0 rfl) ?_
      refine lv_aload_n hx hb dX0_waiting_15 rfl (lv_at hl 2 rfl) ?_
      refine x_get C hW 0 (by decide) q35 rfl rfl dX0_waiting_16 ?_
      refine n_icmp_ge (tgt := 40) hx hb (by omega) (show u.sc < 2 ^ 31 by omega) dX0_waiting_19 (by decide) (fun c19 => ?_) (fun c19 => ?_)
      · refine lv_iload_n hx hb dX0_waiting_40 rfl (lv_at hl 1 rfl) ?_
        exact x_iret C hW hr hlocks ⟨by unfold xq_waiting; rw [hbk, if_neg (by decide), show i = u.sc from Nat.le_antisymm hi c19], hF, rfl⟩ dX0_waiting_41
      · refine lv_iload_n hx hb dX0_waiting_22 rfl (lv_at hl 1 rfl) ?_
        refine lv_aload_n hx hb dX0_waiting_23 rfl (lv_at hl 2 rfl) ?_
        refine x_get C hW 5 (by decide) q40 rfl rfl dX0_waiting_24 ?_
        refine lv_iload_n hx hb dX0_waiting_27 rfl (lv_at hl 0 rfl) ?_
        refine lv_lushr hx hb dX0_waiting_28 rfl ?_
        refine lv_lconst (v := 1) hx hb dX0_waiting_29 (by decide) ?_
        refine lv_land hx hb dX0_waiting_30 ?_
        refine lv_l2i hx hb dX0_waiting_31 (v := nI (if bt u.su i then 1 else 0)) (by rw [bt_shr _ (show i < 64 by omega)]; cases bt u.su i <;> decide) ?_
        refine n_iadd hx hb dX0_waiting_32 ?_
        refine lv_istore_n (lv' := [(1, _), (2, _), (0, _)]) hx hb dX0_waiting_33 rfl hl (by decide) rfl (fun ls hl => ?_)
        refine lv_iinc (lv' := [(2, _), (1, _), (0, _)]) hx hb dX0_waiting_34 hl (k := 1) rfl (nI_1 _) (by decide) rfl (fun ls hl => ?_)
        refine lv_goto (tgt := 14) hx hb dX0_waiting_37 (by decide) ?_
        exact ih (i + 1) H locs ls (by omega) (by omega) hbk hW hl
  refine lv_aload_n hx hb dX0_waiting_0 rfl (lv_at hl 0 rfl) ?_
  refine x_get C hW 17 (by decide) q52 rfl rfl dX0_waiting_1 ?_
  refine b_if_eq (tgt := 10) hx hb dX0_waiting_4 (by decide) (fun c4 => ?_) (fun c4 => ?_)
  · refine lv_iconst (v := nI 0) hx hb dX0_waiting_10 (by decide) ?_
    refine lv_istore_n (lv' := [(1, _), (0, _)]) hx hb dX0_waiting_11 rfl hl (by decide) rfl (fun ls hl => ?_)
    refine lv_iconst (v := nI 0) hx hb dX0_waiting_12 (by decide) ?_
    refine lv_istore_n (lv' := [(2, _), (1, _), (0, _)]) hx hb dX0_waiting_13 rfl hl (by decide) rfl (fun ls hl => ?_)
    exact loop (u.sc + 1) 0 s.heap [] ls (by omega) (Nat.zero_le _) c4 hW hl
  · refine lv_bipush (v := -3) hx hb dX0_waiting_7 (by decide) ?_
    exact x_iret C hW hr hlocks ⟨(if_pos c4).symm, hF, rfl⟩ dX0_waiting_9
set_option maxHeartbeats 4000000 in
set_option maxRecDepth 100000 in
/-- classes() -/
theorem mX_classes (l : Launch) (D : va_G) (h : Nat → Nat) (dA : Nat → ClassId) (L : Nat → Nat) (u : XSt) (hF : Forest L u.r) : Met l yX0_classes (ws_ yX0_classes cX0_classes 3 (some .int)) (rmN 0) (XPc D h dA L u []) (XQi D h dA (fun r L' u' => r = xq_classes u ∧ Forest L' u.r ∧ u' = u)) 0 0 (AX h) := by
  refine x_met rfl (Nat.le_of_ble_eq_true rfl) ?_
  intro p e s m below meth c ls C hr hlocks hW hl
  have hx := C.1
  have hb := C.2.1
  have hl : lv_has ls 3 [(0, .ref (h 0))] := hl
  have loop : ∀ (n i : Nat) (H : Heap) (locs : List Loc) (ls : Array Slot), 12 < n + i → i ≤ 12 → u.bk = false → XW D h dA L u s.heap H locs → lv_has ls 3 [(2, .int (nI i)), (1, .int (nI (cntB i (fun x => decide (u.r x = x))))), (0, .ref (h 0))] → W p l e (rmN 0) s m (.ref (h 0) :: []).toArray below meth c H locs 0 0 (MQ below (XQi D h dA (fun r L' u' => r = xq_classes u ∧ Forest L' u.r ∧ u' = u)) (.ref (h 0) :: []).toArray s 0 0 (AX h)) (F0 m 14 ls []) := by
    intro n
    induction n with
    | zero => intro i H locs ls hn hi; exact absurd hn (by omega)
    | succ n ih =>
      intro i H locs ls hn hi hbk hW hl
      refine lv_iload_n hx hb dX0_classes_14 rfl (lv_at hl 0 rfl) ?_
      refine lv_bipush (v := nI 12) hx hb dX0_classes_15 (by decide) ?_
      refine n_icmp_ge (tgt := 39) hx hb (by omega) (by omega) dX0_classes_17 (by decide) (fun c17 => ?_) (fun c17 => ?_)
      · refine lv_iload_n hx hb dX0_classes_39 rfl (lv_at hl 1 rfl) ?_
        exact x_iret C hW hr hlocks ⟨by unfold xq_classes; rw [hbk, if_neg (by decide), show i = 12 by omega], hF, rfl⟩ dX0_classes_40
      · refine lv_aload_n hx hb dX0_classes_20 rfl (lv_at hl 2 rfl) ?_
        refine x_get C hW 6 (by decide) q41 rfl rfl dX0_classes_21 ?_
        refine lv_iload_n hx hb dX0_classes_24 rfl (lv_at hl 0 rfl) ?_
        refine x_ld_L C hW (by omega) dX0_classes_25 ?_
        refine lv_iload_n hx hb dX0_classes_26 rfl (lv_at hl 0 rfl) ?_
        refine n_icmp_ne (tgt := 33) hx hb (by have := hF.Llt (show i < 12 by omega); omega) (by omega) dX0_classes_27 (by decide) (fun c27 => ?_) (fun c27 => ?_)
        · have hri : ¬ u.r i = i := fun z => c27 ((hF.root (by omega)).mpr z)
          refine lv_iinc (lv' := [(2, _), (1, _), (0, _)]) hx hb dX0_classes_33 hl (k := 0) rfl (nI_1 _) (by decide) rfl (fun ls hl => ?_)
          refine lv_goto (tgt := 14) hx hb dX0_classes_36 (by decide) ?_
          have ec : cntB (i + 1) (fun x => decide (u.r x = x)) = cntB i (fun x => decide (u.r x = x)) + 0 := by
            show cntB i _ + (if decide (u.r i = i) then 1 else 0) = _
            simp [hri]
          exact ih (i + 1) H locs ls (by omega) (by omega) hbk hW (by rw [ec]; exact hl)
        · have hri : u.r i = i := (hF.root (by omega)).mp c27
          refine lv_iinc (lv' := [(1, _), (2, _), (0, _)]) hx hb dX0_classes_30 hl (k := 1) rfl (nI_1 _) (by decide) rfl (fun ls hl => ?_)
          refine lv_iinc (lv' := [(2, _), (1, _), (0, _)]) hx hb dX0_classes_33 hl (k := 1) rfl (nI_1 _) (by decide) rfl (fun ls hl => ?_)
          refine lv_goto (tgt := 14) hx hb dX0_classes_36 (by decide) ?_
          have ec : cntB (i + 1) (fun x => decide (u.r x = x)) = cntB i (fun x => decide (u.r x = x)) + 1 := by
            show cntB i _ + (if decide (u.r i = i) then 1 else 0) = _
            simp [hri]
          exact ih (i + 1) H locs ls (by omega) (by omega) hbk hW (by rw [ec]; exact lv_sub hl [0, 1, 2] rfl)
  refine lv_aload_n hx hb dX0_classes_0 rfl (lv_at hl 0 rfl) ?_
  refine x_get C hW 17 (by decide) q52 rfl rfl dX0_classes_1 ?_
  refine b_if_eq (tgt := 10) hx hb dX0_classes_4 (by decide) (fun c4 => ?_) (fun c4 => ?_)
  · refine lv_iconst (v := nI 0) hx hb dX0_classes_10 (by decide) ?_
    refine lv_istore_n (lv' := [(1, _), (0, _)]) hx hb dX0_classes_11 rfl hl (by decide) rfl (fun ls hl => ?_)
    refine lv_iconst (v := nI 0) hx hb dX0_classes_12 (by decide) ?_
    refine lv_istore_n (lv' := [(2, _), (1, _), (0, _)]) hx hb dX0_classes_13 rfl hl (by decide) rfl (fun ls hl => ?_)
    exact loop 13 0 s.heap [] ls (by omega) (Nat.zero_le _) c4 hW hl
  · refine lv_bipush (v := -3) hx hb dX0_classes_7 (by decide) ?_
    exact x_iret C hW hr hlocks ⟨(if_pos c4).symm, hF, rfl⟩ dX0_classes_9
set_option maxHeartbeats 4000000 in
set_option maxRecDepth 100000 in
/-- restart() -/
theorem mX_restart (l : Launch) (D : va_G) (h : Nat → Nat) (dA : Nat → ClassId) (L : Nat → Nat) (u : XSt) (hS : XSr u) : Met l yX0_restart (ws_ yX0_restart cX0_restart 2 none) (rmN 0) (XPc D h dA L u []) (XQv D h dA (fun L' u' => Forest L' u'.r ∧ XInit u')) 0 0 (AX h) := by
  refine x_met rfl (Nat.le_of_ble_eq_true rfl) ?_
  intro p e s m below meth c ls C hr hlocks hW hl
  have hx := C.1
  have hb := C.2.1
  have hl : lv_has ls 2 [(0, .ref (h 0))] := hl
  have loop : ∀ (n i : Nat) (L : Nat → Nat) (v : XSt) (H : Heap) (locs : List Loc) (ls : Array Slot), 12 < n + i → i ≤ 12 → XW D h dA L v s.heap H locs → lv_has ls 2 [(1, .int (nI i)), (0, .ref (h 0))] → v.sc = 0 → v.su = 0 → v.bk = false → v.rd = 0 → v.jc = 0 → (∀ x, x < i → v.st x = 0 ∧ v.wa x = 0 ∧ L x = x) → XSr v → W p l e (rmN 0) s m (.ref (h 0) :: []).toArray below meth c H locs 0 0 (MQ below (XQv D h dA (fun L' u' => Forest L' u'.r ∧ XInit u')) (.ref (h 0) :: []).toArray s 0 0 (AX h)) (F0 m 27 ls []) := by
    intro n
    induction n with
    | zero => intro i L v H locs ls hn hi; exact absurd hn (by omega)
    | succ n ih =>
      intro i L v H locs ls hn hi hW hl h1 h2 h3 h4 h5 h6 hS
      refine lv_iload_n hx hb dX0_restart_27 rfl (lv_at hl 0 rfl) ?_
      refine lv_bipush (v := nI 12) hx hb dX0_restart_28 (by decide) ?_
      refine n_icmp_ge (tgt := 68) hx hb (by omega) (by omega) dX0_restart_30 (by decide) (fun c30 => ?_) (fun c30 => ?_)
      · have hi12 : i = 12 := by omega
        have hW := hW.s_r (fun x => x)
        exact x_vret C hW hr hlocks ⟨forest_id (fun x hx => (h6 x (by omega)).2.2), h1, h2, h3, h4, h5, fun x hx => ⟨(h6 x (by omega)).1, (h6 x (by omega)).2.1⟩, fun _ => rfl, hS⟩ dX0_restart_68
      · refine lv_aload_n hx hb dX0_restart_33 rfl (lv_at hl 1 rfl) ?_
        refine x_get C hW 6 (by decide) q41 rfl rfl dX0_restart_34 ?_
        refine lv_iload_n hx hb dX0_restart_37 rfl (lv_at hl 0 rfl) ?_
        refine lv_iload_n hx hb dX0_restart_38 rfl (lv_at hl 0 rfl) ?_
        refine n_i2b hx hb (by omega) dX0_restart_39 ?_
        refine x_st_L C hW (by omega) (by omega) dX0_restart_40 (fun H locs hW => ?_)
        refine lv_aload_n hx hb dX0_restart_41 rfl (lv_at hl 1 rfl) ?_
        refine x_get C hW 7 (by decide) q42 rfl rfl dX0_restart_42 ?_
        refine lv_iload_n hx hb dX0_restart_45 rfl (lv_at hl 0 rfl) ?_
        refine lv_iconst (v := 1) hx hb dX0_restart_46 (by decide) ?_
        refine x_st_wt C hW (by omega) dX0_restart_47 (fun H locs hW => ?_)
        refine lv_aload_n hx hb dX0_restart_48 rfl (lv_at hl 1 rfl) ?_
        refine x_get C hW 8 (by decide) q43 rfl rfl dX0_restart_49 ?_
        refine lv_iload_n hx hb dX0_restart_52 rfl (lv_at hl 0 rfl) ?_
        refine lv_iconst (v := nI 0) hx hb dX0_restart_53 (by decide) ?_
        refine x_st_st C hW (by omega) (by decide) dX0_restart_54 (fun H locs hW => ?_)
        refine lv_aload_n hx hb dX0_restart_55 rfl (lv_at hl 1 rfl) ?_
        refine x_get C hW 12 (by decide) q47 rfl rfl dX0_restart_56 ?_
        refine lv_iload_n hx hb dX0_restart_59 rfl (lv_at hl 0 rfl) ?_
        refine lv_lconst (v := 0) hx hb dX0_restart_60 (by decide) ?_
        refine x_st_wa C hW (by omega) dX0_restart_61 (fun H locs hW => ?_)
        refine lv_iinc (lv' := [(1, _), (0, _)]) hx hb dX0_restart_62 hl (k := 0) rfl (nI_1 _) (by decide) rfl (fun ls hl => ?_)
        refine lv_goto (tgt := 27) hx hb dX0_restart_65 (by decide) ?_
        refine ih (i + 1) _ _ H locs ls (by omega) (by omega) hW hl h1 h2 h3 h4 h5 (fun x hx => ?_) ⟨hS.1, up_le hS.2.1 (by decide), hS.2.2⟩
        rcases Nat.lt_succ_iff_lt_or_eq.mp hx with q | q
        · refine ⟨?_, ?_, ?_⟩
          · show va_up v.st i 0 x = 0
            simp [va_up, Nat.ne_of_lt q, (h6 x q).1]
          · show va_up v.wa i 0 x = 0
            simp [va_up, Nat.ne_of_lt q, (h6 x q).2.1]
          · simp [va_up, Nat.ne_of_lt q, (h6 x q).2.2]
        · subst q
          refine ⟨?_, ?_, ?_⟩
          · show va_up v.st x 0 x = 0
            simp [va_up]
          · show va_up v.wa x 0 x = 0
            simp [va_up]
          · simp [va_up]
  refine lv_aload_n hx hb dX0_restart_0 rfl (lv_at hl 0 rfl) ?_
  refine lv_iconst (v := nI 0) hx hb dX0_restart_1 (by decide) ?_
  refine x_put_sc C hW q35 dX0_restart_2 (fun H locs hW => ?_)
  refine lv_aload_n hx hb dX0_restart_5 rfl (lv_at hl 0 rfl) ?_
  refine lv_lconst (v := 0) hx hb dX0_restart_6 (by decide) ?_
  refine x_put_su C hW q40 dX0_restart_7 (fun H locs hW => ?_)
  refine lv_aload_n hx hb dX0_restart_10 rfl (lv_at hl 0 rfl) ?_
  refine lv_iconst (v := bI false) hx hb dX0_restart_11 (by decide) ?_
  refine x_put_bk C hW q52 dX0_restart_12 (fun H locs hW => ?_)
  refine lv_aload_n hx hb dX0_restart_15 rfl (lv_at hl 0 rfl) ?_
  refine lv_lconst (v := 0) hx hb dX0_restart_16 (by decide) ?_
  refine x_put_rd C hW q51 dX0_restart_17 (fun H locs hW => ?_)
  refine lv_aload_n hx hb dX0_restart_20 rfl (lv_at hl 0 rfl) ?_
  refine lv_iconst (v := nI 0) hx hb dX0_restart_21 (by decide) ?_
  refine x_put_jc C hW q48 dX0_restart_22 (fun H locs hW => ?_)
  refine lv_iconst (v := nI 0) hx hb dX0_restart_25 (by decide) ?_
  refine lv_istore_n (lv' := [(1, _), (0, _)]) hx hb dX0_restart_26 rfl hl (by decide) rfl (fun ls hl => ?_)
  exact loop 13 0 L _ H locs ls (by omega) (Nat.zero_le _) hW hl rfl rfl rfl rfl rfl (fun x hx => absurd hx (Nat.not_lt_zero _)) ⟨Nat.zero_le _, hS.2⟩
set_option maxHeartbeats 4000000 in
set_option maxRecDepth 100000 in
/-- clear() -/
theorem mX_clear (l : Launch) (D : va_G) (h : Nat → Nat) (dA : Nat → ClassId) (L : Nat → Nat) (u : XSt) (hS : XSr u) : Met l yX0_clear (ws_ yX0_clear cX0_clear 2 (some .int)) (rmN 1) (XPc D h dA L u []) (XQi D h dA (fun r L' u' => r = nI u.sc ∧ Forest L' u'.r ∧ XInit u')) 0 0 (AX h) := by
  refine x_met rfl (Nat.le_of_ble_eq_true rfl) ?_
  intro p e s m below meth c ls C hr hlocks hW hl
  have hx := C.1
  have hb := C.2.1
  have hl : lv_has ls 2 [(0, .ref (h 0))] := hl
  refine lv_aload_n hx hb dX0_clear_0 rfl (lv_at hl 0 rfl) ?_
  refine x_get C hW 0 (by decide) q35 rfl rfl dX0_clear_1 ?_
  refine lv_istore_n (lv' := [(1, _), (0, _)]) hx hb dX0_clear_4 rfl hl (by decide) rfl (fun ls hl => ?_)
  refine lv_aload_n hx hb dX0_clear_5 rfl (lv_at hl 1 rfl) ?_
  refine x_callv C hW (As := []) (rest := []) (mX_restart l D h dA L _ hS) cbX_restart ⟨by decide, by decide⟩ ⟨rfl, rfl⟩ ⟨Nat.zero_le _, Nat.zero_le _⟩ rfl hl.1 rfl (Nat.le_of_ble_eq_true rfl) dX0_clear_6 (fun L u' H locs hp hW => ?_)
  refine lv_iload_n hx hb dX0_clear_9 rfl (lv_at hl 0 rfl) ?_
  exact x_iret C hW hr hlocks ⟨rfl, hp⟩ dX0_clear_10
end
section
/-! what DataflowStoreModel's methods do to its state, as plain functions -/
def ys_b1 (w : YSt) (p : Nat) (v : Int32) : YSt := if w.ip p = true ∨ (w.ii p = true ∧ ¬ w.iv p = v) then w.s_bk true else w
def ys_b2 (w : YSt) (p : Nat) : YSt := if w.ii p = true then w else w.s_fr true
def ys_b3 (w : YSt) (p : Nat) (v : Int32) : YSt := (w.s_ii (va_up w.ii p true)).s_iv (va_up w.iv p v)
def ys_beInt (w : YSt) (x : Nat) (v : Int32) : YSt := ys_b3 (ys_b2 (ys_b1 w (w.le x) v) (w.le x)) (w.le x) v
def ys_rel (le : Nat → Nat) (i p q : Nat) : Nat → Nat := fun j => if j < i ∧ le j = q then p else le j
def ys_j1 (w : YSt) (p q : Nat) : YSt := (w.s_fr true).s_le (ys_rel w.le 12 p q)
def ys_j2 (w : YSt) (p q : Nat) : YSt := if w.ii q = true then ys_beInt w p (w.iv q) else w
def ys_j4 (w : YSt) (p q : Nat) : YSt := if w.ip p = true then w else ((w.s_ip (va_up w.ip p true)).s_pa (va_up w.pa p (w.pa q))).s_pb (va_up w.pb p (w.pb q))
def ys_p1 (w : YSt) (p : Nat) : YSt := if w.ii p = true then w.s_bk true else w
def ys_j3 (w : YSt) (p q : Nat) : YSt := if w.ip q = true then ys_j4 (ys_p1 w p) p q else w
def ys_joinR (w : YSt) (p q : Nat) : YSt := if p = q then w else ys_j3 (ys_j2 (ys_j1 w p q) p q) p q
def ys_join (w : YSt) (x y : Nat) : YSt := if w.le y ≤ w.le x then ys_joinR w (w.le y) (w.le x) else ys_joinR w (w.le x) (w.le y)
def ys_pnew (w : YSt) (p y z : Nat) : YSt := (((w.s_fr true).s_ip (va_up w.ip p true)).s_pa (va_up w.pa p y)).s_pb (va_up w.pb p z)
def ys_p2 (w : YSt) (x y z : Nat) : YSt := ys_join w (w.pb (w.le x)) z
def ys_p3 (w : YSt) (p x y z : Nat) : YSt := if w.ip p = true then ys_p2 (ys_join w (w.pa p) y) x y z else ys_pnew w p y z
def ys_bePair (w : YSt) (x y z : Nat) : YSt := ys_p3 (ys_p1 w (w.le x)) (w.le x) x y z
def ys_cl (y : Int32) : Nat := if isV y = true then vN y else 0
def ys_ready (w : YSt) (i : Nat) : Bool := if w.kd i < 3 then true else if w.kd i = 5 ∨ w.kd i = 6 then w.ip (w.le (vN (w.ay i))) else (w.ii (w.le (vN (w.ay i))) && w.ii (w.le (vN (w.az i))))
def ys_apply (w : YSt) (i : Nat) : YSt :=
  if w.kd i = 0 then ys_join w (w.ax i) (vN (w.ay i))
  else if w.kd i = 1 then ys_beInt w (w.ax i) (w.ay i)
  else if w.kd i = 2 then ys_bePair w (w.ax i) (vN (w.ay i)) (vN (w.az i))
  else if w.kd i = 3 then ys_beInt w (w.ax i) (w.iv (w.le (ys_cl (w.ay i))) + w.iv (w.le (ys_cl (w.az i))))
  else if w.kd i = 4 then ys_beInt w (w.ax i) (w.iv (w.le (ys_cl (w.ay i))) * w.iv (w.le (ys_cl (w.az i))))
  else if w.kd i = 5 then ys_join w (w.ax i) (w.pa (w.le (ys_cl (w.ay i))))
  else if w.kd i = 6 then ys_join w (w.ax i) (w.pb (w.le (ys_cl (w.ay i))))
  else ys_beInt w (w.ax i) (if w.iv (w.le (ys_cl (w.ay i))) = w.iv (w.le (ys_cl (w.az i))) then 1 else 0)
def ys_one (w : YSt) (i : Nat) : YSt := if w.bk = true then w else if ys_ready w i = true then ys_apply w i else w
def ys_pass (w : YSt) : Nat → YSt
  | 0 => w
  | k + 1 => ys_one (ys_pass w k) k
def ys_go (w : YSt) : YSt := if w.fr = true ∧ w.bk = false then ys_pass (w.s_fr false) w.n else w
def ys_rounds (w : YSt) : Nat → YSt
  | 0 => w
  | k + 1 => ys_go (ys_rounds w k)
def ys_init (w : YSt) (i : Nat) : YSt := ((w.s_le (fun j => if j < i then j else w.le j)).s_ii (fun j => if j < i then false else w.ii j)).s_ip (fun j => if j < i then false else w.ip j)
def ys_follow (w : YSt) : YSt := ys_rounds ((ys_init w 12).s_fr true) 40
def yf (k x y z : Int32) : Bool := !(decide (k < 0)) && (decide (k ≤ 7) && (isV x && ((decide (k = 1) || isV y) && (decide (k = 0) || (decide (k = 1) || (decide (k = 5) || (decide (k = 6) || isV z)))))))
def ys_add (w : YSt) (k x : Nat) (y z : Int32) : YSt := ((((w.s_kd (va_up w.kd w.n k)).s_ax (va_up w.ax w.n x)).s_ay (va_up w.ay w.n y)).s_az (va_up w.az w.n z)).s_n (w.n + 1)
def ys_tell (w : YSt) (k x y z : Int32) : YSt := if w.bk = true then w else if w.n = 40 then w else if yf k x y z = true then ys_follow (ys_add w (vN k) (vN x) y z) else w
def yr_tell (w : YSt) (k x y z : Int32) : Int32 := if w.bk = true then -3 else if w.n = 40 then -2 else if yf k x y z = true then (if (ys_tell w k x y z).bk = true then -3 else nI (ys_tell w k x y z).n) else -1
def yq_state (w : YSt) (x : Int32) : Int32 := if w.bk = true then -3 else if isV x = true then (if w.ii (w.le (vN x)) = true then 1 else if w.ip (w.le (vN x)) = true then 2 else 0) else -1
def yq_value (w : YSt) (x : Int32) : Int32 := if w.bk = false ∧ isV x = true ∧ w.ii (w.le (vN x)) = true then w.iv (w.le (vN x)) else 0
def yq_linked (w : YSt) (x y : Int32) : Bool := !w.bk && (isV x && (isV y && decide (w.le (vN x) = w.le (vN y))))
def yq_part (w : YSt) (x pl : Int32) : Int32 := if w.bk = false ∧ isV x = true ∧ w.ip (w.le (vN x)) = true ∧ ¬ pl < 0 ∧ pl ≤ 1 then (if pl = 0 then nI (w.le (w.pa (w.le (vN x)))) else nI (w.le (w.pb (w.le (vN x))))) else -1
def yq_waiting (w : YSt) : Int32 := if w.bk = true then -3 else nI (cntB w.n (fun i => !(ys_ready w i)))
def yq_classes (w : YSt) : Int32 := if w.bk = true then -3 else nI (cntB 12 (fun x => decide (w.le x = x)))
def YSr (w : YSt) : Prop := w.n ≤ 40 ∧ (∀ x, w.le x < 12) ∧ (∀ x, w.pa x < 12) ∧ (∀ x, w.pb x < 12) ∧ (∀ i, w.kd i < 8) ∧ (∀ i, w.ax i < 12) ∧ (∀ i, i < w.n → (w.kd i ≠ 1 → isV (w.ay i) = true) ∧ (w.kd i = 2 ∨ w.kd i = 3 ∨ w.kd i = 4 ∨ w.kd i = 7 → isV (w.az i) = true))
theorem isV_eq {x : Int32} (h : isV x = true) : x = nI (vN x) ∧ vN x < 12 := by
  obtain ⟨k, hk, rfl⟩ := isV_of h
  rw [vN, cl12 hk]
  exact ⟨rfl, hk⟩
theorem ys_cl_lt (y : Int32) : ys_cl y < 12 := by
  unfold ys_cl
  split
  · exact (isV_eq (by assumption)).2
  · decide
theorem YSr.le {w : YSt} (h : YSr w) (k : Nat) : w.le k < 12 := h.2.1 k
theorem YSr.pa {w : YSt} (h : YSr w) (k : Nat) : w.pa k < 12 := h.2.2.1 k
theorem YSr.pb {w : YSt} (h : YSr w) (k : Nat) : w.pb k < 12 := h.2.2.2.1 k
theorem YSr.ax {w : YSt} (h : YSr w) (k : Nat) : w.ax k < 12 := h.2.2.2.2.2.1 k
theorem YSr.kd31 {w : YSt} (h : YSr w) (k : Nat) : w.kd k < 2 ^ 31 := by have := h.2.2.2.2.1 k; omega
theorem YSr.le31 {w : YSt} (h : YSr w) (k : Nat) : w.le k < 2 ^ 31 := by have := h.2.1 k; omega
theorem YSr.ay {w : YSt} (h : YSr w) {i : Nat} (hi : i < w.n) (hk : w.kd i ≠ 1) : w.ay i = nI (vN (w.ay i)) ∧ vN (w.ay i) < 12 := isV_eq ((h.2.2.2.2.2.2 i hi).1 hk)
theorem YSr.az {w : YSt} (h : YSr w) {i : Nat} (hi : i < w.n) (hk : w.kd i = 2 ∨ w.kd i = 3 ∨ w.kd i = 4 ∨ w.kd i = 7) : w.az i = nI (vN (w.az i)) ∧ vN (w.az i) < 12 := isV_eq ((h.2.2.2.2.2.2 i hi).2 hk)
theorem YSr.p1 {w : YSt} (h : YSr w) (p : Nat) : YSr (ys_p1 w p) := by
  unfold ys_p1
  split
  · exact h
  · exact h
theorem YSr.b1 {w : YSt} (h : YSr w) (p : Nat) (v : Int32) : YSr (ys_b1 w p v) := by
  unfold ys_b1
  split
  · exact h
  · exact h
theorem YSr.b2 {w : YSt} (h : YSr w) (p : Nat) : YSr (ys_b2 w p) := by
  unfold ys_b2
  split
  · exact h
  · exact h
theorem YSr.b3 {w : YSt} (h : YSr w) (p : Nat) (v : Int32) : YSr (ys_b3 w p v) := h
theorem YSr.beInt {w : YSt} (h : YSr w) (x : Nat) (v : Int32) : YSr (ys_beInt w x v) := ((h.b1 _ v).b2 _).b3 _ v
theorem YSr.j1 {w : YSt} (h : YSr w) {p q : Nat} (hp : p < 12) : YSr (ys_j1 w p q) := by
  obtain ⟨h0, h1, h2⟩ := h
  refine ⟨h0, fun x => ?_, h2⟩
  show ys_rel w.le 12 p q x < 12
  unfold ys_rel
  split
  · exact hp
  · exact h1 x
theorem YSr.j2 {w : YSt} (h : YSr w) (p q : Nat) : YSr (ys_j2 w p q) := by
  unfold ys_j2
  split
  · exact h.beInt _ _
  · exact h
theorem YSr.j4 {w : YSt} (h : YSr w) (p q : Nat) : YSr (ys_j4 w p q) := by
  unfold ys_j4
  split
  · exact h
  · obtain ⟨h0, h1, h2, h3, h4⟩ := h
    exact ⟨h0, h1, up_lt h2 (h2 q), up_lt h3 (h3 q), h4⟩
theorem YSr.j3 {w : YSt} (h : YSr w) (p q : Nat) : YSr (ys_j3 w p q) := by
  unfold ys_j3
  split
  · exact (h.p1 p).j4 p q
  · exact h
theorem YSr.joinR {w : YSt} (h : YSr w) {p q : Nat} (hp : p < 12) : YSr (ys_joinR w p q) := by
  unfold ys_joinR
  split
  · exact h
  · exact ((h.j1 hp).j2 p q).j3 p q
theorem YSr.join {w : YSt} (h : YSr w) (x y : Nat) : YSr (ys_join w x y) := by
  unfold ys_join
  split
  · exact h.joinR (h.le y)
  · exact h.joinR (h.le x)
theorem YSr.bePair {w : YSt} (h : YSr w) {x y z : Nat} (hy : y < 12) (hz : z < 12) : YSr (ys_bePair w x y z) := by
  unfold ys_bePair ys_p3
  have h := h.p1 (w.le x)
  generalize ys_p1 w (w.le x) = v at h ⊢
  split
  · exact (h.join _ _).join _ _
  · obtain ⟨h0, h1, h2, h3, h4⟩ := h
    exact ⟨h0, h1, up_lt h2 hy, up_lt h3 hz, h4⟩
theorem YSr.apply {w : YSt} (h : YSr w) {i : Nat} (hi : i < w.n) : YSr (ys_apply w i) := by
  unfold ys_apply
  split
  · exact h.join _ _
  · split
    · exact h.beInt _ _
    · split
      · rename_i e
        exact h.bePair (h.ay hi (by omega)).2 (h.az hi (Or.inl e)).2
      · split
        · exact h.beInt _ _
        · split
          · exact h.beInt _ _
          · split
            · exact h.join _ _
            · split
              · exact h.join _ _
              · exact h.beInt _ _
/-! n and the statements stay -/
def YSame (w w' : YSt) : Prop := w'.n = w.n ∧ w'.kd = w.kd ∧ w'.ax = w.ax ∧ w'.ay = w.ay ∧ w'.az = w.az
theorem YSame.rf (w : YSt) : YSame w w := ⟨rfl, rfl, rfl, rfl, rfl⟩
theorem YSame.tr {a b c : YSt} (h : YSame a b) (h2 : YSame b c) : YSame a c := ⟨h2.1.trans h.1, h2.2.1.trans h.2.1, h2.2.2.1.trans h.2.2.1, h2.2.2.2.1.trans h.2.2.2.1, h2.2.2.2.2.trans h.2.2.2.2⟩
theorem same_p1 (w : YSt) (p : Nat) : YSame w (ys_p1 w p) := by
  unfold ys_p1
  split
  · exact ⟨rfl, rfl, rfl, rfl, rfl⟩
  · exact YSame.rf w
theorem same_b1 (w : YSt) (p : Nat) (v : Int32) : YSame w (ys_b1 w p v) := by
  unfold ys_b1
  split
  · exact ⟨rfl, rfl, rfl, rfl, rfl⟩
  · exact YSame.rf w
theorem same_b2 (w : YSt) (p : Nat) : YSame w (ys_b2 w p) := by
  unfold ys_b2
  split
  · exact YSame.rf w
  · exact ⟨rfl, rfl, rfl, rfl, rfl⟩
theorem same_b3 (w : YSt) (p : Nat) (v : Int32) : YSame w (ys_b3 w p v) := ⟨rfl, rfl, rfl, rfl, rfl⟩
theorem same_beInt (w : YSt) (x : Nat) (v : Int32) : YSame w (ys_beInt w x v) := ((same_b1 w _ v).tr (same_b2 _ _)).tr (same_b3 _ _ v)
theorem same_j1 (w : YSt) (p q : Nat) : YSame w (ys_j1 w p q) := ⟨rfl, rfl, rfl, rfl, rfl⟩
theorem same_j2 (w : YSt) (p q : Nat) : YSame w (ys_j2 w p q) := by
  unfold ys_j2
  split
  · exact same_beInt _ _ _
  · exact YSame.rf w
theorem same_j4 (w : YSt) (p q : Nat) : YSame w (ys_j4 w p q) := by
  unfold ys_j4
  split
  · exact YSame.rf w
  · exact ⟨rfl, rfl, rfl, rfl, rfl⟩
theorem same_j3 (w : YSt) (p q : Nat) : YSame w (ys_j3 w p q) := by
  unfold ys_j3
  split
  · exact (same_p1 w p).tr (same_j4 _ _ _)
  · exact YSame.rf w
theorem same_joinR (w : YSt) (p q : Nat) : YSame w (ys_joinR w p q) := by
  unfold ys_joinR
  split
  · exact YSame.rf w
  · exact ((same_j1 w p q).tr (same_j2 _ _ _)).tr (same_j3 _ _ _)
theorem same_join (w : YSt) (x y : Nat) : YSame w (ys_join w x y) := by
  unfold ys_join
  split
  · exact same_joinR _ _ _
  · exact same_joinR _ _ _
theorem same_bePair (w : YSt) (x y z : Nat) : YSame w (ys_bePair w x y z) := by
  unfold ys_bePair ys_p3
  have h := same_p1 w (w.le x)
  generalize ys_p1 w (w.le x) = v at h ⊢
  refine h.tr ?_
  split
  · exact (same_join _ _ _).tr (same_join _ _ _)
  · exact ⟨rfl, rfl, rfl, rfl, rfl⟩
theorem same_apply (w : YSt) (i : Nat) : YSame w (ys_apply w i) := by
  unfold ys_apply
  split
  · exact same_join _ _ _
  · split
    · exact same_beInt _ _ _
    · split
      · exact same_bePair _ _ _ _
      · split
        · exact same_beInt _ _ _
        · split
          · exact same_beInt _ _ _
          · split
            · exact same_join _ _ _
            · split
              · exact same_join _ _ _
              · exact same_beInt _ _ _
theorem same_one (w : YSt) (i : Nat) : YSame w (ys_one w i) := by
  unfold ys_one
  split
  · exact YSame.rf w
  · split
    · exact same_apply _ _
    · exact YSame.rf w
theorem same_pass (w : YSt) (k : Nat) : YSame w (ys_pass w k) := by
  induction k with
  | zero => exact YSame.rf w
  | succ k ih => exact ih.tr (same_one _ _)
theorem same_fr (w : YSt) (b : Bool) : YSame w (w.s_fr b) := ⟨rfl, rfl, rfl, rfl, rfl⟩
theorem same_go (w : YSt) : YSame w (ys_go w) := by
  unfold ys_go
  split
  · exact (same_fr w false).tr (same_pass _ _)
  · exact YSame.rf w
theorem same_rounds (w : YSt) (k : Nat) : YSame w (ys_rounds w k) := by
  induction k with
  | zero => exact YSame.rf w
  | succ k ih => exact ih.tr (same_go _)
theorem YSr.one {w : YSt} (h : YSr w) {i : Nat} (hi : i < w.n) : YSr (ys_one w i) := by
  unfold ys_one
  split
  · exact h
  · split
    · exact h.apply hi
    · exact h
theorem YSr.pass {w : YSt} (h : YSr w) (k : Nat) (hk : k ≤ w.n) : YSr (ys_pass w k) := by
  induction k with
  | zero => exact h
  | succ k ih => exact (ih (by omega)).one (by rw [(same_pass w k).1]; omega)
theorem YSr.go {w : YSt} (h : YSr w) : YSr (ys_go w) := by
  unfold ys_go
  split
  · exact YSr.pass (w := w.s_fr false) h _ (Nat.le_refl _)
  · exact h
theorem YSr.rounds {w : YSt} (h : YSr w) (k : Nat) : YSr (ys_rounds w k) := by
  induction k with
  | zero => exact h
  | succ k ih => exact ih.go
theorem YSr.init {w : YSt} (h : YSr w) (i : Nat) (hi : i ≤ 12) : YSr (ys_init w i) := by
  obtain ⟨h0, h1, h2⟩ := h
  refine ⟨h0, fun x => ?_, h2⟩
  show (if x < i then x else w.le x) < 12
  split
  · omega
  · exact h1 x
theorem pass_stop {w : YSt} {i : Nat} (hb : (ys_pass w i).bk = true) : ∀ k, i ≤ k → ys_pass w k = ys_pass w i := by
  intro k
  induction k with
  | zero => intro h; rw [show i = 0 by omega]
  | succ k ih =>
    intro h
    by_cases e : i = k + 1
    · rw [e]
    · have h1 := ih (by omega)
      show ys_one (ys_pass w k) k = _
      rw [h1]
      unfold ys_one
      rw [if_pos hb]
theorem rounds_stop {w : YSt} {i : Nat} (hb : ¬ ((ys_rounds w i).fr = true ∧ (ys_rounds w i).bk = false)) : ∀ k, i ≤ k → ys_rounds w k = ys_rounds w i := by
  intro k
  induction k with
  | zero => intro h; rw [show i = 0 by omega]
  | succ k ih =>
    intro h
    by_cases e : i = k + 1
    · rw [e]
    · have h1 := ih (by omega)
      show ys_go (ys_rounds w k) = _
      rw [h1]
      unfold ys_go
      rw [if_neg hb]
theorem init_0 (w : YSt) : ys_init w 0 = w := by
  have e1 : (fun j => if j < 0 then j else w.le j) = w.le := by funext j; simp
  have e2 : (fun j => if j < 0 then false else w.ii j) = w.ii := by funext j; simp
  have e3 : (fun j => if j < 0 then false else w.ip j) = w.ip := by funext j; simp
  unfold ys_init
  rw [e1, e2, e3]
  rfl
theorem init_s (w : YSt) (i : Nat) : (((ys_init w i).s_le (va_up (ys_init w i).le i i)).s_ii (va_up (ys_init w i).ii i false)).s_ip (va_up (ys_init w i).ip i false) = ys_init w (i + 1) := by
  have e1 : va_up (fun j => if j < i then j else w.le j) i i = fun j => if j < i + 1 then j else w.le j := by
    funext j
    unfold va_up
    by_cases h : j = i
    · subst h; simp
    · by_cases h2 : j < i
      · simp [h, h2, show j < i + 1 by omega]
      · simp [h, h2, show ¬ j < i + 1 by omega]
  have e2 : ∀ f : Nat → Bool, va_up (fun j => if j < i then false else f j) i false = fun j => if j < i + 1 then false else f j := by
    intro f
    funext j
    unfold va_up
    by_cases h : j = i
    · subst h; simp
    · by_cases h2 : j < i
      · simp [h, h2, show j < i + 1 by omega]
      · simp [h, h2, show ¬ j < i + 1 by omega]
  show ((w.s_le (va_up (fun j => if j < i then j else w.le j) i i)).s_ii (va_up (fun j => if j < i then false else w.ii j) i false)).s_ip (va_up (fun j => if j < i then false else w.ip j) i false) = _
  rw [e1, e2, e2]
  rfl
theorem rel_0 (le : Nat → Nat) (p q : Nat) : ys_rel le 0 p q = le := by
  funext j
  simp [ys_rel]
theorem rel_t {le : Nat → Nat} {i p q : Nat} (h : le i = q) : va_up (ys_rel le i p q) i p = ys_rel le (i + 1) p q := by
  funext j
  unfold va_up ys_rel
  by_cases e : j = i
  · subst e; simp [h]
  · by_cases h2 : j < i
    · simp [e, h2, show j < i + 1 by omega]
    · simp [e, h2, show ¬ j < i + 1 by omega]
theorem rel_f {le : Nat → Nat} {i p q : Nat} (h : ¬ le i = q) : ys_rel le i p q = ys_rel le (i + 1) p q := by
  funext j
  unfold ys_rel
  by_cases e : j = i
  · subst e; simp [h]
  · by_cases h2 : j < i
    · simp [h2, show j < i + 1 by omega]
    · simp [h2, show ¬ j < i + 1 by omega]
theorem rel_at (le : Nat → Nat) (i p q : Nat) : ys_rel le i p q i = le i := by simp [ys_rel]
theorem w_topi {p : Program} {l : Launch} {e : Env} {R : Room} {s : State} {m : MethodId} {args : Array Value} {below : List Frame} {meth : Method} {c : Code} {H : Heap} {locs : List Loc} {cells slots : Nat} {Q : State → Prop} {pc : Nat} {ls : Array Slot} {rest : List Value} {v v' : Int32} (hv : v = v') (k : W p l e R s m args below meth c H locs cells slots Q (F0 m pc ls (.int v' :: rest))) : W p l e R s m args below meth c H locs cells slots Q (F0 m pc ls (.int v :: rest)) := by
  rw [hv]; exact k
end
section
set_option maxRecDepth 100000
set_option maxHeartbeats 4000000 in
set_option maxRecDepth 100000 in
/-- isVariable(x) -/
theorem mY_isVariable (l : Launch) (D : va_G) (h : Nat → Nat) (dA : Nat → ClassId) (w : YSt) (x : Int32) : Met l yX1_isVariable (ws_ yX1_isVariable cX1_isVariable 2 (some .boolean)) (rmN 0) (YPc D h dA w [.int x]) (YQi D h dA (fun r w' => r = bI (isV x) ∧ w' = w)) 0 0 (AY h) := by
  refine y_met rfl (Nat.le_of_ble_eq_true rfl) ?_
  intro p e s m below meth c ls C hr hlocks hW hl
  have hx := C.1
  have hb := C.2.1
  have hl : lv_has ls 2 [(0, .ref (h 0)), (1, .int x)] := hl
  refine lv_iload_n hx hb dX1_isVariable_0 rfl (lv_at hl 1 rfl) ?_
  refine lv_if_lt (tgt := 14) hx hb dX1_isVariable_1 (by decide) (fun c1 => ?_) (fun c1 => ?_)
  · refine lv_iconst (v := bI false) hx hb dX1_isVariable_14 (by decide) ?_
    exact y_zret C hW hr hlocks ⟨by simp [isV, c1], rfl⟩ dX1_isVariable_15
  · refine lv_iload_n hx hb dX1_isVariable_4 rfl (lv_at hl 1 rfl) ?_
    refine lv_bipush (v := 11) hx hb dX1_isVariable_5 (by decide) ?_
    refine lv_icmp_gt (tgt := 14) hx hb dX1_isVariable_7 (by decide) (fun c7 => ?_) (fun c7 => ?_)
    · refine lv_iconst (v := bI false) hx hb dX1_isVariable_14 (by decide) ?_
      exact y_zret C hW hr hlocks ⟨by simp [isV, c7], rfl⟩ dX1_isVariable_15
    · refine lv_iconst (v := bI true) hx hb dX1_isVariable_10 (by decide) ?_
      refine lv_goto (tgt := 15) hx hb dX1_isVariable_11 (by decide) ?_
      exact y_zret C hW hr hlocks ⟨by simp [isV, c1, c7], rfl⟩ dX1_isVariable_15
set_option maxHeartbeats 4000000 in
set_option maxRecDepth 100000 in
/-- beInt(x, a) -/
theorem mY_beInt (l : Launch) (D : va_G) (h : Nat → Nat) (dA : Nat → ClassId) (w : YSt) (x : Nat) (hx12 : x < 12) (a : Int32) (hS : YSr w) : Met l yX1_beInt (ws_ yX1_beInt cX1_beInt 4 none) (rmN 0) (YPc D h dA w [.int (nI x), .int a]) (YQv D h dA (fun w' => w' = ys_beInt w x a)) 0 0 (AY h) := by
  refine y_met rfl (Nat.le_of_ble_eq_true rfl) ?_
  intro p e s m below meth c ls C hr hlocks hW hl
  have hx := C.1
  have hb := C.2.1
  have hl : lv_has ls 4 [(0, .ref (h 0)), (1, .int (nI x)), (2, .int a)] := hl
  have hp12 := hS.le x
  have k54 : ∀ (v : YSt) (H : Heap) (locs : List Loc) (ls : Array Slot), ys_beInt w x a = ys_b3 v (w.le x) a → YW D h dA v s.heap H locs → lv_has ls 4 [(3, .int (nI (w.le x))), (0, .ref (h 0)), (1, .int (nI x)), (2, .int a)] → W p l e (rmN 0) s m (.ref (h 0) :: [.int (nI x), .int a]).toArray below meth c H locs 0 0 (MQ below (YQv D h dA (fun w' => w' = ys_beInt w x a)) (.ref (h 0) :: [.int (nI x), .int a]).toArray s 0 0 (AY h)) (F0 m 54 ls []) := by
    intro v H locs ls hv hW hl
    refine lv_aload_n hx hb dX1_beInt_54 rfl (lv_at hl 1 rfl) ?_
    refine y_get C hW 6 (by decide) q210 rfl rfl dX1_beInt_55 ?_
    refine lv_iload_n hx hb dX1_beInt_58 rfl (lv_at hl 0 rfl) ?_
    refine lv_iconst (v := bI true) hx hb dX1_beInt_59 (by decide) ?_
    refine y_st_ii C hW hp12 dX1_beInt_60 (fun H locs hW => ?_)
    refine lv_aload_n hx hb dX1_beInt_61 rfl (lv_at hl 1 rfl) ?_
    refine y_get C hW 7 (by decide) q211 rfl rfl dX1_beInt_62 ?_
    refine lv_iload_n hx hb dX1_beInt_65 rfl (lv_at hl 0 rfl) ?_
    refine lv_iload_n hx hb dX1_beInt_66 rfl (lv_at hl 3 rfl) ?_
    refine y_st_iv C hW hp12 dX1_beInt_67 (fun H locs hW => ?_)
    exact y_vret C hW hr hlocks hv.symm dX1_beInt_68
  have k40 : ∀ (v : YSt) (H : Heap) (locs : List Loc) (ls : Array Slot), ys_beInt w x a = ys_b3 (ys_b2 v (w.le x)) (w.le x) a → YW D h dA v s.heap H locs → lv_has ls 4 [(3, .int (nI (w.le x))), (0, .ref (h 0)), (1, .int (nI x)), (2, .int a)] → W p l e (rmN 0) s m (.ref (h 0) :: [.int (nI x), .int a]).toArray below meth c H locs 0 0 (MQ below (YQv D h dA (fun w' => w' = ys_beInt w x a)) (.ref (h 0) :: [.int (nI x), .int a]).toArray s 0 0 (AY h)) (F0 m 40 ls []) := by
    intro v H locs ls hv hW hl
    refine lv_aload_n hx hb dX1_beInt_40 rfl (lv_at hl 1 rfl) ?_
    refine y_get C hW 6 (by decide) q210 rfl rfl dX1_beInt_41 ?_
    refine lv_iload_n hx hb dX1_beInt_44 rfl (lv_at hl 0 rfl) ?_
    refine y_ld_ii C hW hp12 dX1_beInt_45 ?_
    refine b_if_ne (tgt := 54) hx hb dX1_beInt_46 (by decide) (fun c46 => ?_) (fun c46 => ?_)
    · exact k54 _ H locs ls (by rw [hv]; exact congrArg (fun z => ys_b3 z (w.le x) a) (if_pos c46)) hW hl
    · refine lv_aload_n hx hb dX1_beInt_49 rfl (lv_at hl 1 rfl) ?_
      refine lv_iconst (v := bI true) hx hb dX1_beInt_50 (by decide) ?_
      refine y_put_fr C hW q216 dX1_beInt_51 (fun H locs hW => ?_)
      exact k54 _ H locs ls (by rw [hv]; exact congrArg (fun z => ys_b3 z (w.le x) a) (if_neg (by rw [c46]; decide))) hW hl
  refine lv_aload_n hx hb dX1_beInt_0 rfl (lv_at hl 0 rfl) ?_
  refine y_get C hW 5 (by decide) q209 rfl rfl dX1_beInt_1 ?_
  refine lv_iload_n hx hb dX1_beInt_4 rfl (lv_at hl 1 rfl) ?_
  refine y_ld_le C hW hx12 dX1_beInt_5 ?_
  refine lv_istore_n (lv' := [(3, _), (0, _), (1, _), (2, _)]) hx hb dX1_beInt_6 rfl hl (by decide) rfl (fun ls hl => ?_)
  refine lv_aload_n hx hb dX1_beInt_7 rfl (lv_at hl 1 rfl) ?_
  refine y_get C hW 8 (by decide) q212 rfl rfl dX1_beInt_8 ?_
  refine lv_iload_n hx hb dX1_beInt_11 rfl (lv_at hl 0 rfl) ?_
  refine y_ld_ip C hW hp12 dX1_beInt_12 ?_
  refine b_if_ne (tgt := 35) hx hb dX1_beInt_13 (by decide) (fun c13 => ?_) (fun c13 => ?_)
  · refine lv_aload_n hx hb dX1_beInt_35 rfl (lv_at hl 1 rfl) ?_
    refine lv_iconst (v := bI true) hx hb dX1_beInt_36 (by decide) ?_
    refine y_put_bk C hW q215 dX1_beInt_37 (fun H locs hW => ?_)
    exact k40 _ H locs ls (congrArg (fun z => ys_b3 (ys_b2 z (w.le x)) (w.le x) a) (if_pos (Or.inl c13))) hW hl
  · refine lv_aload_n hx hb dX1_beInt_16 rfl (lv_at hl 1 rfl) ?_
    refine y_get C hW 6 (by decide) q210 rfl rfl dX1_beInt_17 ?_
    refine lv_iload_n hx hb dX1_beInt_20 rfl (lv_at hl 0 rfl) ?_
    refine y_ld_ii C hW hp12 dX1_beInt_21 ?_
    refine b_if_eq (tgt := 40) hx hb dX1_beInt_22 (by decide) (fun c22 => ?_) (fun c22 => ?_)
    · exact k40 _ s.heap [] ls (congrArg (fun z => ys_b3 (ys_b2 z (w.le x)) (w.le x) a) (if_neg (fun z => z.elim (fun z => by rw [c13] at z; exact absurd z (by decide)) (fun z => by rw [c22] at z; exact absurd z.1 (by decide))))) hW hl
    · refine lv_aload_n hx hb dX1_beInt_25 rfl (lv_at hl 1 rfl) ?_
      refine y_get C hW 7 (by decide) q211 rfl rfl dX1_beInt_26 ?_
      refine lv_iload_n hx hb dX1_beInt_29 rfl (lv_at hl 0 rfl) ?_
      refine y_ld_iv C hW hp12 dX1_beInt_30 ?_
      refine lv_iload_n hx hb dX1_beInt_31 rfl (lv_at hl 3 rfl) ?_
      refine lv_icmp_eq (tgt := 40) hx hb dX1_beInt_32 (by decide) (fun c32 => ?_) (fun c32 => ?_)
      · exact k40 _ s.heap [] ls (congrArg (fun z => ys_b3 (ys_b2 z (w.le x)) (w.le x) a) (if_neg (fun z => z.elim (fun z => by rw [c13] at z; exact absurd z (by decide)) (fun z => z.2 c32)))) hW hl
      · refine lv_aload_n hx hb dX1_beInt_35 rfl (lv_at hl 1 rfl) ?_
        refine lv_iconst (v := bI true) hx hb dX1_beInt_36 (by decide) ?_
        refine y_put_bk C hW q215 dX1_beInt_37 (fun H locs hW => ?_)
        exact k40 _ H locs ls (congrArg (fun z => ys_b3 (ys_b2 z (w.le x)) (w.le x) a) (if_pos (Or.inr ⟨c22, c32⟩))) hW hl
set_option maxHeartbeats 4000000 in
set_option maxRecDepth 100000 in
/-- join(x, y) -/
theorem mY_join (l : Launch) (D : va_G) (h : Nat → Nat) (dA : Nat → ClassId) (w : YSt) (x y : Nat) (hx12 : x < 12) (hy12 : y < 12) (hS : YSr w) : Met l yX1_join (ws_ yX1_join cX1_join 6 none) (rmN 1) (YPc D h dA w [.int (nI x), .int (nI y)]) (YQv D h dA (fun w' => w' = ys_join w x y)) 0 0 (AY h) := by
  refine y_met rfl (Nat.le_of_ble_eq_true rfl) ?_
  intro p e s m below meth c ls C hr hlocks hW hl
  have hx := C.1
  have hb := C.2.1
  have hl : lv_has ls 6 [(0, .ref (h 0)), (1, .int (nI x)), (2, .int (nI y))] := hl
  have key : ∀ (P Q : Nat) (ls : Array Slot), P < 12 → Q < 12 → ys_join w x y = ys_joinR w P Q → lv_has ls 6 [(4, .int (nI Q)), (3, .int (nI P)), (0, .ref (h 0))] → W p l e (rmN 1) s m (.ref (h 0) :: [.int (nI x), .int (nI y)]).toArray below meth c s.heap [] 0 0 (MQ below (YQv D h dA (fun w' => w' = ys_join w x y)) (.ref (h 0) :: [.int (nI x), .int (nI y)]).toArray s 0 0 (AY h)) (F0 m 63 ls []) := by
    intro P Q ls hP12 hQ12 hJ hl
    have k157 : ∀ (v : YSt) (H : Heap) (locs : List Loc) (ls : Array Slot), ys_join w x y = ys_j4 v P Q → YW D h dA v s.heap H locs → lv_has ls 6 [(5, .int (nI 12)), (4, .int (nI Q)), (3, .int (nI P)), (0, .ref (h 0))] → W p l e (rmN 1) s m (.ref (h 0) :: [.int (nI x), .int (nI y)]).toArray below meth c H locs 0 0 (MQ below (YQv D h dA (fun w' => w' = ys_join w x y)) (.ref (h 0) :: [.int (nI x), .int (nI y)]).toArray s 0 0 (AY h)) (F0 m 157 ls []) := by
      intro v H locs ls hv hW hl
      refine lv_aload_n hx hb dX1_join_157 rfl (lv_at hl 3 rfl) ?_
      refine y_get C hW 8 (by decide) q212 rfl rfl dX1_join_158 ?_
      refine lv_iload_n hx hb dX1_join_161 rfl (lv_at hl 2 rfl) ?_
      refine y_ld_ip C hW hP12 dX1_join_162 ?_
      refine b_if_ne (tgt := 199) hx hb dX1_join_163 (by decide) (fun c163 => ?_) (fun c163 => ?_)
      · exact y_vret C hW hr hlocks (by rw [hv]; exact (if_pos c163).symm) dX1_join_199
      · refine lv_aload_n hx hb dX1_join_166 rfl (lv_at hl 3 rfl) ?_
        refine y_get C hW 8 (by decide) q212 rfl rfl dX1_join_167 ?_
        refine lv_iload_n hx hb dX1_join_170 rfl (lv_at hl 2 rfl) ?_
        refine lv_iconst (v := bI true) hx hb dX1_join_171 (by decide) ?_
        refine y_st_ip C hW hP12 dX1_join_172 (fun H locs hW => ?_)
        refine lv_aload_n hx hb dX1_join_173 rfl (lv_at hl 3 rfl) ?_
        refine y_get C hW 9 (by decide) q213 rfl rfl dX1_join_174 ?_
        refine lv_iload_n hx hb dX1_join_177 rfl (lv_at hl 2 rfl) ?_
        refine lv_aload_n hx hb dX1_join_178 rfl (lv_at hl 3 rfl) ?_
        refine y_get C hW 9 (by decide) q213 rfl rfl dX1_join_179 ?_
        refine lv_iload hx hb dX1_join_182 (lv_at hl 1 rfl) ?_
        refine y_ld_pa C hW hQ12 dX1_join_184 ?_
        refine y_st_pa C hW hP12 dX1_join_185 (fun H locs hW => ?_)
        refine lv_aload_n hx hb dX1_join_186 rfl (lv_at hl 3 rfl) ?_
        refine y_get C hW 10 (by decide) q214 rfl rfl dX1_join_187 ?_
        refine lv_iload_n hx hb dX1_join_190 rfl (lv_at hl 2 rfl) ?_
        refine lv_aload_n hx hb dX1_join_191 rfl (lv_at hl 3 rfl) ?_
        refine y_get C hW 10 (by decide) q214 rfl rfl dX1_join_192 ?_
        refine lv_iload hx hb dX1_join_195 (lv_at hl 1 rfl) ?_
        refine y_ld_pb C hW hQ12 dX1_join_197 ?_
        refine y_st_pb C hW hP12 dX1_join_198 (fun H locs hW => ?_)
        exact y_vret C hW hr hlocks (by rw [hv]; exact (if_neg (by rw [c163]; decide)).symm) dX1_join_199
    have k133 : ∀ (v : YSt) (H : Heap) (locs : List Loc) (ls : Array Slot), ys_join w x y = ys_j3 v P Q → YW D h dA v s.heap H locs → lv_has ls 6 [(5, .int (nI 12)), (4, .int (nI Q)), (3, .int (nI P)), (0, .ref (h 0))] → W p l e (rmN 1) s m (.ref (h 0) :: [.int (nI x), .int (nI y)]).toArray below meth c H locs 0 0 (MQ below (YQv D h dA (fun w' => w' = ys_join w x y)) (.ref (h 0) :: [.int (nI x), .int (nI y)]).toArray s 0 0 (AY h)) (F0 m 133 ls []) := by
      intro v H locs ls hv hW hl
      refine lv_aload_n hx hb dX1_join_133 rfl (lv_at hl 3 rfl) ?_
      refine y_get C hW 8 (by decide) q212 rfl rfl dX1_join_134 ?_
      refine lv_iload hx hb dX1_join_137 (lv_at hl 1 rfl) ?_
      refine y_ld_ip C hW hQ12 dX1_join_139 ?_
      refine b_if_eq (tgt := 199) hx hb dX1_join_140 (by decide) (fun c140 => ?_) (fun c140 => ?_)
      · exact y_vret C hW hr hlocks (by rw [hv]; exact (if_neg (by rw [c140]; decide)).symm) dX1_join_199
      · refine lv_aload_n hx hb dX1_join_143 rfl (lv_at hl 3 rfl) ?_
        refine y_get C hW 6 (by decide) q210 rfl rfl dX1_join_144 ?_
        refine lv_iload_n hx hb dX1_join_147 rfl (lv_at hl 2 rfl) ?_
        refine y_ld_ii C hW hP12 dX1_join_148 ?_
        refine b_if_eq (tgt := 157) hx hb dX1_join_149 (by decide) (fun c149 => ?_) (fun c149 => ?_)
        · exact k157 _ H locs ls (by rw [hv]; exact (if_pos c140).trans (congrArg (fun z => ys_j4 z P Q) (if_neg (by rw [c149]; decide)))) hW hl
        · refine lv_aload_n hx hb dX1_join_152 rfl (lv_at hl 3 rfl) ?_
          refine lv_iconst (v := bI true) hx hb dX1_join_153 (by decide) ?_
          refine y_put_bk C hW q215 dX1_join_154 (fun H locs hW => ?_)
          exact k157 _ H locs ls (by rw [hv]; exact (if_pos c140).trans (congrArg (fun z => ys_j4 z P Q) (if_pos c149))) hW hl
    have loop : P ≠ Q → ∀ (n i : Nat) (H : Heap) (locs : List Loc) (ls : Array Slot), 12 < n + i → i ≤ 12 → YW D h dA ((w.s_fr true).s_le (ys_rel w.le i P Q)) s.heap H locs → lv_has ls 6 [(5, .int (nI i)), (4, .int (nI Q)), (3, .int (nI P)), (0, .ref (h 0))] → W p l e (rmN 1) s m (.ref (h 0) :: [.int (nI x), .int (nI y)]).toArray below meth c H locs 0 0 (MQ below (YQv D h dA (fun w' => w' = ys_join w x y)) (.ref (h 0) :: [.int (nI x), .int (nI y)]).toArray s 0 0 (AY h)) (F0 m 78 ls []) := by
      intro hne n
      induction n with
      | zero => intro i H locs ls hn hi; exact absurd hn (by omega)
      | succ n ih =>
        intro i H locs ls hn hi hW hl
        have hrl : ys_rel w.le i P Q i < 12 := by rw [rel_at]; exact hS.le i
        refine lv_iload hx hb dX1_join_78 (lv_at hl 0 rfl) ?_
        refine lv_bipush (v := nI 12) hx hb dX1_join_80 (by decide) ?_
        refine n_icmp_ge (tgt := 111) hx hb (by omega) (by omega) dX1_join_82 (by decide) (fun c82 => ?_) (fun c82 => ?_)
        · have hi12 : i = 12 := by omega
          subst hi12
          have hv : ys_join w x y = ys_j3 (ys_j2 (ys_j1 w P Q) P Q) P Q := hJ.trans (if_neg hne)
          have hS1 := hS.j1 (q := Q) hP12
          have hW : YW D h dA (ys_j1 w P Q) s.heap H locs := hW
          refine lv_aload_n hx hb dX1_join_111 rfl (lv_at hl 3 rfl) ?_
          refine y_get C hW 6 (by decide) q210 rfl rfl dX1_join_112 ?_
          refine lv_iload hx hb dX1_join_115 (lv_at hl 1 rfl) ?_
          refine y_ld_ii C hW hQ12 dX1_join_117 ?_
          refine b_if_eq (tgt := 133) hx hb dX1_join_118 (by decide) (fun c118 => ?_) (fun c118 => ?_)
          · exact k133 _ H locs ls (by rw [hv]; exact congrArg (fun z => ys_j3 z P Q) (if_neg (by rw [c118]; decide))) hW hl
          · refine lv_aload_n hx hb dX1_join_121 rfl (lv_at hl 3 rfl) ?_
            refine lv_iload_n hx hb dX1_join_122 rfl (lv_at hl 2 rfl) ?_
            refine lv_aload_n hx hb dX1_join_123 rfl (lv_at hl 3 rfl) ?_
            refine y_get C hW 7 (by decide) q211 rfl rfl dX1_join_124 ?_
            refine lv_iload hx hb dX1_join_127 (lv_at hl 1 rfl) ?_
            refine y_ld_iv C hW hQ12 dX1_join_129 ?_
            refine y_callv C hW (As := [_, _]) (rest := []) (mY_beInt l D h dA _ P hP12 _ hS1) cbY_beInt ⟨by decide, by decide⟩ ⟨rfl, rfl⟩ ⟨Nat.zero_le _, Nat.zero_le _⟩ rfl hl.1 rfl (Nat.le_of_ble_eq_true rfl) dX1_join_130 (fun u' H locs hp hW => ?_)
            subst hp
            exact k133 _ H locs ls (by rw [hv]; exact congrArg (fun z => ys_j3 z P Q) (if_pos c118)) hW hl
        · refine lv_aload_n hx hb dX1_join_85 rfl (lv_at hl 3 rfl) ?_
          refine y_get C hW 5 (by decide) q209 rfl rfl dX1_join_86 ?_
          refine lv_iload hx hb dX1_join_89 (lv_at hl 0 rfl) ?_
          refine y_ld_le C hW (by omega) dX1_join_91 ?_
          refine lv_iload hx hb dX1_join_92 (lv_at hl 1 rfl) ?_
          refine n_icmp_ne (tgt := 105) hx hb (Nat.lt_trans hrl (by decide)) (by omega) dX1_join_94 (by decide) (fun c94 => ?_) (fun c94 => ?_)
          · refine lv_iinc (lv' := [(5, _), (4, _), (3, _), (0, _)]) hx hb dX1_join_105 hl (k := 0) rfl (nI_1 _) (by decide) rfl (fun ls hl => ?_)
            refine lv_goto (tgt := 78) hx hb dX1_join_108 (by decide) ?_
            have e := rel_f (le := w.le) (i := i) (p := P) (q := Q) (fun z => c94 (by show ys_rel w.le i P Q i = Q; rw [rel_at]; exact z))
            exact ih (i + 1) H locs ls (by omega) (by omega) (by rw [← e]; exact hW) hl
          · refine lv_aload_n hx hb dX1_join_97 rfl (lv_at hl 3 rfl) ?_
            refine y_get C hW 5 (by decide) q209 rfl rfl dX1_join_98 ?_
            refine lv_iload hx hb dX1_join_101 (lv_at hl 0 rfl) ?_
            refine lv_iload_n hx hb dX1_join_103 rfl (lv_at hl 2 rfl) ?_
            refine y_st_le C hW (by omega) dX1_join_104 (fun H locs hW => ?_)
            refine lv_iinc (lv' := [(5, _), (4, _), (3, _), (0, _)]) hx hb dX1_join_105 hl (k := 0) rfl (nI_1 _) (by decide) rfl (fun ls hl => ?_)
            refine lv_goto (tgt := 78) hx hb dX1_join_108 (by decide) ?_
            have e := rel_t (le := w.le) (i := i) (p := P) (q := Q) (by rw [← rel_at w.le i P Q]; exact c94)
            exact ih (i + 1) H locs ls (by omega) (by omega) (by rw [← e]; exact hW) hl
    refine lv_iload_n hx hb dX1_join_63 rfl (lv_at hl 1 rfl) ?_
    refine lv_iload hx hb dX1_join_64 (lv_at hl 0 rfl) ?_
    refine n_icmp_ne (tgt := 70) hx hb (by omega) (by omega) dX1_join_66 (by decide) (fun c66 => ?_) (fun c66 => ?_)
    · refine lv_aload_n hx hb dX1_join_70 rfl (lv_at hl 2 rfl) ?_
      refine lv_iconst (v := bI true) hx hb dX1_join_71 (by decide) ?_
      refine y_put_fr C hW q216 dX1_join_72 (fun H locs hW => ?_)
      refine lv_iconst (v := nI 0) hx hb dX1_join_75 (by decide) ?_
      refine lv_istore (lv' := [(5, _), (4, _), (3, _), (0, _)]) hx hb dX1_join_76 hl (by decide) rfl (fun ls hl => ?_)
      exact loop c66 13 0 H locs ls (by omega) (Nat.zero_le _) (by rw [rel_0]; exact hW) hl
    · exact y_vret C hW hr hlocks (hJ.trans (if_pos c66)).symm dX1_join_69
  refine lv_aload_n hx hb dX1_join_0 rfl (lv_at hl 0 rfl) ?_
  refine y_get C hW 5 (by decide) q209 rfl rfl dX1_join_1 ?_
  refine lv_iload_n hx hb dX1_join_4 rfl (lv_at hl 1 rfl) ?_
  refine y_ld_le C hW hx12 dX1_join_5 ?_
  refine lv_aload_n hx hb dX1_join_6 rfl (lv_at hl 0 rfl) ?_
  refine y_get C hW 5 (by decide) q209 rfl rfl dX1_join_7 ?_
  refine lv_iload_n hx hb dX1_join_10 rfl (lv_at hl 2 rfl) ?_
  refine y_ld_le C hW hy12 dX1_join_11 ?_
  refine n_icmp_ge (tgt := 24) hx hb (hS.le31 _) (hS.le31 _) dX1_join_12 (by decide) (fun c12 => ?_) (fun c12 => ?_)
  · refine lv_aload_n hx hb dX1_join_24 rfl (lv_at hl 0 rfl) ?_
    refine y_get C hW 5 (by decide) q209 rfl rfl dX1_join_25 ?_
    refine lv_iload_n hx hb dX1_join_28 rfl (lv_at hl 2 rfl) ?_
    refine y_ld_le C hW hy12 dX1_join_29 ?_
    refine lv_istore_n (lv' := [(3, _), (0, _), (1, _), (2, _)]) hx hb dX1_join_30 rfl hl (by decide) rfl (fun ls hl => ?_)
    refine lv_aload_n hx hb dX1_join_31 rfl (lv_at hl 1 rfl) ?_
    refine y_get C hW 5 (by decide) q209 rfl rfl dX1_join_32 ?_
    refine lv_iload_n hx hb dX1_join_35 rfl (lv_at hl 2 rfl) ?_
    refine y_ld_le C hW hx12 dX1_join_36 ?_
    refine lv_aload_n hx hb dX1_join_37 rfl (lv_at hl 1 rfl) ?_
    refine y_get C hW 5 (by decide) q209 rfl rfl dX1_join_38 ?_
    refine lv_iload_n hx hb dX1_join_41 rfl (lv_at hl 3 rfl) ?_
    refine y_ld_le C hW hy12 dX1_join_42 ?_
    refine n_icmp_ge (tgt := 55) hx hb (hS.le31 _) (hS.le31 _) dX1_join_43 (by decide) (fun c43 => ?_) (fun c43 => ?_)
    · refine lv_aload_n hx hb dX1_join_55 rfl (lv_at hl 1 rfl) ?_
      refine y_get C hW 5 (by decide) q209 rfl rfl dX1_join_56 ?_
      refine lv_iload_n hx hb dX1_join_59 rfl (lv_at hl 2 rfl) ?_
      refine y_ld_le C hW hx12 dX1_join_60 ?_
      refine lv_istore (lv' := [(4, _), (3, _), (0, _), (1, _), (2, _)]) hx hb dX1_join_61 hl (by decide) rfl (fun ls hl => ?_)
      exact key (w.le y) (w.le x) ls (hS.le _) (hS.le _) (if_pos c12) (lv_sub hl [0, 1, 2] rfl)
    · exact absurd c12 c43
  · refine lv_aload_n hx hb dX1_join_15 rfl (lv_at hl 0 rfl) ?_
    refine y_get C hW 5 (by decide) q209 rfl rfl dX1_join_16 ?_
    refine lv_iload_n hx hb dX1_join_19 rfl (lv_at hl 1 rfl) ?_
    refine y_ld_le C hW hx12 dX1_join_20 ?_
    refine lv_goto (tgt := 30) hx hb dX1_join_21 (by decide) ?_
    refine lv_istore_n (lv' := [(3, _), (0, _), (1, _), (2, _)]) hx hb dX1_join_30 rfl hl (by decide) rfl (fun ls hl => ?_)
    refine lv_aload_n hx hb dX1_join_31 rfl (lv_at hl 1 rfl) ?_
    refine y_get C hW 5 (by decide) q209 rfl rfl dX1_join_32 ?_
    refine lv_iload_n hx hb dX1_join_35 rfl (lv_at hl 2 rfl) ?_
    refine y_ld_le C hW hx12 dX1_join_36 ?_
    refine lv_aload_n hx hb dX1_join_37 rfl (lv_at hl 1 rfl) ?_
    refine y_get C hW 5 (by decide) q209 rfl rfl dX1_join_38 ?_
    refine lv_iload_n hx hb dX1_join_41 rfl (lv_at hl 3 rfl) ?_
    refine y_ld_le C hW hy12 dX1_join_42 ?_
    refine n_icmp_ge (tgt := 55) hx hb (hS.le31 _) (hS.le31 _) dX1_join_43 (by decide) (fun c43 => ?_) (fun c43 => ?_)
    · exact absurd c43 c12
    · refine lv_aload_n hx hb dX1_join_46 rfl (lv_at hl 1 rfl) ?_
      refine y_get C hW 5 (by decide) q209 rfl rfl dX1_join_47 ?_
      refine lv_iload_n hx hb dX1_join_50 rfl (lv_at hl 3 rfl) ?_
      refine y_ld_le C hW hy12 dX1_join_51 ?_
      refine lv_goto (tgt := 61) hx hb dX1_join_52 (by decide) ?_
      refine lv_istore (lv' := [(4, _), (3, _), (0, _), (1, _), (2, _)]) hx hb dX1_join_61 hl (by decide) rfl (fun ls hl => ?_)
      exact key (w.le x) (w.le y) ls (hS.le _) (hS.le _) (if_neg c12) (lv_sub hl [0, 1, 2] rfl)
set_option maxHeartbeats 4000000 in
set_option maxRecDepth 100000 in
/-- bePair(x, y, z) -/
theorem mY_bePair (l : Launch) (D : va_G) (h : Nat → Nat) (dA : Nat → ClassId) (w : YSt) (x y z : Nat) (hx12 : x < 12) (hy12 : y < 12) (hz12 : z < 12) (hS : YSr w) : Met l yX1_bePair (ws_ yX1_bePair cX1_bePair 6 none) (rmN 2) (YPc D h dA w [.int (nI x), .int (nI y), .int (nI z)]) (YQv D h dA (fun w' => w' = ys_bePair w x y z)) 0 0 (AY h) := by
  refine y_met rfl (Nat.le_of_ble_eq_true rfl) ?_
  intro p e s m below meth c ls C hr hlocks hW hl
  have hx := C.1
  have hb := C.2.1
  have hl : lv_has ls 6 [(0, .ref (h 0)), (1, .int (nI x)), (2, .int (nI y)), (3, .int (nI z))] := hl
  have hp12 := hS.le x
  have k23 : ∀ (v : YSt) (H : Heap) (locs : List Loc) (ls : Array Slot), ys_bePair w x y z = ys_p3 v (w.le x) x y z → YSr v → YW D h dA v s.heap H locs → lv_has ls 6 [(4, .int (nI (w.le x))), (0, .ref (h 0)), (1, .int (nI x)), (2, .int (nI y)), (3, .int (nI z))] → W p l e (rmN 2) s m (.ref (h 0) :: [.int (nI x), .int (nI y), .int (nI z)]).toArray below meth c H locs 0 0 (MQ below (YQv D h dA (fun w' => w' = ys_bePair w x y z)) (.ref (h 0) :: [.int (nI x), .int (nI y), .int (nI z)]).toArray s 0 0 (AY h)) (F0 m 23 ls []) := by
    intro v H locs ls hv hS hW hl
    refine lv_aload_n hx hb dX1_bePair_23 rfl (lv_at hl 1 rfl) ?_
    refine y_get C hW 8 (by decide) q212 rfl rfl dX1_bePair_24 ?_
    refine lv_iload hx hb dX1_bePair_27 (lv_at hl 0 rfl) ?_
    refine y_ld_ip C hW hp12 dX1_bePair_29 ?_
    refine b_if_eq (tgt := 68) hx hb dX1_bePair_30 (by decide) (fun c30 => ?_) (fun c30 => ?_)
    · refine lv_aload_n hx hb dX1_bePair_68 rfl (lv_at hl 1 rfl) ?_
      refine lv_iconst (v := bI true) hx hb dX1_bePair_69 (by decide) ?_
      refine y_put_fr C hW q216 dX1_bePair_70 (fun H locs hW => ?_)
      refine lv_aload_n hx hb dX1_bePair_73 rfl (lv_at hl 1 rfl) ?_
      refine y_get C hW 8 (by decide) q212 rfl rfl dX1_bePair_74 ?_
      refine lv_iload hx hb dX1_bePair_77 (lv_at hl 0 rfl) ?_
      refine lv_iconst (v := bI true) hx hb dX1_bePair_79 (by decide) ?_
      refine y_st_ip C hW hp12 dX1_bePair_80 (fun H locs hW => ?_)
      refine lv_aload_n hx hb dX1_bePair_81 rfl (lv_at hl 1 rfl) ?_
      refine y_get C hW 9 (by decide) q213 rfl rfl dX1_bePair_82 ?_
      refine lv_iload hx hb dX1_bePair_85 (lv_at hl 0 rfl) ?_
      refine lv_iload_n hx hb dX1_bePair_87 rfl (lv_at hl 3 rfl) ?_
      refine y_st_pa C hW hp12 dX1_bePair_88 (fun H locs hW => ?_)
      refine lv_aload_n hx hb dX1_bePair_89 rfl (lv_at hl 1 rfl) ?_
      refine y_get C hW 10 (by decide) q214 rfl rfl dX1_bePair_90 ?_
      refine lv_iload hx hb dX1_bePair_93 (lv_at hl 0 rfl) ?_
      refine lv_iload_n hx hb dX1_bePair_95 rfl (lv_at hl 4 rfl) ?_
      refine y_st_pb C hW hp12 dX1_bePair_96 (fun H locs hW => ?_)
      exact y_vret C hW hr hlocks (by rw [hv]; exact (if_neg (by rw [c30]; decide)).symm) dX1_bePair_97
    · refine lv_aload_n hx hb dX1_bePair_33 rfl (lv_at hl 1 rfl) ?_
      refine lv_aload_n hx hb dX1_bePair_34 rfl (lv_at hl 1 rfl) ?_
      refine y_get C hW 9 (by decide) q213 rfl rfl dX1_bePair_35 ?_
      refine lv_iload hx hb dX1_bePair_38 (lv_at hl 0 rfl) ?_
      refine y_ld_pa C hW hp12 dX1_bePair_40 ?_
      refine lv_iload_n hx hb dX1_bePair_41 rfl (lv_at hl 3 rfl) ?_
      refine y_callv C hW (As := [_, _]) (rest := []) (mY_join l D h dA _ _ y (hS.pa _) hy12 hS) cbY_join ⟨by decide, by decide⟩ ⟨rfl, rfl⟩ ⟨Nat.zero_le _, Nat.zero_le _⟩ rfl hl.1 rfl (Nat.le_of_ble_eq_true rfl) dX1_bePair_42 (fun u' H locs hp hW => ?_)
      subst hp
      refine lv_aload_n hx hb dX1_bePair_45 rfl (lv_at hl 1 rfl) ?_
      refine y_get C hW 5 (by decide) q209 rfl rfl dX1_bePair_46 ?_
      refine lv_iload_n hx hb dX1_bePair_49 rfl (lv_at hl 2 rfl) ?_
      refine y_ld_le C hW hx12 dX1_bePair_50 ?_
      refine lv_istore (lv' := [(5, _), (4, _), (0, _), (1, _), (2, _), (3, _)]) hx hb dX1_bePair_51 hl (by decide) rfl (fun ls hl => ?_)
      refine lv_aload_n hx hb dX1_bePair_53 rfl (lv_at hl 2 rfl) ?_
      refine lv_aload_n hx hb dX1_bePair_54 rfl (lv_at hl 2 rfl) ?_
      refine y_get C hW 10 (by decide) q214 rfl rfl dX1_bePair_55 ?_
      refine lv_iload hx hb dX1_bePair_58 (lv_at hl 0 rfl) ?_
      refine y_ld_pb C hW ((hS.join _ _).le x) dX1_bePair_60 ?_
      refine lv_iload_n hx hb dX1_bePair_61 rfl (lv_at hl 5 rfl) ?_
      refine y_callv C hW (As := [_, _]) (rest := []) (mY_join l D h dA _ _ z ((hS.join _ _).pb _) hz12 (hS.join _ _)) cbY_join ⟨by decide, by decide⟩ ⟨rfl, rfl⟩ ⟨Nat.zero_le _, Nat.zero_le _⟩ rfl hl.1 rfl (Nat.le_of_ble_eq_true rfl) dX1_bePair_62 (fun u' H locs hp hW => ?_)
      subst hp
      refine lv_goto (tgt := 97) hx hb dX1_bePair_65 (by decide) ?_
      exact y_vret C hW hr hlocks (by rw [hv]; exact (if_pos c30).symm) dX1_bePair_97
  refine lv_aload_n hx hb dX1_bePair_0 rfl (lv_at hl 0 rfl) ?_
  refine y_get C hW 5 (by decide) q209 rfl rfl dX1_bePair_1 ?_
  refine lv_iload_n hx hb dX1_bePair_4 rfl (lv_at hl 1 rfl) ?_
  refine y_ld_le C hW hx12 dX1_bePair_5 ?_
  refine lv_istore (lv' := [(4, _), (0, _), (1, _), (2, _), (3, _)]) hx hb dX1_bePair_6 hl (by decide) rfl (fun ls hl => ?_)
  refine lv_aload_n hx hb dX1_bePair_8 rfl (lv_at hl 1 rfl) ?_
  refine y_get C hW 6 (by decide) q210 rfl rfl dX1_bePair_9 ?_
  refine lv_iload hx hb dX1_bePair_12 (lv_at hl 0 rfl) ?_
  refine y_ld_ii C hW hp12 dX1_bePair_14 ?_
  refine b_if_eq (tgt := 23) hx hb dX1_bePair_15 (by decide) (fun c15 => ?_) (fun c15 => ?_)
  · exact k23 _ s.heap [] ls (congrArg (fun q => ys_p3 q (w.le x) x y z) (if_neg (by rw [c15]; decide))) hS hW hl
  · refine lv_aload_n hx hb dX1_bePair_18 rfl (lv_at hl 1 rfl) ?_
    refine lv_iconst (v := bI true) hx hb dX1_bePair_19 (by decide) ?_
    refine y_put_bk C hW q215 dX1_bePair_20 (fun H locs hW => ?_)
    exact k23 _ H locs ls (congrArg (fun q => ys_p3 q (w.le x) x y z) (if_pos c15)) hS hW hl
end
section
set_option maxRecDepth 100000
set_option maxHeartbeats 4000000 in
set_option maxRecDepth 100000 in
/-- ready(i) -/
theorem mY_ready (l : Launch) (D : va_G) (h : Nat → Nat) (dA : Nat → ClassId) (w : YSt) (i : Nat) (hi : i < w.n) (hS : YSr w) : Met l yX1_ready (ws_ yX1_ready cX1_ready 3 (some .boolean)) (rmN 0) (YPc D h dA w [.int (nI i)]) (YQi D h dA (fun r w' => r = bI (ys_ready w i) ∧ w' = w)) 0 0 (AY h) := by
  refine y_met rfl (Nat.le_of_ble_eq_true rfl) ?_
  intro p e s m below meth c ls C hr hlocks hW hl
  have hx := C.1
  have hb := C.2.1
  have hl : lv_has ls 3 [(0, .ref (h 0)), (1, .int (nI i))] := hl
  have hi40 : i < 40 := Nat.lt_of_lt_of_le hi hS.1
  have hk8 := hS.2.2.2.2.1 i
  refine lv_aload_n hx hb dX1_ready_0 rfl (lv_at hl 0 rfl) ?_
  refine y_get C hW 1 (by decide) q205 rfl rfl dX1_ready_1 ?_
  refine lv_iload_n hx hb dX1_ready_4 rfl (lv_at hl 1 rfl) ?_
  refine y_ld_kd C hW hi40 dX1_ready_5 ?_
  refine lv_iconst (v := nI 3) hx hb dX1_ready_6 (by decide) ?_
  refine n_icmp_ge (tgt := 12) hx hb (hS.kd31 _) (by decide) dX1_ready_7 (by decide) (fun c7 => ?_) (fun c7 => ?_)
  · have hay := hS.ay hi (by omega)
    refine lv_aload_n hx hb dX1_ready_12 rfl (lv_at hl 0 rfl) ?_
    refine y_get C hW 5 (by decide) q209 rfl rfl dX1_ready_13 ?_
    refine lv_aload_n hx hb dX1_ready_16 rfl (lv_at hl 0 rfl) ?_
    refine y_get C hW 3 (by decide) q207 rfl rfl dX1_ready_17 ?_
    refine lv_iload_n hx hb dX1_ready_20 rfl (lv_at hl 1 rfl) ?_
    refine y_ld_ay C hW hi40 dX1_ready_21 ?_
    refine w_topi hay.1 ?_
    refine y_ld_le C hW hay.2 dX1_ready_22 ?_
    refine lv_istore_n (lv' := [(2, _), (0, _), (1, _)]) hx hb dX1_ready_23 rfl hl (by decide) rfl (fun ls hl => ?_)
    refine lv_aload_n hx hb dX1_ready_24 rfl (lv_at hl 1 rfl) ?_
    refine y_get C hW 1 (by decide) q205 rfl rfl dX1_ready_25 ?_
    refine lv_iload_n hx hb dX1_ready_28 rfl (lv_at hl 2 rfl) ?_
    refine y_ld_kd C hW hi40 dX1_ready_29 ?_
    refine lv_iconst (v := nI 5) hx hb dX1_ready_30 (by decide) ?_
    refine n_icmp_eq (tgt := 45) hx hb (hS.kd31 _) (by decide) dX1_ready_31 (by decide) (fun c31 => ?_) (fun c31 => ?_)
    · refine lv_aload_n hx hb dX1_ready_45 rfl (lv_at hl 1 rfl) ?_
      refine y_get C hW 8 (by decide) q212 rfl rfl dX1_ready_46 ?_
      refine lv_iload_n hx hb dX1_ready_49 rfl (lv_at hl 0 rfl) ?_
      refine y_ld_ip C hW (hS.le _) dX1_ready_50 ?_
      exact y_zret C hW hr hlocks ⟨by unfold ys_ready; rw [if_neg (by omega), if_pos (Or.inl c31)], rfl⟩ dX1_ready_51
    · refine lv_aload_n hx hb dX1_ready_34 rfl (lv_at hl 1 rfl) ?_
      refine y_get C hW 1 (by decide) q205 rfl rfl dX1_ready_35 ?_
      refine lv_iload_n hx hb dX1_ready_38 rfl (lv_at hl 2 rfl) ?_
      refine y_ld_kd C hW hi40 dX1_ready_39 ?_
      refine lv_bipush (v := nI 6) hx hb dX1_ready_40 (by decide) ?_
      refine n_icmp_ne (tgt := 52) hx hb (hS.kd31 _) (by decide) dX1_ready_42 (by decide) (fun c42 => ?_) (fun c42 => ?_)
      · have hnp : ¬ (w.kd i = 5 ∨ w.kd i = 6) := fun z => z.elim c31 c42
        have hrd : ys_ready w i = (w.ii (w.le (vN (w.ay i))) && w.ii (w.le (vN (w.az i)))) := by unfold ys_ready; rw [if_neg (by omega), if_neg hnp]
        have haz := hS.az hi (by omega)
        refine lv_aload_n hx hb dX1_ready_52 rfl (lv_at hl 1 rfl) ?_
        refine y_get C hW 6 (by decide) q210 rfl rfl dX1_ready_53 ?_
        refine lv_iload_n hx hb dX1_ready_56 rfl (lv_at hl 0 rfl) ?_
        refine y_ld_ii C hW (hS.le _) dX1_ready_57 ?_
        refine b_if_eq (tgt := 84) hx hb dX1_ready_58 (by decide) (fun c58 => ?_) (fun c58 => ?_)
        · refine lv_iconst (v := bI false) hx hb dX1_ready_84 (by decide) ?_
          exact y_zret C hW hr hlocks ⟨by rw [hrd, c58]; rfl, rfl⟩ dX1_ready_85
        · refine lv_aload_n hx hb dX1_ready_61 rfl (lv_at hl 1 rfl) ?_
          refine y_get C hW 6 (by decide) q210 rfl rfl dX1_ready_62 ?_
          refine lv_aload_n hx hb dX1_ready_65 rfl (lv_at hl 1 rfl) ?_
          refine y_get C hW 5 (by decide) q209 rfl rfl dX1_ready_66 ?_
          refine lv_aload_n hx hb dX1_ready_69 rfl (lv_at hl 1 rfl) ?_
          refine y_get C hW 4 (by decide) q208 rfl rfl dX1_ready_70 ?_
          refine lv_iload_n hx hb dX1_ready_73 rfl (lv_at hl 2 rfl) ?_
          refine y_ld_az C hW hi40 dX1_ready_74 ?_
          refine w_topi haz.1 ?_
          refine y_ld_le C hW haz.2 dX1_ready_75 ?_
          refine y_ld_ii C hW (hS.le _) dX1_ready_76 ?_
          refine b_if_eq (tgt := 84) hx hb dX1_ready_77 (by decide) (fun c77 => ?_) (fun c77 => ?_)
          · refine lv_iconst (v := bI false) hx hb dX1_ready_84 (by decide) ?_
            exact y_zret C hW hr hlocks ⟨by rw [hrd, c58, c77]; rfl, rfl⟩ dX1_ready_85
          · refine lv_iconst (v := bI true) hx hb dX1_ready_80 (by decide) ?_
            refine lv_goto (tgt := 85) hx hb dX1_ready_81 (by decide) ?_
            exact y_zret C hW hr hlocks ⟨by rw [hrd, c58, c77]; rfl, rfl⟩ dX1_ready_85
      · refine lv_aload_n hx hb dX1_ready_45 rfl (lv_at hl 1 rfl) ?_
        refine y_get C hW 8 (by decide) q212 rfl rfl dX1_ready_46 ?_
        refine lv_iload_n hx hb dX1_ready_49 rfl (lv_at hl 0 rfl) ?_
        refine y_ld_ip C hW (hS.le _) dX1_ready_50 ?_
        exact y_zret C hW hr hlocks ⟨by unfold ys_ready; rw [if_neg (by omega), if_pos (Or.inr c42)], rfl⟩ dX1_ready_51
  · refine lv_iconst (v := bI true) hx hb dX1_ready_10 (by decide) ?_
    exact y_zret C hW hr hlocks ⟨by unfold ys_ready; rw [if_pos (by omega)], rfl⟩ dX1_ready_11
set_option maxHeartbeats 4000000 in
set_option maxRecDepth 100000 in
/-- apply(i) -/
theorem mY_apply (l : Launch) (D : va_G) (h : Nat → Nat) (dA : Nat → ClassId) (w : YSt) (i : Nat) (hi : i < w.n) (hS : YSr w) : Met l yX1_apply (ws_ yX1_apply cX1_apply 4 none) (rmN 3) (YPc D h dA w [.int (nI i)]) (YQv D h dA (fun w' => w' = ys_apply w i)) 0 0 (AY h) := by
  refine y_met rfl (Nat.le_of_ble_eq_true rfl) ?_
  intro p e s m below meth c ls C hr hlocks hW hl
  have hx := C.1
  have hb := C.2.1
  have hl : lv_has ls 4 [(0, .ref (h 0)), (1, .int (nI i))] := hl
  have hi40 : i < 40 := Nat.lt_of_lt_of_le hi hS.1
  have hk8 := hS.2.2.2.2.1 i
  have k72 : ∀ (ls : Array Slot), lv_has ls 4 [(3, .int (nI (w.le (ys_cl (w.az i))))), (2, .int (nI (w.le (ys_cl (w.ay i))))), (0, .ref (h 0)), (1, .int (nI i))] → W p l e (rmN 3) s m (.ref (h 0) :: [.int (nI i)]).toArray below meth c s.heap [] 0 0 (MQ below (YQv D h dA (fun w' => w' = ys_apply w i)) (.ref (h 0) :: [.int (nI i)]).toArray s 0 0 (AY h)) (F0 m 72 ls []) := by
    intro ls hl
    refine lv_aload_n hx hb dX1_apply_72 rfl (lv_at hl 2 rfl) ?_
    refine y_get C hW 1 (by decide) q205 rfl rfl dX1_apply_73 ?_
    refine lv_iload_n hx hb dX1_apply_76 rfl (lv_at hl 3 rfl) ?_
    refine y_ld_kd C hW hi40 dX1_apply_77 ?_
    refine n_if_ne (tgt := 100) hx hb (hS.kd31 _) dX1_apply_78 (by decide) (fun c78 => ?_) (fun c78 => ?_)
    · refine lv_aload_n hx hb dX1_apply_100 rfl (lv_at hl 2 rfl) ?_
      refine y_get C hW 1 (by decide) q205 rfl rfl dX1_apply_101 ?_
      refine lv_iload_n hx hb dX1_apply_104 rfl (lv_at hl 3 rfl) ?_
      refine y_ld_kd C hW hi40 dX1_apply_105 ?_
      refine lv_iconst (v := nI 1) hx hb dX1_apply_106 (by decide) ?_
      refine n_icmp_ne (tgt := 129) hx hb (hS.kd31 _) (by decide) dX1_apply_107 (by decide) (fun c107 => ?_) (fun c107 => ?_)
      · refine lv_aload_n hx hb dX1_apply_129 rfl (lv_at hl 2 rfl) ?_
        refine y_get C hW 1 (by decide) q205 rfl rfl dX1_apply_130 ?_
        refine lv_iload_n hx hb dX1_apply_133 rfl (lv_at hl 3 rfl) ?_
        refine y_ld_kd C hW hi40 dX1_apply_134 ?_
        refine lv_iconst (v := nI 2) hx hb dX1_apply_135 (by decide) ?_
        refine n_icmp_ne (tgt := 164) hx hb (hS.kd31 _) (by decide) dX1_apply_136 (by decide) (fun c136 => ?_) (fun c136 => ?_)
        · refine lv_aload_n hx hb dX1_apply_164 rfl (lv_at hl 2 rfl) ?_
          refine y_get C hW 1 (by decide) q205 rfl rfl dX1_apply_165 ?_
          refine lv_iload_n hx hb dX1_apply_168 rfl (lv_at hl 3 rfl) ?_
          refine y_ld_kd C hW hi40 dX1_apply_169 ?_
          refine lv_iconst (v := nI 3) hx hb dX1_apply_170 (by decide) ?_
          refine n_icmp_ne (tgt := 200) hx hb (hS.kd31 _) (by decide) dX1_apply_171 (by decide) (fun c171 => ?_) (fun c171 => ?_)
          · refine lv_aload_n hx hb dX1_apply_200 rfl (lv_at hl 2 rfl) ?_
            refine y_get C hW 1 (by decide) q205 rfl rfl dX1_apply_201 ?_
            refine lv_iload_n hx hb dX1_apply_204 rfl (lv_at hl 3 rfl) ?_
            refine y_ld_kd C hW hi40 dX1_apply_205 ?_
            refine lv_iconst (v := nI 4) hx hb dX1_apply_206 (by decide) ?_
            refine n_icmp_ne (tgt := 236) hx hb (hS.kd31 _) (by decide) dX1_apply_207 (by decide) (fun c207 => ?_) (fun c207 => ?_)
            · refine lv_aload_n hx hb dX1_apply_236 rfl (lv_at hl 2 rfl) ?_
              refine y_get C hW 1 (by decide) q205 rfl rfl dX1_apply_237 ?_
              refine lv_iload_n hx hb dX1_apply_240 rfl (lv_at hl 3 rfl) ?_
              refine y_ld_kd C hW hi40 dX1_apply_241 ?_
              refine lv_iconst (v := nI 5) hx hb dX1_apply_242 (by decide) ?_
              refine n_icmp_ne (tgt := 265) hx hb (hS.kd31 _) (by decide) dX1_apply_243 (by decide) (fun c243 => ?_) (fun c243 => ?_)
              · refine lv_aload_n hx hb dX1_apply_265 rfl (lv_at hl 2 rfl) ?_
                refine y_get C hW 1 (by decide) q205 rfl rfl dX1_apply_266 ?_
                refine lv_iload_n hx hb dX1_apply_269 rfl (lv_at hl 3 rfl) ?_
                refine y_ld_kd C hW hi40 dX1_apply_270 ?_
                refine lv_bipush (v := nI 6) hx hb dX1_apply_271 (by decide) ?_
                refine n_icmp_ne (tgt := 295) hx hb (hS.kd31 _) (by decide) dX1_apply_273 (by decide) (fun c273 => ?_) (fun c273 => ?_)
                · refine lv_aload_n hx hb dX1_apply_295 rfl (lv_at hl 2 rfl) ?_
                  refine lv_aload_n hx hb dX1_apply_296 rfl (lv_at hl 2 rfl) ?_
                  refine y_get C hW 2 (by decide) q206 rfl rfl dX1_apply_297 ?_
                  refine lv_iload_n hx hb dX1_apply_300 rfl (lv_at hl 3 rfl) ?_
                  refine y_ld_ax C hW hi40 dX1_apply_301 ?_
                  refine lv_aload_n hx hb dX1_apply_302 rfl (lv_at hl 2 rfl) ?_
                  refine y_get C hW 7 (by decide) q211 rfl rfl dX1_apply_303 ?_
                  refine lv_iload_n hx hb dX1_apply_306 rfl (lv_at hl 1 rfl) ?_
                  refine y_ld_iv C hW (hS.le _) dX1_apply_307 ?_
                  refine lv_aload_n hx hb dX1_apply_308 rfl (lv_at hl 2 rfl) ?_
                  refine y_get C hW 7 (by decide) q211 rfl rfl dX1_apply_309 ?_
                  refine lv_iload_n hx hb dX1_apply_312 rfl (lv_at hl 0 rfl) ?_
                  refine y_ld_iv C hW (hS.le _) dX1_apply_313 ?_
                  refine lv_icmp_ne (tgt := 321) hx hb dX1_apply_314 (by decide) (fun c314 => ?_) (fun c314 => ?_)
                  · refine lv_iconst (v := 0) hx hb dX1_apply_321 (by decide) ?_
                    refine y_callv C hW (As := [_, _]) (rest := []) (mY_beInt l D h dA _ _ (hS.ax _) _ hS) cbY_beInt ⟨by decide, by decide⟩ ⟨rfl, rfl⟩ ⟨Nat.zero_le _, Nat.zero_le _⟩ rfl hl.1 rfl (Nat.le_of_ble_eq_true rfl) dX1_apply_322 (fun u' H locs hp hW => ?_)
                    subst hp
                    exact y_vret C hW hr hlocks ((if_neg c78).trans ((if_neg c107).trans ((if_neg c136).trans ((if_neg c171).trans ((if_neg c207).trans ((if_neg c243).trans ((if_neg c273).trans (congrArg (ys_beInt w (w.ax i)) (if_neg c314))))))))).symm dX1_apply_325
                  · refine lv_iconst (v := 1) hx hb dX1_apply_317 (by decide) ?_
                    refine lv_goto (tgt := 322) hx hb dX1_apply_318 (by decide) ?_
                    refine y_callv C hW (As := [_, _]) (rest := []) (mY_beInt l D h dA _ _ (hS.ax _) _ hS) cbY_beInt ⟨by decide, by decide⟩ ⟨rfl, rfl⟩ ⟨Nat.zero_le _, Nat.zero_le _⟩ rfl hl.1 rfl (Nat.le_of_ble_eq_true rfl) dX1_apply_322 (fun u' H locs hp hW => ?_)
                    subst hp
                    exact y_vret C hW hr hlocks ((if_neg c78).trans ((if_neg c107).trans ((if_neg c136).trans ((if_neg c171).trans ((if_neg c207).trans ((if_neg c243).trans ((if_neg c273).trans (congrArg (ys_beInt w (w.ax i)) (if_pos c314))))))))).symm dX1_apply_325
                · refine lv_aload_n hx hb dX1_apply_276 rfl (lv_at hl 2 rfl) ?_
                  refine lv_aload_n hx hb dX1_apply_277 rfl (lv_at hl 2 rfl) ?_
                  refine y_get C hW 2 (by decide) q206 rfl rfl dX1_apply_278 ?_
                  refine lv_iload_n hx hb dX1_apply_281 rfl (lv_at hl 3 rfl) ?_
                  refine y_ld_ax C hW (by omega) dX1_apply_282 ?_
                  refine lv_aload_n hx hb dX1_apply_283 rfl (lv_at hl 2 rfl) ?_
                  refine y_get C hW 10 (by decide) q214 rfl rfl dX1_apply_284 ?_
                  refine lv_iload_n hx hb dX1_apply_287 rfl (lv_at hl 1 rfl) ?_
                  refine y_ld_pb C hW (hS.le _) dX1_apply_288 ?_
                  refine y_callv C hW (As := [_, _]) (rest := []) (mY_join l D h dA _ _ _ (hS.ax _) (hS.pb _) hS) cbY_join ⟨by decide, by decide⟩ ⟨rfl, rfl⟩ ⟨Nat.zero_le _, Nat.zero_le _⟩ rfl hl.1 rfl (Nat.le_of_ble_eq_true rfl) dX1_apply_289 (fun u' H locs hp hW => ?_)
                  subst hp
                  refine lv_goto (tgt := 325) hx hb dX1_apply_292 (by decide) ?_
                  exact y_vret C hW hr hlocks ((if_neg c78).trans ((if_neg c107).trans ((if_neg c136).trans ((if_neg c171).trans ((if_neg c207).trans ((if_neg c243).trans (if_pos c273))))))).symm dX1_apply_325
              · refine lv_aload_n hx hb dX1_apply_246 rfl (lv_at hl 2 rfl) ?_
                refine lv_aload_n hx hb dX1_apply_247 rfl (lv_at hl 2 rfl) ?_
                refine y_get C hW 2 (by decide) q206 rfl rfl dX1_apply_248 ?_
                refine lv_iload_n hx hb dX1_apply_251 rfl (lv_at hl 3 rfl) ?_
                refine y_ld_ax C hW hi40 dX1_apply_252 ?_
                refine lv_aload_n hx hb dX1_apply_253 rfl (lv_at hl 2 rfl) ?_
                refine y_get C hW 9 (by decide) q213 rfl rfl dX1_apply_254 ?_
                refine lv_iload_n hx hb dX1_apply_257 rfl (lv_at hl 1 rfl) ?_
                refine y_ld_pa C hW (hS.le _) dX1_apply_258 ?_
                refine y_callv C hW (As := [_, _]) (rest := []) (mY_join l D h dA _ _ _ (hS.ax _) (hS.pa _) hS) cbY_join ⟨by decide, by decide⟩ ⟨rfl, rfl⟩ ⟨Nat.zero_le _, Nat.zero_le _⟩ rfl hl.1 rfl (Nat.le_of_ble_eq_true rfl) dX1_apply_259 (fun u' H locs hp hW => ?_)
                subst hp
                refine lv_goto (tgt := 325) hx hb dX1_apply_262 (by decide) ?_
                exact y_vret C hW hr hlocks ((if_neg c78).trans ((if_neg c107).trans ((if_neg c136).trans ((if_neg c171).trans ((if_neg c207).trans (if_pos c243)))))).symm dX1_apply_325
            · refine lv_aload_n hx hb dX1_apply_210 rfl (lv_at hl 2 rfl) ?_
              refine lv_aload_n hx hb dX1_apply_211 rfl (lv_at hl 2 rfl) ?_
              refine y_get C hW 2 (by decide) q206 rfl rfl dX1_apply_212 ?_
              refine lv_iload_n hx hb dX1_apply_215 rfl (lv_at hl 3 rfl) ?_
              refine y_ld_ax C hW hi40 dX1_apply_216 ?_
              refine lv_aload_n hx hb dX1_apply_217 rfl (lv_at hl 2 rfl) ?_
              refine y_get C hW 7 (by decide) q211 rfl rfl dX1_apply_218 ?_
              refine lv_iload_n hx hb dX1_apply_221 rfl (lv_at hl 1 rfl) ?_
              refine y_ld_iv C hW (hS.le _) dX1_apply_222 ?_
              refine lv_aload_n hx hb dX1_apply_223 rfl (lv_at hl 2 rfl) ?_
              refine y_get C hW 7 (by decide) q211 rfl rfl dX1_apply_224 ?_
              refine lv_iload_n hx hb dX1_apply_227 rfl (lv_at hl 0 rfl) ?_
              refine y_ld_iv C hW (hS.le _) dX1_apply_228 ?_
              refine lv_imul hx hb dX1_apply_229 ?_
              refine y_callv C hW (As := [_, _]) (rest := []) (mY_beInt l D h dA _ _ (hS.ax _) _ hS) cbY_beInt ⟨by decide, by decide⟩ ⟨rfl, rfl⟩ ⟨Nat.zero_le _, Nat.zero_le _⟩ rfl hl.1 rfl (Nat.le_of_ble_eq_true rfl) dX1_apply_230 (fun u' H locs hp hW => ?_)
              subst hp
              refine lv_goto (tgt := 325) hx hb dX1_apply_233 (by decide) ?_
              exact y_vret C hW hr hlocks ((if_neg c78).trans ((if_neg c107).trans ((if_neg c136).trans ((if_neg c171).trans (if_pos c207))))).symm dX1_apply_325
          · refine lv_aload_n hx hb dX1_apply_174 rfl (lv_at hl 2 rfl) ?_
            refine lv_aload_n hx hb dX1_apply_175 rfl (lv_at hl 2 rfl) ?_
            refine y_get C hW 2 (by decide) q206 rfl rfl dX1_apply_176 ?_
            refine lv_iload_n hx hb dX1_apply_179 rfl (lv_at hl 3 rfl) ?_
            refine y_ld_ax C hW hi40 dX1_apply_180 ?_
            refine lv_aload_n hx hb dX1_apply_181 rfl (lv_at hl 2 rfl) ?_
            refine y_get C hW 7 (by decide) q211 rfl rfl dX1_apply_182 ?_
            refine lv_iload_n hx hb dX1_apply_185 rfl (lv_at hl 1 rfl) ?_
            refine y_ld_iv C hW (hS.le _) dX1_apply_186 ?_
            refine lv_aload_n hx hb dX1_apply_187 rfl (lv_at hl 2 rfl) ?_
            refine y_get C hW 7 (by decide) q211 rfl rfl dX1_apply_188 ?_
            refine lv_iload_n hx hb dX1_apply_191 rfl (lv_at hl 0 rfl) ?_
            refine y_ld_iv C hW (hS.le _) dX1_apply_192 ?_
            refine lv_iadd hx hb dX1_apply_193 ?_
            refine y_callv C hW (As := [_, _]) (rest := []) (mY_beInt l D h dA _ _ (hS.ax _) _ hS) cbY_beInt ⟨by decide, by decide⟩ ⟨rfl, rfl⟩ ⟨Nat.zero_le _, Nat.zero_le _⟩ rfl hl.1 rfl (Nat.le_of_ble_eq_true rfl) dX1_apply_194 (fun u' H locs hp hW => ?_)
            subst hp
            refine lv_goto (tgt := 325) hx hb dX1_apply_197 (by decide) ?_
            exact y_vret C hW hr hlocks ((if_neg c78).trans ((if_neg c107).trans ((if_neg c136).trans (if_pos c171)))).symm dX1_apply_325
        · refine lv_aload_n hx hb dX1_apply_139 rfl (lv_at hl 2 rfl) ?_
          refine lv_aload_n hx hb dX1_apply_140 rfl (lv_at hl 2 rfl) ?_
          refine y_get C hW 2 (by decide) q206 rfl rfl dX1_apply_141 ?_
          refine lv_iload_n hx hb dX1_apply_144 rfl (lv_at hl 3 rfl) ?_
          refine y_ld_ax C hW hi40 dX1_apply_145 ?_
          refine lv_aload_n hx hb dX1_apply_146 rfl (lv_at hl 2 rfl) ?_
          refine y_get C hW 3 (by decide) q207 rfl rfl dX1_apply_147 ?_
          refine lv_iload_n hx hb dX1_apply_150 rfl (lv_at hl 3 rfl) ?_
          refine y_ld_ay C hW hi40 dX1_apply_151 ?_
          have hay := hS.ay hi (by omega)
          have haz := hS.az hi (Or.inl c136)
          refine w_topi hay.1 ?_
          refine lv_aload_n hx hb dX1_apply_152 rfl (lv_at hl 2 rfl) ?_
          refine y_get C hW 4 (by decide) q208 rfl rfl dX1_apply_153 ?_
          refine lv_iload_n hx hb dX1_apply_156 rfl (lv_at hl 3 rfl) ?_
          refine y_ld_az C hW hi40 dX1_apply_157 ?_
          refine w_topi haz.1 ?_
          refine y_callv C hW (As := [_, _, _]) (rest := []) (mY_bePair l D h dA _ _ _ _ (hS.ax _) hay.2 haz.2 hS) cbY_bePair ⟨by decide, by decide⟩ ⟨rfl, rfl⟩ ⟨Nat.zero_le _, Nat.zero_le _⟩ rfl hl.1 rfl (Nat.le_of_ble_eq_true rfl) dX1_apply_158 (fun u' H locs hp hW => ?_)
          subst hp
          refine lv_goto (tgt := 325) hx hb dX1_apply_161 (by decide) ?_
          exact y_vret C hW hr hlocks ((if_neg c78).trans ((if_neg c107).trans (if_pos c136))).symm dX1_apply_325
      · refine lv_aload_n hx hb dX1_apply_110 rfl (lv_at hl 2 rfl) ?_
        refine lv_aload_n hx hb dX1_apply_111 rfl (lv_at hl 2 rfl) ?_
        refine y_get C hW 2 (by decide) q206 rfl rfl dX1_apply_112 ?_
        refine lv_iload_n hx hb dX1_apply_115 rfl (lv_at hl 3 rfl) ?_
        refine y_ld_ax C hW hi40 dX1_apply_116 ?_
        refine lv_aload_n hx hb dX1_apply_117 rfl (lv_at hl 2 rfl) ?_
        refine y_get C hW 3 (by decide) q207 rfl rfl dX1_apply_118 ?_
        refine lv_iload_n hx hb dX1_apply_121 rfl (lv_at hl 3 rfl) ?_
        refine y_ld_ay C hW hi40 dX1_apply_122 ?_
        refine y_callv C hW (As := [_, _]) (rest := []) (mY_beInt l D h dA _ _ (hS.ax _) _ hS) cbY_beInt ⟨by decide, by decide⟩ ⟨rfl, rfl⟩ ⟨Nat.zero_le _, Nat.zero_le _⟩ rfl hl.1 rfl (Nat.le_of_ble_eq_true rfl) dX1_apply_123 (fun u' H locs hp hW => ?_)
        subst hp
        refine lv_goto (tgt := 325) hx hb dX1_apply_126 (by decide) ?_
        exact y_vret C hW hr hlocks ((if_neg c78).trans (if_pos c107)).symm dX1_apply_325
    · refine lv_aload_n hx hb dX1_apply_81 rfl (lv_at hl 2 rfl) ?_
      refine lv_aload_n hx hb dX1_apply_82 rfl (lv_at hl 2 rfl) ?_
      refine y_get C hW 2 (by decide) q206 rfl rfl dX1_apply_83 ?_
      refine lv_iload_n hx hb dX1_apply_86 rfl (lv_at hl 3 rfl) ?_
      refine y_ld_ax C hW hi40 dX1_apply_87 ?_
      refine lv_aload_n hx hb dX1_apply_88 rfl (lv_at hl 2 rfl) ?_
      refine y_get C hW 3 (by decide) q207 rfl rfl dX1_apply_89 ?_
      refine lv_iload_n hx hb dX1_apply_92 rfl (lv_at hl 3 rfl) ?_
      refine y_ld_ay C hW hi40 dX1_apply_93 ?_
      have hay := hS.ay hi (by omega)
      refine w_topi hay.1 ?_
      refine y_callv C hW (As := [_, _]) (rest := []) (mY_join l D h dA _ _ _ (hS.ax _) hay.2 hS) cbY_join ⟨by decide, by decide⟩ ⟨rfl, rfl⟩ ⟨Nat.zero_le _, Nat.zero_le _⟩ rfl hl.1 rfl (Nat.le_of_ble_eq_true rfl) dX1_apply_94 (fun u' H locs hp hW => ?_)
      subst hp
      refine lv_goto (tgt := 325) hx hb dX1_apply_97 (by decide) ?_
      exact y_vret C hW hr hlocks (if_pos c78).symm dX1_apply_325
  have k71 : ∀ (ls : Array Slot), lv_has ls 4 [(2, .int (nI (w.le (ys_cl (w.ay i))))), (0, .ref (h 0)), (1, .int (nI i))] → W p l e (rmN 3) s m (.ref (h 0) :: [.int (nI i)]).toArray below meth c s.heap [] 0 0 (MQ below (YQv D h dA (fun w' => w' = ys_apply w i)) (.ref (h 0) :: [.int (nI i)]).toArray s 0 0 (AY h)) (F0 m 71 ls [.int (nI (w.le (ys_cl (w.az i))))]) := by
    intro ls hl
    refine lv_istore_n (lv' := [(3, _), (2, _), (0, _), (1, _)]) hx hb dX1_apply_71 rfl hl (by decide) rfl (fun ls hl => ?_)
    exact k72 ls hl
  have k36 : ∀ (ls : Array Slot), lv_has ls 4 [(2, .int (nI (w.le (ys_cl (w.ay i))))), (0, .ref (h 0)), (1, .int (nI i))] → W p l e (rmN 3) s m (.ref (h 0) :: [.int (nI i)]).toArray below meth c s.heap [] 0 0 (MQ below (YQv D h dA (fun w' => w' = ys_apply w i)) (.ref (h 0) :: [.int (nI i)]).toArray s 0 0 (AY h)) (F0 m 36 ls []) := by
    intro ls hl
    have k71 := k71 ls hl
    refine lv_aload_n hx hb dX1_apply_36 rfl (lv_at hl 1 rfl) ?_
    refine y_get C hW 5 (by decide) q209 rfl rfl dX1_apply_37 ?_
    refine lv_aload_n hx hb dX1_apply_40 rfl (lv_at hl 1 rfl) ?_
    refine y_get C hW 4 (by decide) q208 rfl rfl dX1_apply_41 ?_
    refine lv_iload_n hx hb dX1_apply_44 rfl (lv_at hl 2 rfl) ?_
    refine y_ld_az C hW hi40 dX1_apply_45 ?_
    refine lv_if_lt (tgt := 60) hx hb dX1_apply_46 (by decide) (fun c46 => ?_) (fun c46 => ?_)
    · have hnv : ys_cl (w.az i) = 0 := by
        unfold ys_cl isV
        simp [c46]
      rw [hnv] at k71
      refine lv_iconst (v := nI 0) hx hb dX1_apply_60 (by decide) ?_
      refine lv_goto (tgt := 70) hx hb dX1_apply_61 (by decide) ?_
      refine y_ld_le C hW (by decide) dX1_apply_70 ?_
      exact k71
    · refine lv_aload_n hx hb dX1_apply_49 rfl (lv_at hl 1 rfl) ?_
      refine y_get C hW 4 (by decide) q208 rfl rfl dX1_apply_50 ?_
      refine lv_iload_n hx hb dX1_apply_53 rfl (lv_at hl 2 rfl) ?_
      refine y_ld_az C hW hi40 dX1_apply_54 ?_
      refine lv_bipush (v := 11) hx hb dX1_apply_55 (by decide) ?_
      refine lv_icmp_le (tgt := 64) hx hb dX1_apply_57 (by decide) (fun c57 => ?_) (fun c57 => ?_)
      · have hv : isV (w.az i) = true := by
          unfold isV
          simp [c46, Int32.not_lt.mpr c57]
        have hcl : ys_cl (w.az i) = vN (w.az i) := if_pos hv
        have hay := isV_eq hv
        rw [hcl] at k71
        refine lv_aload_n hx hb dX1_apply_64 rfl (lv_at hl 1 rfl) ?_
        refine y_get C hW 4 (by decide) q208 rfl rfl dX1_apply_65 ?_
        refine lv_iload_n hx hb dX1_apply_68 rfl (lv_at hl 2 rfl) ?_
        refine y_ld_az C hW hi40 dX1_apply_69 ?_
        refine w_topi hay.1 ?_
        refine y_ld_le C hW hay.2 dX1_apply_70 ?_
        exact k71
      · have hnv : ys_cl (w.az i) = 0 := by
          unfold ys_cl isV
          simp [Int32.not_le.mp c57]
        rw [hnv] at k71
        refine lv_iconst (v := nI 0) hx hb dX1_apply_60 (by decide) ?_
        refine lv_goto (tgt := 70) hx hb dX1_apply_61 (by decide) ?_
        refine y_ld_le C hW (by decide) dX1_apply_70 ?_
        exact k71
  have k35 : W p l e (rmN 3) s m (.ref (h 0) :: [.int (nI i)]).toArray below meth c s.heap [] 0 0 (MQ below (YQv D h dA (fun w' => w' = ys_apply w i)) (.ref (h 0) :: [.int (nI i)]).toArray s 0 0 (AY h)) (F0 m 35 ls [.int (nI (w.le (ys_cl (w.ay i))))]) := by
    refine lv_istore_n (lv' := [(2, _), (0, _), (1, _)]) hx hb dX1_apply_35 rfl hl (by decide) rfl (fun ls hl => ?_)
    exact k36 ls hl
  refine lv_aload_n hx hb dX1_apply_0 rfl (lv_at hl 0 rfl) ?_
  refine y_get C hW 5 (by decide) q209 rfl rfl dX1_apply_1 ?_
  refine lv_aload_n hx hb dX1_apply_4 rfl (lv_at hl 0 rfl) ?_
  refine y_get C hW 3 (by decide) q207 rfl rfl dX1_apply_5 ?_
  refine lv_iload_n hx hb dX1_apply_8 rfl (lv_at hl 1 rfl) ?_
  refine y_ld_ay C hW hi40 dX1_apply_9 ?_
  refine lv_if_lt (tgt := 24) hx hb dX1_apply_10 (by decide) (fun c10 => ?_) (fun c10 => ?_)
  · have hnv : ys_cl (w.ay i) = 0 := by
      unfold ys_cl isV
      simp [c10]
    rw [hnv] at k35
    refine lv_iconst (v := nI 0) hx hb dX1_apply_24 (by decide) ?_
    refine lv_goto (tgt := 34) hx hb dX1_apply_25 (by decide) ?_
    refine y_ld_le C hW (by decide) dX1_apply_34 ?_
    exact k35
  · refine lv_aload_n hx hb dX1_apply_13 rfl (lv_at hl 0 rfl) ?_
    refine y_get C hW 3 (by decide) q207 rfl rfl dX1_apply_14 ?_
    refine lv_iload_n hx hb dX1_apply_17 rfl (lv_at hl 1 rfl) ?_
    refine y_ld_ay C hW hi40 dX1_apply_18 ?_
    refine lv_bipush (v := 11) hx hb dX1_apply_19 (by decide) ?_
    refine lv_icmp_le (tgt := 28) hx hb dX1_apply_21 (by decide) (fun c21 => ?_) (fun c21 => ?_)
    · have hv : isV (w.ay i) = true := by
        unfold isV
        simp [c10, Int32.not_lt.mpr c21]
      have hcl : ys_cl (w.ay i) = vN (w.ay i) := if_pos hv
      have hay := isV_eq hv
      rw [hcl] at k35
      refine lv_aload_n hx hb dX1_apply_28 rfl (lv_at hl 0 rfl) ?_
      refine y_get C hW 3 (by decide) q207 rfl rfl dX1_apply_29 ?_
      refine lv_iload_n hx hb dX1_apply_32 rfl (lv_at hl 1 rfl) ?_
      refine y_ld_ay C hW hi40 dX1_apply_33 ?_
      refine w_topi hay.1 ?_
      refine y_ld_le C hW hay.2 dX1_apply_34 ?_
      exact k35
    · have hnv : ys_cl (w.ay i) = 0 := by
        unfold ys_cl isV
        simp [Int32.not_le.mp c21]
      rw [hnv] at k35
      refine lv_iconst (v := nI 0) hx hb dX1_apply_24 (by decide) ?_
      refine lv_goto (tgt := 34) hx hb dX1_apply_25 (by decide) ?_
      refine y_ld_le C hW (by decide) dX1_apply_34 ?_
      exact k35
set_option maxHeartbeats 4000000 in
set_option maxRecDepth 100000 in
/-- follow() -/
theorem mY_follow (l : Launch) (D : va_G) (h : Nat → Nat) (dA : Nat → ClassId) (w : YSt) (hS : YSr w) : Met l yX1_follow (ws_ yX1_follow cX1_follow 3 none) (rmN 4) (YPc D h dA w []) (YQv D h dA (fun w' => w' = ys_follow w)) 0 0 (AY h) := by
  refine y_met rfl (Nat.le_of_ble_eq_true rfl) ?_
  intro p e s m below meth c ls C hr hlocks hW hl
  have hx := C.1
  have hb := C.2.1
  have hl : lv_has ls 3 [(0, .ref (h 0))] := hl
  generalize hw1 : (ys_init w 12).s_fr true = w1
  have hS1 : YSr w1 := by rw [← hw1]; exact hS.init 12 (by decide)
  have hfo : ys_follow w = ys_rounds w1 40 := by rw [← hw1]; rfl
  have loop2 : ∀ (n k : Nat) (H : Heap) (locs : List Loc) (ls : Array Slot), 40 < n + k → k ≤ 40 → YW D h dA (ys_rounds w1 k) s.heap H locs → lv_has ls 3 [(1, .int (nI k)), (0, .ref (h 0))] → W p l e (rmN 4) s m (.ref (h 0) :: []).toArray below meth c H locs 0 0 (MQ below (YQv D h dA (fun w' => w' = ys_follow w)) (.ref (h 0) :: []).toArray s 0 0 (AY h)) (F0 m 42 ls []) := by
    intro n
    induction n with
    | zero => intro k H locs ls hn hk; exact absurd hn (by omega)
    | succ n ih =>
      intro k H locs ls hn hk hW hl
      have hSk := hS1.rounds k
      generalize hv : ys_rounds w1 k = v at hW hSk
      have loop3 : v.fr = true → v.bk = false → k < 40 → ∀ (n2 j : Nat) (H : Heap) (locs : List Loc) (ls : Array Slot), v.n < n2 + j → j ≤ v.n → YW D h dA (ys_pass (v.s_fr false) j) s.heap H locs → lv_has ls 3 [(2, .int (nI j)), (1, .int (nI k)), (0, .ref (h 0))] → W p l e (rmN 4) s m (.ref (h 0) :: []).toArray below meth c H locs 0 0 (MQ below (YQv D h dA (fun w' => w' = ys_follow w)) (.ref (h 0) :: []).toArray s 0 0 (AY h)) (F0 m 69 ls []) := by
        intro hfr hbk hk40 n2
        have hS0 : YSr (v.s_fr false) := hSk
        have hnx : ys_rounds w1 (k + 1) = ys_pass (v.s_fr false) v.n := by
          show ys_go (ys_rounds w1 k) = _
          rw [hv]
          exact if_pos ⟨hfr, hbk⟩
        have hn40 : v.n ≤ 40 := hSk.1
        induction n2 with
        | zero => intro j H locs ls hn hj; exact absurd hn (by omega)
        | succ n2 ih2 =>
          intro j H locs ls hn2 hj hW hl
          have hSj := hS0.pass j hj
          have hnj : (ys_pass (v.s_fr false) j).n = v.n := (same_pass (v.s_fr false) j).1
          generalize hz : ys_pass (v.s_fr false) j = z at hW hSj hnj
          refine lv_iload_n hx hb dX1_follow_69 rfl (lv_at hl 0 rfl) ?_
          refine lv_aload_n hx hb dX1_follow_70 rfl (lv_at hl 2 rfl) ?_
          refine y_get C hW 0 (by decide) q204 rfl rfl dX1_follow_71 ?_
          refine n_icmp_ge (tgt := 103) hx hb (by omega) (by rw [hnj]; omega) dX1_follow_74 (by decide) (fun c74 => ?_) (fun c74 => ?_)
          · have hW : YW D h dA (ys_rounds w1 (k + 1)) s.heap H locs := by rw [hnx, show v.n = j by omega, hz]; exact hW
            refine lv_iinc (lv' := [(1, _), (2, _), (0, _)]) hx hb dX1_follow_103 hl (k := 1) rfl (nI_1 _) (by decide) rfl (fun ls hl => ?_)
            refine lv_goto (tgt := 42) hx hb dX1_follow_106 (by decide) ?_
            exact ih (k + 1) H locs ls (by omega) (by omega) hW (lv_sub hl [0, 2] rfl)
          · refine lv_aload_n hx hb dX1_follow_77 rfl (lv_at hl 2 rfl) ?_
            refine y_get C hW 11 (by decide) q215 rfl rfl dX1_follow_78 ?_
            refine b_if_ne (tgt := 103) hx hb dX1_follow_81 (by decide) (fun c81 => ?_) (fun c81 => ?_)
            · have hW : YW D h dA (ys_rounds w1 (k + 1)) s.heap H locs := by rw [hnx, pass_stop (by rw [hz]; exact c81) v.n hj, hz]; exact hW
              refine lv_iinc (lv' := [(1, _), (2, _), (0, _)]) hx hb dX1_follow_103 hl (k := 1) rfl (nI_1 _) (by decide) rfl (fun ls hl => ?_)
              refine lv_goto (tgt := 42) hx hb dX1_follow_106 (by decide) ?_
              exact ih (k + 1) H locs ls (by omega) (by omega) hW (lv_sub hl [0, 2] rfl)
            · refine lv_aload_n hx hb dX1_follow_84 rfl (lv_at hl 2 rfl) ?_
              refine lv_iload_n hx hb dX1_follow_85 rfl (lv_at hl 0 rfl) ?_
              refine y_callz C hW (As := [_]) (rest := []) (mY_ready l D h dA _ j (by omega) hSj) cbY_ready ⟨by decide, by decide⟩ ⟨rfl, rfl⟩ ⟨Nat.zero_le _, Nat.zero_le _⟩ rfl hl.1 rfl (Nat.le_of_ble_eq_true rfl) dX1_follow_86 (fun r u' H locs hp hW => ?_)
              obtain ⟨hre, hu⟩ := hp
              rw [hu] at hW
              clear hu
              subst hre
              refine b_if_eq (tgt := 97) hx hb dX1_follow_89 (by decide) (fun c89 => ?_) (fun c89 => ?_)
              · refine lv_iinc (lv' := [(2, _), (1, _), (0, _)]) hx hb dX1_follow_97 hl (k := 0) rfl (nI_1 _) (by decide) rfl (fun ls hl => ?_)
                refine lv_goto (tgt := 69) hx hb dX1_follow_100 (by decide) ?_
                exact ih2 (j + 1) H locs ls (by omega) (by omega) (by show YW D h dA (ys_one (ys_pass (v.s_fr false) j) j) s.heap H locs; rw [hz]; unfold ys_one; rw [if_neg (by rw [c81]; decide), if_neg (by rw [c89]; decide)]; exact hW) hl
              · refine lv_aload_n hx hb dX1_follow_92 rfl (lv_at hl 2 rfl) ?_
                refine lv_iload_n hx hb dX1_follow_93 rfl (lv_at hl 0 rfl) ?_
                refine y_callv C hW (As := [_]) (rest := []) (mY_apply l D h dA _ j (by omega) hSj) cbY_apply ⟨by decide, by decide⟩ ⟨rfl, rfl⟩ ⟨Nat.zero_le _, Nat.zero_le _⟩ rfl hl.1 rfl (Nat.le_of_ble_eq_true rfl) dX1_follow_94 (fun u' H locs hp hW => ?_)
                subst hp
                refine lv_iinc (lv' := [(2, _), (1, _), (0, _)]) hx hb dX1_follow_97 hl (k := 0) rfl (nI_1 _) (by decide) rfl (fun ls hl => ?_)
                refine lv_goto (tgt := 69) hx hb dX1_follow_100 (by decide) ?_
                exact ih2 (j + 1) H locs ls (by omega) (by omega) (by show YW D h dA (ys_one (ys_pass (v.s_fr false) j) j) s.heap H locs; rw [hz]; unfold ys_one; rw [if_neg (by rw [c81]; decide), if_pos c89]; exact hW) hl
      refine lv_iload_n hx hb dX1_follow_42 rfl (lv_at hl 0 rfl) ?_
      refine lv_bipush (v := nI 40) hx hb dX1_follow_43 (by decide) ?_
      refine n_icmp_ge (tgt := 109) hx hb (by omega) (by omega) dX1_follow_45 (by decide) (fun c45 => ?_) (fun c45 => ?_)
      · exact y_vret C hW hr hlocks (by rw [hfo, show 40 = k by omega]; exact hv.symm) dX1_follow_109
      · refine lv_aload_n hx hb dX1_follow_48 rfl (lv_at hl 1 rfl) ?_
        refine y_get C hW 12 (by decide) q216 rfl rfl dX1_follow_49 ?_
        refine b_if_eq (tgt := 109) hx hb dX1_follow_52 (by decide) (fun c52 => ?_) (fun c52 => ?_)
        · exact y_vret C hW hr hlocks (by rw [hfo, rounds_stop (i := k) (by rw [hv]; intro q; rw [c52] at q; exact absurd q.1 (by decide)) 40 (by omega)]; exact hv.symm) dX1_follow_109
        · refine lv_aload_n hx hb dX1_follow_55 rfl (lv_at hl 1 rfl) ?_
          refine y_get C hW 11 (by decide) q215 rfl rfl dX1_follow_56 ?_
          refine b_if_ne (tgt := 109) hx hb dX1_follow_59 (by decide) (fun c59 => ?_) (fun c59 => ?_)
          · exact y_vret C hW hr hlocks (by rw [hfo, rounds_stop (i := k) (by rw [hv]; intro q; rw [c59] at q; exact absurd q.2 (by decide)) 40 (by omega)]; exact hv.symm) dX1_follow_109
          · refine lv_aload_n hx hb dX1_follow_62 rfl (lv_at hl 1 rfl) ?_
            refine lv_iconst (v := bI false) hx hb dX1_follow_63 (by decide) ?_
            refine y_put_fr C hW q216 dX1_follow_64 (fun H locs hW => ?_)
            refine lv_iconst (v := nI 0) hx hb dX1_follow_67 (by decide) ?_
            refine lv_istore_n (lv' := [(2, _), (1, _), (0, _)]) hx hb dX1_follow_68 rfl hl (by decide) rfl (fun ls hl => ?_)
            exact loop3 c52 c59 (by omega) (v.n + 1) 0 H locs ls (by omega) (Nat.zero_le _) hW hl
  have loop1 : ∀ (n i : Nat) (H : Heap) (locs : List Loc) (ls : Array Slot), 12 < n + i → i ≤ 12 → YW D h dA (ys_init w i) s.heap H locs → lv_has ls 3 [(1, .int (nI i)), (0, .ref (h 0))] → W p l e (rmN 4) s m (.ref (h 0) :: []).toArray below meth c H locs 0 0 (MQ below (YQv D h dA (fun w' => w' = ys_follow w)) (.ref (h 0) :: []).toArray s 0 0 (AY h)) (F0 m 2 ls []) := by
    intro n
    induction n with
    | zero => intro i H locs ls hn hi; exact absurd hn (by omega)
    | succ n ih =>
      intro i H locs ls hn hi hW hl
      refine lv_iload_n hx hb dX1_follow_2 rfl (lv_at hl 0 rfl) ?_
      refine lv_bipush (v := nI 12) hx hb dX1_follow_3 (by decide) ?_
      refine n_icmp_ge (tgt := 35) hx hb (by omega) (by omega) dX1_follow_5 (by decide) (fun c5 => ?_) (fun c5 => ?_)
      · have hi12 : i = 12 := by omega
        subst hi12
        refine lv_aload_n hx hb dX1_follow_35 rfl (lv_at hl 1 rfl) ?_
        refine lv_iconst (v := bI true) hx hb dX1_follow_36 (by decide) ?_
        refine y_put_fr C hW q216 dX1_follow_37 (fun H locs hW => ?_)
        refine lv_iconst (v := nI 0) hx hb dX1_follow_40 (by decide) ?_
        refine lv_istore_n (lv' := [(1, _), (0, _)]) hx hb dX1_follow_41 rfl hl (by decide) rfl (fun ls hl => ?_)
        exact loop2 41 0 H locs ls (by omega) (Nat.zero_le _) (by rw [← hw1]; exact hW) hl
      · refine lv_aload_n hx hb dX1_follow_8 rfl (lv_at hl 1 rfl) ?_
        refine y_get C hW 5 (by decide) q209 rfl rfl dX1_follow_9 ?_
        refine lv_iload_n hx hb dX1_follow_12 rfl (lv_at hl 0 rfl) ?_
        refine lv_iload_n hx hb dX1_follow_13 rfl (lv_at hl 0 rfl) ?_
        refine y_st_le C hW (by omega) dX1_follow_14 (fun H locs hW => ?_)
        refine lv_aload_n hx hb dX1_follow_15 rfl (lv_at hl 1 rfl) ?_
        refine y_get C hW 6 (by decide) q210 rfl rfl dX1_follow_16 ?_
        refine lv_iload_n hx hb dX1_follow_19 rfl (lv_at hl 0 rfl) ?_
        refine lv_iconst (v := bI false) hx hb dX1_follow_20 (by decide) ?_
        refine y_st_ii C hW (by omega) dX1_follow_21 (fun H locs hW => ?_)
        refine lv_aload_n hx hb dX1_follow_22 rfl (lv_at hl 1 rfl) ?_
        refine y_get C hW 8 (by decide) q212 rfl rfl dX1_follow_23 ?_
        refine lv_iload_n hx hb dX1_follow_26 rfl (lv_at hl 0 rfl) ?_
        refine lv_iconst (v := bI false) hx hb dX1_follow_27 (by decide) ?_
        refine y_st_ip C hW (by omega) dX1_follow_28 (fun H locs hW => ?_)
        refine lv_iinc (lv' := [(1, _), (0, _)]) hx hb dX1_follow_29 hl (k := 0) rfl (nI_1 _) (by decide) rfl (fun ls hl => ?_)
        refine lv_goto (tgt := 2) hx hb dX1_follow_32 (by decide) ?_
        exact ih (i + 1) H locs ls (by omega) (by omega) (by rw [← init_s]; exact hW) hl
  refine lv_iconst (v := nI 0) hx hb dX1_follow_0 (by decide) ?_
  refine lv_istore_n (lv' := [(1, _), (0, _)]) hx hb dX1_follow_1 rfl hl (by decide) rfl (fun ls hl => ?_)
  exact loop1 13 0 s.heap [] ls (by omega) (Nat.zero_le _) (by rw [init_0]; exact hW) hl
end
section
set_option maxRecDepth 100000
theorem yf_of {k x y z : Int32} (h : yf k x y z = true) : (k = nI (vN k) ∧ vN k < 8) ∧ (x = nI (vN x) ∧ vN x < 12) ∧ (vN k ≠ 1 → isV y = true) ∧ (vN k = 2 ∨ vN k = 3 ∨ vN k = 4 ∨ vN k = 7 → isV z = true) := by
  unfold yf at h
  simp only [Bool.and_eq_true, Bool.or_eq_true, Bool.not_eq_true', decide_eq_false_iff_not, decide_eq_true_eq] at h
  obtain ⟨h1, h2, h3, h4, h5⟩ := h
  obtain ⟨j, hj, rfl⟩ := nI_of2 (M := 7) (n := 7) (by decide) h1 h2
  have hv : vN (nI j) = j := nI_clamp (by omega)
  rw [hv]
  have key : ∀ n : Nat, n < 8 → nI j = nI n → j = n := fun n hn e => (nI_eq (by omega) (by omega)).mp e
  refine ⟨⟨rfl, by omega⟩, isV_eq h3, fun e => ?_, fun e => ?_⟩
  · rcases h4 with q | q
    · exact absurd (key 1 (by decide) q) e
    · exact q
  · rcases h5 with q | q | q | q | q
    · have := key 0 (by decide) q; omega
    · have := key 1 (by decide) q; omega
    · have := key 5 (by decide) q; omega
    · have := key 6 (by decide) q; omega
    · exact q
theorem YSr.add {w : YSt} (h : YSr w) (hn : w.n ≠ 40) {k x : Nat} {y z : Int32} (hk : k < 8) (hx : x < 12) (hy : k ≠ 1 → isV y = true) (hz : k = 2 ∨ k = 3 ∨ k = 4 ∨ k = 7 → isV z = true) : YSr (ys_add w k x y z) := by
  obtain ⟨h0, h1, h2, h3, h4, h5, h6⟩ := h
  refine ⟨show w.n + 1 ≤ 40 by omega, h1, h2, h3, up_lt h4 hk, up_lt h5 hx, fun i hi => ?_⟩
  show (va_up w.kd w.n k i ≠ 1 → isV (va_up w.ay w.n y i) = true) ∧ (va_up w.kd w.n k i = 2 ∨ va_up w.kd w.n k i = 3 ∨ va_up w.kd w.n k i = 4 ∨ va_up w.kd w.n k i = 7 → isV (va_up w.az w.n z i) = true)
  have hi : i < w.n + 1 := hi
  by_cases e : i = w.n
  · subst e
    simp only [va_up, if_true]
    exact ⟨hy, hz⟩
  · simp only [va_up, if_neg e]
    exact h6 i (by omega)
set_option maxHeartbeats 4000000 in
set_option maxRecDepth 100000 in
/-- fits(k, x, y, z) -/
theorem mY_fits (l : Launch) (D : va_G) (h : Nat → Nat) (dA : Nat → ClassId) (w : YSt) (k x y z : Int32) : Met l yX1_fits (ws_ yX1_fits cX1_fits 5 (some .boolean)) (rmN 1) (YPc D h dA w [.int k, .int x, .int y, .int z]) (YQi D h dA (fun r w' => r = bI (yf k x y z) ∧ w' = w)) 0 0 (AY h) := by
  refine y_met rfl (Nat.le_of_ble_eq_true rfl) ?_
  intro p e s m below meth c ls C hr hlocks hW hl
  have hx := C.1
  have hb := C.2.1
  have hl : lv_has ls 5 [(0, .ref (h 0)), (1, .int k), (2, .int x), (3, .int y), (4, .int z)] := hl
  refine lv_iload_n hx hb dX1_fits_0 rfl (lv_at hl 1 rfl) ?_
  refine lv_if_lt (tgt := 18) hx hb dX1_fits_1 (by decide) (fun c1 => ?_) (fun c1 => ?_)
  · refine lv_iconst (v := bI false) hx hb dX1_fits_18 (by decide) ?_
    exact y_zret C hW hr hlocks ⟨by simp [yf, c1], rfl⟩ dX1_fits_19
  · refine lv_iload_n hx hb dX1_fits_4 rfl (lv_at hl 1 rfl) ?_
    refine lv_bipush (v := 7) hx hb dX1_fits_5 (by decide) ?_
    refine lv_icmp_gt (tgt := 18) hx hb dX1_fits_7 (by decide) (fun c7 => ?_) (fun c7 => ?_)
    · refine lv_iconst (v := bI false) hx hb dX1_fits_18 (by decide) ?_
      exact y_zret C hW hr hlocks ⟨by simp [yf, c1, Int32.not_le.mpr c7], rfl⟩ dX1_fits_19
    · refine lv_aload_n hx hb dX1_fits_10 rfl (lv_at hl 0 rfl) ?_
      refine lv_iload_n hx hb dX1_fits_11 rfl (lv_at hl 2 rfl) ?_
      refine y_callz C hW (As := [_]) (rest := []) (mY_isVariable l D h dA _ x) cbY_isVariable ⟨by decide, by decide⟩ ⟨rfl, rfl⟩ ⟨Nat.zero_le _, Nat.zero_le _⟩ rfl hl.1 rfl (Nat.le_of_ble_eq_true rfl) dX1_fits_12 (fun r u' H locs hp hW => ?_)
      obtain ⟨hre, hu⟩ := hp
      rw [hu] at hW
      clear hu
      subst hre
      refine b_if_ne (tgt := 20) hx hb dX1_fits_15 (by decide) (fun c15 => ?_) (fun c15 => ?_)
      · refine lv_iload_n hx hb dX1_fits_20 rfl (lv_at hl 1 rfl) ?_
        refine lv_iconst (v := 1) hx hb dX1_fits_21 (by decide) ?_
        refine lv_icmp_eq (tgt := 35) hx hb dX1_fits_22 (by decide) (fun c22 => ?_) (fun c22 => ?_)
        · refine lv_iload_n hx hb dX1_fits_35 rfl (lv_at hl 1 rfl) ?_
          refine lv_if_eq (tgt := 64) hx hb dX1_fits_36 (by decide) (fun c36 => ?_) (fun c36 => ?_)
          · refine lv_iconst (v := bI true) hx hb dX1_fits_64 (by decide) ?_
            refine lv_goto (tgt := 69) hx hb dX1_fits_65 (by decide) ?_
            exact y_zret C hW hr hlocks ⟨by simp [yf, c1, Int32.not_lt.mp c7, c15, c22, c36], rfl⟩ dX1_fits_69
          · refine lv_iload_n hx hb dX1_fits_39 rfl (lv_at hl 1 rfl) ?_
            refine lv_iconst (v := 1) hx hb dX1_fits_40 (by decide) ?_
            refine lv_icmp_eq (tgt := 64) hx hb dX1_fits_41 (by decide) (fun c41 => ?_) (fun c41 => ?_)
            · refine lv_iconst (v := bI true) hx hb dX1_fits_64 (by decide) ?_
              refine lv_goto (tgt := 69) hx hb dX1_fits_65 (by decide) ?_
              exact y_zret C hW hr hlocks ⟨by simp [yf, c1, Int32.not_lt.mp c7, c15, c22, c36, c41], rfl⟩ dX1_fits_69
            · exact absurd c22 c41
        · refine lv_aload_n hx hb dX1_fits_25 rfl (lv_at hl 0 rfl) ?_
          refine lv_iload_n hx hb dX1_fits_26 rfl (lv_at hl 3 rfl) ?_
          refine y_callz C hW (As := [_]) (rest := []) (mY_isVariable l D h dA _ y) cbY_isVariable ⟨by decide, by decide⟩ ⟨rfl, rfl⟩ ⟨Nat.zero_le _, Nat.zero_le _⟩ rfl hl.1 rfl (Nat.le_of_ble_eq_true rfl) dX1_fits_27 (fun r u' H locs hp hW => ?_)
          obtain ⟨hre, hu⟩ := hp
          rw [hu] at hW
          clear hu
          subst hre
          refine b_if_ne (tgt := 35) hx hb dX1_fits_30 (by decide) (fun c30 => ?_) (fun c30 => ?_)
          · refine lv_iload_n hx hb dX1_fits_35 rfl (lv_at hl 1 rfl) ?_
            refine lv_if_eq (tgt := 64) hx hb dX1_fits_36 (by decide) (fun c36 => ?_) (fun c36 => ?_)
            · refine lv_iconst (v := bI true) hx hb dX1_fits_64 (by decide) ?_
              refine lv_goto (tgt := 69) hx hb dX1_fits_65 (by decide) ?_
              exact y_zret C hW hr hlocks ⟨by simp [yf, c1, Int32.not_lt.mp c7, c15, c22, c30, c36], rfl⟩ dX1_fits_69
            · refine lv_iload_n hx hb dX1_fits_39 rfl (lv_at hl 1 rfl) ?_
              refine lv_iconst (v := 1) hx hb dX1_fits_40 (by decide) ?_
              refine lv_icmp_eq (tgt := 64) hx hb dX1_fits_41 (by decide) (fun c41 => ?_) (fun c41 => ?_)
              · refine lv_iconst (v := bI true) hx hb dX1_fits_64 (by decide) ?_
                refine lv_goto (tgt := 69) hx hb dX1_fits_65 (by decide) ?_
                exact y_zret C hW hr hlocks ⟨by simp [yf, c1, Int32.not_lt.mp c7, c15, c22, c30, c36, c41], rfl⟩ dX1_fits_69
              · refine lv_iload_n hx hb dX1_fits_44 rfl (lv_at hl 1 rfl) ?_
                refine lv_iconst (v := 5) hx hb dX1_fits_45 (by decide) ?_
                refine lv_icmp_eq (tgt := 64) hx hb dX1_fits_46 (by decide) (fun c46 => ?_) (fun c46 => ?_)
                · refine lv_iconst (v := bI true) hx hb dX1_fits_64 (by decide) ?_
                  refine lv_goto (tgt := 69) hx hb dX1_fits_65 (by decide) ?_
                  exact y_zret C hW hr hlocks ⟨by simp [yf, c1, Int32.not_lt.mp c7, c15, c22, c30, c36, c41, c46], rfl⟩ dX1_fits_69
                · refine lv_iload_n hx hb dX1_fits_49 rfl (lv_at hl 1 rfl) ?_
                  refine lv_bipush (v := 6) hx hb dX1_fits_50 (by decide) ?_
                  refine lv_icmp_eq (tgt := 64) hx hb dX1_fits_52 (by decide) (fun c52 => ?_) (fun c52 => ?_)
                  · refine lv_iconst (v := bI true) hx hb dX1_fits_64 (by decide) ?_
                    refine lv_goto (tgt := 69) hx hb dX1_fits_65 (by decide) ?_
                    exact y_zret C hW hr hlocks ⟨by simp [yf, c1, Int32.not_lt.mp c7, c15, c22, c30, c36, c41, c46, c52], rfl⟩ dX1_fits_69
                  · refine lv_aload_n hx hb dX1_fits_55 rfl (lv_at hl 0 rfl) ?_
                    refine lv_iload hx hb dX1_fits_56 (lv_at hl 4 rfl) ?_
                    refine y_callz C hW (As := [_]) (rest := []) (mY_isVariable l D h dA _ z) cbY_isVariable ⟨by decide, by decide⟩ ⟨rfl, rfl⟩ ⟨Nat.zero_le _, Nat.zero_le _⟩ rfl hl.1 rfl (Nat.le_of_ble_eq_true rfl) dX1_fits_58 (fun r u' H locs hp hW => ?_)
                    obtain ⟨hre, hu⟩ := hp
                    rw [hu] at hW
                    clear hu
                    subst hre
                    refine b_if_eq (tgt := 68) hx hb dX1_fits_61 (by decide) (fun c61 => ?_) (fun c61 => ?_)
                    · refine lv_iconst (v := bI false) hx hb dX1_fits_68 (by decide) ?_
                      exact y_zret C hW hr hlocks ⟨by simp [yf, c1, Int32.not_lt.mp c7, c15, c22, c30, c36, c41, c46, c52, c61], rfl⟩ dX1_fits_69
                    · refine lv_iconst (v := bI true) hx hb dX1_fits_64 (by decide) ?_
                      refine lv_goto (tgt := 69) hx hb dX1_fits_65 (by decide) ?_
                      exact y_zret C hW hr hlocks ⟨by simp [yf, c1, Int32.not_lt.mp c7, c15, c22, c30, c36, c41, c46, c52, c61], rfl⟩ dX1_fits_69
          · refine lv_iconst (v := bI false) hx hb dX1_fits_33 (by decide) ?_
            exact y_zret C hW hr hlocks ⟨by simp [yf, c1, Int32.not_lt.mp c7, c15, c22, c30], rfl⟩ dX1_fits_34
      · refine lv_iconst (v := bI false) hx hb dX1_fits_18 (by decide) ?_
        exact y_zret C hW hr hlocks ⟨by simp [yf, c1, Int32.not_lt.mp c7, c15], rfl⟩ dX1_fits_19
set_option maxHeartbeats 4000000 in
set_option maxRecDepth 100000 in
/-- tell(k, x, y, z) -/
theorem mY_tell (l : Launch) (D : va_G) (h : Nat → Nat) (dA : Nat → ClassId) (w : YSt) (k x y z : Int32) (hS : YSr w) : Met l yX1_tell (ws_ yX1_tell cX1_tell 5 (some .int)) (rmN 5) (YPc D h dA w [.int k, .int x, .int y, .int z]) (YQi D h dA (fun r w' => r = yr_tell w k x y z ∧ w' = ys_tell w k x y z)) 0 0 (AY h) := by
  refine y_met rfl (Nat.le_of_ble_eq_true rfl) ?_
  intro p e s m below meth c ls C hr hlocks hW hl
  have hx := C.1
  have hb := C.2.1
  have hl : lv_has ls 5 [(0, .ref (h 0)), (1, .int k), (2, .int x), (3, .int y), (4, .int z)] := hl
  refine lv_aload_n hx hb dX1_tell_0 rfl (lv_at hl 0 rfl) ?_
  refine y_get C hW 11 (by decide) q215 rfl rfl dX1_tell_1 ?_
  refine b_if_eq (tgt := 10) hx hb dX1_tell_4 (by decide) (fun c4 => ?_) (fun c4 => ?_)
  · refine lv_aload_n hx hb dX1_tell_10 rfl (lv_at hl 0 rfl) ?_
    refine y_get C hW 0 (by decide) q204 rfl rfl dX1_tell_11 ?_
    refine lv_bipush (v := nI 40) hx hb dX1_tell_14 (by decide) ?_
    refine n_icmp_ne (tgt := 22) hx hb (by have := hS.1; omega) (by decide) dX1_tell_16 (by decide) (fun c16 => ?_) (fun c16 => ?_)
    · refine lv_aload_n hx hb dX1_tell_22 rfl (lv_at hl 0 rfl) ?_
      refine lv_iload_n hx hb dX1_tell_23 rfl (lv_at hl 1 rfl) ?_
      refine lv_iload_n hx hb dX1_tell_24 rfl (lv_at hl 2 rfl) ?_
      refine lv_iload_n hx hb dX1_tell_25 rfl (lv_at hl 3 rfl) ?_
      refine lv_iload hx hb dX1_tell_26 (lv_at hl 4 rfl) ?_
      refine y_callz C hW (As := [_, _, _, _]) (rest := []) (mY_fits l D h dA _ k x y z) cbY_fits ⟨by decide, by decide⟩ ⟨rfl, rfl⟩ ⟨Nat.zero_le _, Nat.zero_le _⟩ rfl hl.1 rfl (Nat.le_of_ble_eq_true rfl) dX1_tell_28 (fun r u' H locs hp hW => ?_)
      obtain ⟨hre, hu⟩ := hp
      rw [hu] at hW
      clear hu
      subst hre
      refine b_if_ne (tgt := 36) hx hb dX1_tell_31 (by decide) (fun c31 => ?_) (fun c31 => ?_)
      · have hn40 : w.n < 40 := by have := hS.1; omega
        obtain ⟨hk, hx12, hy, hz⟩ := yf_of c31
        have hSa := hS.add (y := y) (z := z) c16 hk.2 hx12.2 hy hz
        have het : ys_tell w k x y z = ys_follow (ys_add w (vN k) (vN x) y z) := (if_neg (by rw [c4]; decide)).trans ((if_neg c16).trans (if_pos c31))
        have her : yr_tell w k x y z = (if (ys_tell w k x y z).bk = true then -3 else nI (ys_tell w k x y z).n) := (if_neg (by rw [c4]; decide)).trans ((if_neg c16).trans (if_pos c31))
        refine lv_aload_n hx hb dX1_tell_36 rfl (lv_at hl 0 rfl) ?_
        refine y_get C hW 1 (by decide) q205 rfl rfl dX1_tell_37 ?_
        refine lv_aload_n hx hb dX1_tell_40 rfl (lv_at hl 0 rfl) ?_
        refine y_get C hW 0 (by decide) q204 rfl rfl dX1_tell_41 ?_
        refine lv_iload_n hx hb dX1_tell_44 rfl (lv_at hl 1 rfl) ?_
        refine w_topi hk.1 ?_
        refine y_st_kd C hW hn40 dX1_tell_45 (fun H locs hW => ?_)
        refine lv_aload_n hx hb dX1_tell_46 rfl (lv_at hl 0 rfl) ?_
        refine y_get C hW 2 (by decide) q206 rfl rfl dX1_tell_47 ?_
        refine lv_aload_n hx hb dX1_tell_50 rfl (lv_at hl 0 rfl) ?_
        refine y_get C hW 0 (by decide) q204 rfl rfl dX1_tell_51 ?_
        refine lv_iload_n hx hb dX1_tell_54 rfl (lv_at hl 2 rfl) ?_
        refine w_topi hx12.1 ?_
        refine y_st_ax C hW hn40 dX1_tell_55 (fun H locs hW => ?_)
        refine lv_aload_n hx hb dX1_tell_56 rfl (lv_at hl 0 rfl) ?_
        refine y_get C hW 3 (by decide) q207 rfl rfl dX1_tell_57 ?_
        refine lv_aload_n hx hb dX1_tell_60 rfl (lv_at hl 0 rfl) ?_
        refine y_get C hW 0 (by decide) q204 rfl rfl dX1_tell_61 ?_
        refine lv_iload_n hx hb dX1_tell_64 rfl (lv_at hl 3 rfl) ?_
        refine y_st_ay C hW hn40 dX1_tell_65 (fun H locs hW => ?_)
        refine lv_aload_n hx hb dX1_tell_66 rfl (lv_at hl 0 rfl) ?_
        refine y_get C hW 4 (by decide) q208 rfl rfl dX1_tell_67 ?_
        refine lv_aload_n hx hb dX1_tell_70 rfl (lv_at hl 0 rfl) ?_
        refine y_get C hW 0 (by decide) q204 rfl rfl dX1_tell_71 ?_
        refine lv_iload hx hb dX1_tell_74 (lv_at hl 4 rfl) ?_
        refine y_st_az C hW hn40 dX1_tell_76 (fun H locs hW => ?_)
        refine lv_aload_n hx hb dX1_tell_77 rfl (lv_at hl 0 rfl) ?_
        refine lv_dup hx hb dX1_tell_78 rfl ?_
        refine y_get C hW 0 (by decide) q204 rfl rfl dX1_tell_79 ?_
        refine lv_iconst (v := nI 1) hx hb dX1_tell_82 (by decide) ?_
        refine n_iadd hx hb dX1_tell_83 ?_
        refine y_put_n C hW q204 dX1_tell_84 (fun H locs hW => ?_)
        have hW : YW D h dA (ys_add w (vN k) (vN x) y z) s.heap H locs := hW
        refine lv_aload_n hx hb dX1_tell_87 rfl (lv_at hl 0 rfl) ?_
        refine y_callv C hW (As := []) (rest := []) (mY_follow l D h dA _ hSa) cbY_follow ⟨by decide, by decide⟩ ⟨rfl, rfl⟩ ⟨Nat.zero_le _, Nat.zero_le _⟩ rfl hl.1 rfl (Nat.le_of_ble_eq_true rfl) dX1_tell_88 (fun u' H locs hp hW => ?_)
        rw [← het] at hp
        subst hp
        refine lv_aload_n hx hb dX1_tell_91 rfl (lv_at hl 0 rfl) ?_
        refine y_get C hW 11 (by decide) q215 rfl rfl dX1_tell_92 ?_
        refine b_if_eq (tgt := 103) hx hb dX1_tell_95 (by decide) (fun c95 => ?_) (fun c95 => ?_)
        · refine lv_aload_n hx hb dX1_tell_103 rfl (lv_at hl 0 rfl) ?_
          refine y_get C hW 0 (by decide) q204 rfl rfl dX1_tell_104 ?_
          exact y_iret C hW hr hlocks ⟨(her.trans (if_neg (by rw [c95]; decide))).symm, rfl⟩ dX1_tell_107
        · refine lv_bipush (v := -3) hx hb dX1_tell_98 (by decide) ?_
          refine lv_goto (tgt := 107) hx hb dX1_tell_100 (by decide) ?_
          exact y_iret C hW hr hlocks ⟨(her.trans (if_pos c95)).symm, rfl⟩ dX1_tell_107
      · refine lv_iconst (v := -1) hx hb dX1_tell_34 (by decide) ?_
        exact y_iret C hW hr hlocks ⟨((if_neg (by rw [c4]; decide)).trans ((if_neg c16).trans (if_neg (by rw [c31]; decide)))).symm, ((if_neg (by rw [c4]; decide)).trans ((if_neg c16).trans (if_neg (by rw [c31]; decide)))).symm⟩ dX1_tell_35
    · refine lv_bipush (v := -2) hx hb dX1_tell_19 (by decide) ?_
      exact y_iret C hW hr hlocks ⟨((if_neg (by rw [c4]; decide)).trans (if_pos c16)).symm, ((if_neg (by rw [c4]; decide)).trans (if_pos c16)).symm⟩ dX1_tell_21
  · refine lv_bipush (v := -3) hx hb dX1_tell_7 (by decide) ?_
    exact y_iret C hW hr hlocks ⟨(if_pos c4).symm, (if_pos c4).symm⟩ dX1_tell_9
set_option maxHeartbeats 4000000 in
set_option maxRecDepth 100000 in
/-- failed() -/
theorem mY_failed (l : Launch) (D : va_G) (h : Nat → Nat) (dA : Nat → ClassId) (w : YSt)  : Met l yX1_failed (ws_ yX1_failed cX1_failed 1 (some .boolean)) (rmN 0) (YPc D h dA w []) (YQi D h dA (fun r w' => r = bI w.bk ∧ w' = w)) 0 0 (AY h) := by
  refine y_met rfl (Nat.le_of_ble_eq_true rfl) ?_
  intro p e s m below meth c ls C hr hlocks hW hl
  have hx := C.1
  have hb := C.2.1
  have hl : lv_has ls 1 [(0, .ref (h 0))] := hl
  refine lv_aload_n hx hb dX1_failed_0 rfl (lv_at hl 0 rfl) ?_
  refine y_get C hW 11 (by decide) q215 rfl rfl dX1_failed_1 ?_
  exact y_zret C hW hr hlocks ⟨rfl, rfl⟩ dX1_failed_4
set_option maxHeartbeats 4000000 in
set_option maxRecDepth 100000 in
/-- state(x) -/
theorem mY_state (l : Launch) (D : va_G) (h : Nat → Nat) (dA : Nat → ClassId) (w : YSt) (x : Int32) (hS : YSr w) : Met l yX1_state (ws_ yX1_state cX1_state 2 (some .int)) (rmN 1) (YPc D h dA w [.int x]) (YQi D h dA (fun r w' => r = yq_state w x ∧ w' = w)) 0 0 (AY h) := by
  refine y_met rfl (Nat.le_of_ble_eq_true rfl) ?_
  intro p e s m below meth c ls C hr hlocks hW hl
  have hx := C.1
  have hb := C.2.1
  have hl : lv_has ls 2 [(0, .ref (h 0)), (1, .int x)] := hl
  refine lv_aload_n hx hb dX1_state_0 rfl (lv_at hl 0 rfl) ?_
  refine y_get C hW 11 (by decide) q215 rfl rfl dX1_state_1 ?_
  refine b_if_eq (tgt := 10) hx hb dX1_state_4 (by decide) (fun c4 => ?_) (fun c4 => ?_)
  · refine lv_aload_n hx hb dX1_state_10 rfl (lv_at hl 0 rfl) ?_
    refine lv_iload_n hx hb dX1_state_11 rfl (lv_at hl 1 rfl) ?_
    refine y_callz C hW (As := [_]) (rest := []) (mY_isVariable l D h dA _ x) cbY_isVariable ⟨by decide, by decide⟩ ⟨rfl, rfl⟩ ⟨Nat.zero_le _, Nat.zero_le _⟩ rfl hl.1 rfl (Nat.le_of_ble_eq_true rfl) dX1_state_12 (fun r u' H locs hp hW => ?_)
    obtain ⟨hre, hu⟩ := hp
    rw [hu] at hW
    clear hu
    subst hre
    refine b_if_ne (tgt := 20) hx hb dX1_state_15 (by decide) (fun c15 => ?_) (fun c15 => ?_)
    · obtain ⟨k, hk, rfl⟩ := isV_of c15
      have hvk : vN (nI k) = k := cl12 hk
      have hq : yq_state w (nI k) = (if w.ii (w.le k) = true then 1 else if w.ip (w.le k) = true then 2 else 0) := by
        have := (if_neg (by rw [c4]; decide)).trans (if_pos c15 : (if isV (nI k) = true then _ else (-1 : Int32)) = _) |> (fun z : yq_state w (nI k) = _ => z)
        rw [this, hvk]
      refine lv_aload_n hx hb dX1_state_20 rfl (lv_at hl 0 rfl) ?_
      refine y_get C hW 6 (by decide) q210 rfl rfl dX1_state_21 ?_
      refine lv_aload_n hx hb dX1_state_24 rfl (lv_at hl 0 rfl) ?_
      refine y_get C hW 5 (by decide) q209 rfl rfl dX1_state_25 ?_
      refine lv_iload_n hx hb dX1_state_28 rfl (lv_at hl 1 rfl) ?_
      refine y_ld_le C hW hk dX1_state_29 ?_
      refine y_ld_ii C hW (hS.le _) dX1_state_30 ?_
      refine b_if_eq (tgt := 38) hx hb dX1_state_31 (by decide) (fun c31 => ?_) (fun c31 => ?_)
      · refine lv_aload_n hx hb dX1_state_38 rfl (lv_at hl 0 rfl) ?_
        refine y_get C hW 8 (by decide) q212 rfl rfl dX1_state_39 ?_
        refine lv_aload_n hx hb dX1_state_42 rfl (lv_at hl 0 rfl) ?_
        refine y_get C hW 5 (by decide) q209 rfl rfl dX1_state_43 ?_
        refine lv_iload_n hx hb dX1_state_46 rfl (lv_at hl 1 rfl) ?_
        refine y_ld_le C hW hk dX1_state_47 ?_
        refine y_ld_ip C hW (hS.le _) dX1_state_48 ?_
        refine b_if_eq (tgt := 56) hx hb dX1_state_49 (by decide) (fun c49 => ?_) (fun c49 => ?_)
        · refine lv_iconst (v := 0) hx hb dX1_state_56 (by decide) ?_
          exact y_iret C hW hr hlocks ⟨(hq.trans ((if_neg (by rw [c31]; decide)).trans (if_neg (by rw [c49]; decide)))).symm, rfl⟩ dX1_state_57
        · refine lv_iconst (v := 2) hx hb dX1_state_52 (by decide) ?_
          refine lv_goto (tgt := 57) hx hb dX1_state_53 (by decide) ?_
          exact y_iret C hW hr hlocks ⟨(hq.trans ((if_neg (by rw [c31]; decide)).trans (if_pos c49))).symm, rfl⟩ dX1_state_57
      · refine lv_iconst (v := 1) hx hb dX1_state_34 (by decide) ?_
        refine lv_goto (tgt := 57) hx hb dX1_state_35 (by decide) ?_
        exact y_iret C hW hr hlocks ⟨(hq.trans (if_pos c31)).symm, rfl⟩ dX1_state_57
    · refine lv_iconst (v := -1) hx hb dX1_state_18 (by decide) ?_
      exact y_iret C hW hr hlocks ⟨((if_neg (by rw [c4]; decide)).trans (if_neg (by rw [c15]; decide))).symm, rfl⟩ dX1_state_19
  · refine lv_bipush (v := -3) hx hb dX1_state_7 (by decide) ?_
    exact y_iret C hW hr hlocks ⟨(if_pos c4).symm, rfl⟩ dX1_state_9
set_option maxHeartbeats 4000000 in
set_option maxRecDepth 100000 in
/-- value(x) -/
theorem mY_value (l : Launch) (D : va_G) (h : Nat → Nat) (dA : Nat → ClassId) (w : YSt) (x : Int32) (hS : YSr w) : Met l yX1_value (ws_ yX1_value cX1_value 2 (some .int)) (rmN 1) (YPc D h dA w [.int x]) (YQi D h dA (fun r w' => r = yq_value w x ∧ w' = w)) 0 0 (AY h) := by
  refine y_met rfl (Nat.le_of_ble_eq_true rfl) ?_
  intro p e s m below meth c ls C hr hlocks hW hl
  have hx := C.1
  have hb := C.2.1
  have hl : lv_has ls 2 [(0, .ref (h 0)), (1, .int x)] := hl
  refine lv_aload_n hx hb dX1_value_0 rfl (lv_at hl 0 rfl) ?_
  refine y_get C hW 11 (by decide) q215 rfl rfl dX1_value_1 ?_
  refine b_if_ne (tgt := 43) hx hb dX1_value_4 (by decide) (fun c4 => ?_) (fun c4 => ?_)
  · refine lv_iconst (v := 0) hx hb dX1_value_43 (by decide) ?_
    exact y_iret C hW hr hlocks ⟨(if_neg (fun z => by rw [c4] at z; exact absurd z.1 (by decide))).symm, rfl⟩ dX1_value_44
  · refine lv_aload_n hx hb dX1_value_7 rfl (lv_at hl 0 rfl) ?_
    refine lv_iload_n hx hb dX1_value_8 rfl (lv_at hl 1 rfl) ?_
    refine y_callz C hW (As := [_]) (rest := []) (mY_isVariable l D h dA _ x) cbY_isVariable ⟨by decide, by decide⟩ ⟨rfl, rfl⟩ ⟨Nat.zero_le _, Nat.zero_le _⟩ rfl hl.1 rfl (Nat.le_of_ble_eq_true rfl) dX1_value_9 (fun r u' H locs hp hW => ?_)
    obtain ⟨hre, hu⟩ := hp
    rw [hu] at hW
    clear hu
    subst hre
    refine b_if_eq (tgt := 43) hx hb dX1_value_12 (by decide) (fun c12 => ?_) (fun c12 => ?_)
    · refine lv_iconst (v := 0) hx hb dX1_value_43 (by decide) ?_
      exact y_iret C hW hr hlocks ⟨(if_neg (fun z => by rw [c12] at z; exact absurd z.2.1 (by decide))).symm, rfl⟩ dX1_value_44
    · obtain ⟨k, hk, rfl⟩ := isV_of c12
      have hvk : vN (nI k) = k := cl12 hk
      refine lv_aload_n hx hb dX1_value_15 rfl (lv_at hl 0 rfl) ?_
      refine y_get C hW 6 (by decide) q210 rfl rfl dX1_value_16 ?_
      refine lv_aload_n hx hb dX1_value_19 rfl (lv_at hl 0 rfl) ?_
      refine y_get C hW 5 (by decide) q209 rfl rfl dX1_value_20 ?_
      refine lv_iload_n hx hb dX1_value_23 rfl (lv_at hl 1 rfl) ?_
      refine y_ld_le C hW hk dX1_value_24 ?_
      refine y_ld_ii C hW (hS.le _) dX1_value_25 ?_
      refine b_if_eq (tgt := 43) hx hb dX1_value_26 (by decide) (fun c26 => ?_) (fun c26 => ?_)
      · refine lv_iconst (v := 0) hx hb dX1_value_43 (by decide) ?_
        exact y_iret C hW hr hlocks ⟨(if_neg (fun z => by rw [hvk, c26] at z; exact absurd z.2.2 (by decide))).symm, rfl⟩ dX1_value_44
      · refine lv_aload_n hx hb dX1_value_29 rfl (lv_at hl 0 rfl) ?_
        refine y_get C hW 7 (by decide) q211 rfl rfl dX1_value_30 ?_
        refine lv_aload_n hx hb dX1_value_33 rfl (lv_at hl 0 rfl) ?_
        refine y_get C hW 5 (by decide) q209 rfl rfl dX1_value_34 ?_
        refine lv_iload_n hx hb dX1_value_37 rfl (lv_at hl 1 rfl) ?_
        refine y_ld_le C hW hk dX1_value_38 ?_
        refine y_ld_iv C hW (hS.le _) dX1_value_39 ?_
        refine lv_goto (tgt := 44) hx hb dX1_value_40 (by decide) ?_
        exact y_iret C hW hr hlocks ⟨by unfold yq_value; rw [hvk, if_pos ⟨c4, c12, c26⟩], rfl⟩ dX1_value_44
set_option maxHeartbeats 4000000 in
set_option maxRecDepth 100000 in
/-- linked(x, y) -/
theorem mY_linked (l : Launch) (D : va_G) (h : Nat → Nat) (dA : Nat → ClassId) (w : YSt) (x y : Int32) (hS : YSr w) : Met l yX1_linked (ws_ yX1_linked cX1_linked 3 (some .boolean)) (rmN 1) (YPc D h dA w [.int x, .int y]) (YQi D h dA (fun r w' => r = bI (yq_linked w x y) ∧ w' = w)) 0 0 (AY h) := by
  refine y_met rfl (Nat.le_of_ble_eq_true rfl) ?_
  intro p e s m below meth c ls C hr hlocks hW hl
  have hx := C.1
  have hb := C.2.1
  have hl : lv_has ls 3 [(0, .ref (h 0)), (1, .int x), (2, .int y)] := hl
  refine lv_aload_n hx hb dX1_linked_0 rfl (lv_at hl 0 rfl) ?_
  refine y_get C hW 11 (by decide) q215 rfl rfl dX1_linked_1 ?_
  refine b_if_ne (tgt := 42) hx hb dX1_linked_4 (by decide) (fun c4 => ?_) (fun c4 => ?_)
  · refine lv_iconst (v := bI false) hx hb dX1_linked_42 (by decide) ?_
    exact y_zret C hW hr hlocks ⟨by simp [yq_linked, c4], rfl⟩ dX1_linked_43
  · refine lv_aload_n hx hb dX1_linked_7 rfl (lv_at hl 0 rfl) ?_
    refine lv_iload_n hx hb dX1_linked_8 rfl (lv_at hl 1 rfl) ?_
    refine y_callz C hW (As := [_]) (rest := []) (mY_isVariable l D h dA _ x) cbY_isVariable ⟨by decide, by decide⟩ ⟨rfl, rfl⟩ ⟨Nat.zero_le _, Nat.zero_le _⟩ rfl hl.1 rfl (Nat.le_of_ble_eq_true rfl) dX1_linked_9 (fun r u' H locs hp hW => ?_)
    obtain ⟨hre, hu⟩ := hp
    rw [hu] at hW
    clear hu
    subst hre
    refine b_if_eq (tgt := 42) hx hb dX1_linked_12 (by decide) (fun c12 => ?_) (fun c12 => ?_)
    · refine lv_iconst (v := bI false) hx hb dX1_linked_42 (by decide) ?_
      exact y_zret C hW hr hlocks ⟨by simp [yq_linked, c12], rfl⟩ dX1_linked_43
    · refine lv_aload_n hx hb dX1_linked_15 rfl (lv_at hl 0 rfl) ?_
      refine lv_iload_n hx hb dX1_linked_16 rfl (lv_at hl 2 rfl) ?_
      refine y_callz C hW (As := [_]) (rest := []) (mY_isVariable l D h dA _ y) cbY_isVariable ⟨by decide, by decide⟩ ⟨rfl, rfl⟩ ⟨Nat.zero_le _, Nat.zero_le _⟩ rfl hl.1 rfl (Nat.le_of_ble_eq_true rfl) dX1_linked_17 (fun r u' H locs hp hW => ?_)
      obtain ⟨hre, hu⟩ := hp
      rw [hu] at hW
      clear hu
      subst hre
      refine b_if_eq (tgt := 42) hx hb dX1_linked_20 (by decide) (fun c20 => ?_) (fun c20 => ?_)
      · refine lv_iconst (v := bI false) hx hb dX1_linked_42 (by decide) ?_
        exact y_zret C hW hr hlocks ⟨by simp [yq_linked, c20], rfl⟩ dX1_linked_43
      · obtain ⟨k, hk, rfl⟩ := isV_of c12
        have hvk : vN (nI k) = k := cl12 hk
        obtain ⟨k2, hk2, rfl⟩ := isV_of c20
        have hvk2 : vN (nI k2) = k2 := cl12 hk2
        refine lv_aload_n hx hb dX1_linked_23 rfl (lv_at hl 0 rfl) ?_
        refine y_get C hW 5 (by decide) q209 rfl rfl dX1_linked_24 ?_
        refine lv_iload_n hx hb dX1_linked_27 rfl (lv_at hl 1 rfl) ?_
        refine y_ld_le C hW hk dX1_linked_28 ?_
        refine lv_aload_n hx hb dX1_linked_29 rfl (lv_at hl 0 rfl) ?_
        refine y_get C hW 5 (by decide) q209 rfl rfl dX1_linked_30 ?_
        refine lv_iload_n hx hb dX1_linked_33 rfl (lv_at hl 2 rfl) ?_
        refine y_ld_le C hW hk2 dX1_linked_34 ?_
        refine n_icmp_ne (tgt := 42) hx hb (hS.le31 _) (hS.le31 _) dX1_linked_35 (by decide) (fun c35 => ?_) (fun c35 => ?_)
        · refine lv_iconst (v := bI false) hx hb dX1_linked_42 (by decide) ?_
          exact y_zret C hW hr hlocks ⟨by simp [yq_linked, hvk, hvk2, c35], rfl⟩ dX1_linked_43
        · refine lv_iconst (v := bI true) hx hb dX1_linked_38 (by decide) ?_
          refine lv_goto (tgt := 43) hx hb dX1_linked_39 (by decide) ?_
          exact y_zret C hW hr hlocks ⟨by simp [yq_linked, hvk, hvk2, c35, c4, c12, c20], rfl⟩ dX1_linked_43
set_option maxHeartbeats 4000000 in
set_option maxRecDepth 100000 in
/-- part(x, place) -/
theorem mY_part (l : Launch) (D : va_G) (h : Nat → Nat) (dA : Nat → ClassId) (w : YSt) (x pl : Int32) (hS : YSr w) : Met l yX1_part (ws_ yX1_part cX1_part 3 (some .int)) (rmN 1) (YPc D h dA w [.int x, .int pl]) (YQi D h dA (fun r w' => r = yq_part w x pl ∧ w' = w)) 0 0 (AY h) := by
  refine y_met rfl (Nat.le_of_ble_eq_true rfl) ?_
  intro p e s m below meth c ls C hr hlocks hW hl
  have hx := C.1
  have hb := C.2.1
  have hl : lv_has ls 3 [(0, .ref (h 0)), (1, .int x), (2, .int pl)] := hl
  refine lv_aload_n hx hb dX1_part_0 rfl (lv_at hl 0 rfl) ?_
  refine y_get C hW 11 (by decide) q215 rfl rfl dX1_part_1 ?_
  refine b_if_ne (tgt := 38) hx hb dX1_part_4 (by decide) (fun c4 => ?_) (fun c4 => ?_)
  · refine lv_iconst (v := -1) hx hb dX1_part_38 (by decide) ?_
    exact y_iret C hW hr hlocks ⟨(if_neg (fun z => by rw [c4] at z; exact absurd z.1 (by decide))).symm, rfl⟩ dX1_part_39
  · refine lv_aload_n hx hb dX1_part_7 rfl (lv_at hl 0 rfl) ?_
    refine lv_iload_n hx hb dX1_part_8 rfl (lv_at hl 1 rfl) ?_
    refine y_callz C hW (As := [_]) (rest := []) (mY_isVariable l D h dA _ x) cbY_isVariable ⟨by decide, by decide⟩ ⟨rfl, rfl⟩ ⟨Nat.zero_le _, Nat.zero_le _⟩ rfl hl.1 rfl (Nat.le_of_ble_eq_true rfl) dX1_part_9 (fun r u' H locs hp hW => ?_)
    obtain ⟨hre, hu⟩ := hp
    rw [hu] at hW
    clear hu
    subst hre
    refine b_if_eq (tgt := 38) hx hb dX1_part_12 (by decide) (fun c12 => ?_) (fun c12 => ?_)
    · refine lv_iconst (v := -1) hx hb dX1_part_38 (by decide) ?_
      exact y_iret C hW hr hlocks ⟨(if_neg (fun z => by rw [c12] at z; exact absurd z.2.1 (by decide))).symm, rfl⟩ dX1_part_39
    · obtain ⟨k, hk, rfl⟩ := isV_of c12
      have hvk : vN (nI k) = k := cl12 hk
      refine lv_aload_n hx hb dX1_part_15 rfl (lv_at hl 0 rfl) ?_
      refine y_get C hW 8 (by decide) q212 rfl rfl dX1_part_16 ?_
      refine lv_aload_n hx hb dX1_part_19 rfl (lv_at hl 0 rfl) ?_
      refine y_get C hW 5 (by decide) q209 rfl rfl dX1_part_20 ?_
      refine lv_iload_n hx hb dX1_part_23 rfl (lv_at hl 1 rfl) ?_
      refine y_ld_le C hW hk dX1_part_24 ?_
      refine y_ld_ip C hW (hS.le _) dX1_part_25 ?_
      refine b_if_eq (tgt := 38) hx hb dX1_part_26 (by decide) (fun c26 => ?_) (fun c26 => ?_)
      · refine lv_iconst (v := -1) hx hb dX1_part_38 (by decide) ?_
        exact y_iret C hW hr hlocks ⟨(if_neg (fun z => by rw [hvk, c26] at z; exact absurd z.2.2.1 (by decide))).symm, rfl⟩ dX1_part_39
      · refine lv_iload_n hx hb dX1_part_29 rfl (lv_at hl 2 rfl) ?_
        refine lv_if_lt (tgt := 38) hx hb dX1_part_30 (by decide) (fun c30 => ?_) (fun c30 => ?_)
        · refine lv_iconst (v := -1) hx hb dX1_part_38 (by decide) ?_
          exact y_iret C hW hr hlocks ⟨(if_neg (fun z => z.2.2.2.1 c30)).symm, rfl⟩ dX1_part_39
        · refine lv_iload_n hx hb dX1_part_33 rfl (lv_at hl 2 rfl) ?_
          refine lv_iconst (v := 1) hx hb dX1_part_34 (by decide) ?_
          refine lv_icmp_le (tgt := 40) hx hb dX1_part_35 (by decide) (fun c35 => ?_) (fun c35 => ?_)
          · have hq : yq_part w (nI k) pl = (if pl = 0 then nI (w.le (w.pa (w.le k))) else nI (w.le (w.pb (w.le k)))) := by
              unfold yq_part
              rw [hvk, if_pos ⟨c4, c12, c26, c30, c35⟩]
            refine lv_iload_n hx hb dX1_part_40 rfl (lv_at hl 2 rfl) ?_
            refine lv_if_ne (tgt := 63) hx hb dX1_part_41 (by decide) (fun c41 => ?_) (fun c41 => ?_)
            · refine lv_aload_n hx hb dX1_part_63 rfl (lv_at hl 0 rfl) ?_
              refine y_get C hW 5 (by decide) q209 rfl rfl dX1_part_64 ?_
              refine lv_aload_n hx hb dX1_part_67 rfl (lv_at hl 0 rfl) ?_
              refine y_get C hW 10 (by decide) q214 rfl rfl dX1_part_68 ?_
              refine lv_aload_n hx hb dX1_part_71 rfl (lv_at hl 0 rfl) ?_
              refine y_get C hW 5 (by decide) q209 rfl rfl dX1_part_72 ?_
              refine lv_iload_n hx hb dX1_part_75 rfl (lv_at hl 1 rfl) ?_
              refine y_ld_le C hW hk dX1_part_76 ?_
              refine y_ld_pb C hW (hS.le _) dX1_part_77 ?_
              refine y_ld_le C hW (hS.pb _) dX1_part_78 ?_
              exact y_iret C hW hr hlocks ⟨(hq.trans (if_neg c41)).symm, rfl⟩ dX1_part_79
            · refine lv_aload_n hx hb dX1_part_44 rfl (lv_at hl 0 rfl) ?_
              refine y_get C hW 5 (by decide) q209 rfl rfl dX1_part_45 ?_
              refine lv_aload_n hx hb dX1_part_48 rfl (lv_at hl 0 rfl) ?_
              refine y_get C hW 9 (by decide) q213 rfl rfl dX1_part_49 ?_
              refine lv_aload_n hx hb dX1_part_52 rfl (lv_at hl 0 rfl) ?_
              refine y_get C hW 5 (by decide) q209 rfl rfl dX1_part_53 ?_
              refine lv_iload_n hx hb dX1_part_56 rfl (lv_at hl 1 rfl) ?_
              refine y_ld_le C hW hk dX1_part_57 ?_
              refine y_ld_pa C hW (hS.le _) dX1_part_58 ?_
              refine y_ld_le C hW (hS.pa _) dX1_part_59 ?_
              refine lv_goto (tgt := 79) hx hb dX1_part_60 (by decide) ?_
              exact y_iret C hW hr hlocks ⟨(hq.trans (if_pos (Classical.byContradiction (fun z => absurd c41 z)))).symm, rfl⟩ dX1_part_79
          · refine lv_iconst (v := -1) hx hb dX1_part_38 (by decide) ?_
            exact y_iret C hW hr hlocks ⟨(if_neg (fun z => c35 z.2.2.2.2)).symm, rfl⟩ dX1_part_39
set_option maxHeartbeats 4000000 in
set_option maxRecDepth 100000 in
/-- waiting() -/
theorem mY_waiting (l : Launch) (D : va_G) (h : Nat → Nat) (dA : Nat → ClassId) (w : YSt) (hS : YSr w) : Met l yX1_waiting (ws_ yX1_waiting cX1_waiting 3 (some .int)) (rmN 1) (YPc D h dA w []) (YQi D h dA (fun r w' => r = yq_waiting w ∧ w' = w)) 0 0 (AY h) := by
  refine y_met rfl (Nat.le_of_ble_eq_true rfl) ?_
  intro p e s m below meth c ls C hr hlocks hW hl
  have hx := C.1
  have hb := C.2.1
  have hl : lv_has ls 3 [(0, .ref (h 0))] := hl
  have hsc := hS.1
  have loop : ∀ (n i : Nat) (H : Heap) (locs : List Loc) (ls : Array Slot), w.n < n + i → i ≤ w.n → w.bk = false → YW D h dA w s.heap H locs → lv_has ls 3 [(2, .int (nI i)), (1, .int (nI (cntB i (fun j => !(ys_ready w j))))), (0, .ref (h 0))] → W p l e (rmN 1) s m (.ref (h 0) :: []).toArray below meth c H locs 0 0 (MQ below (YQi D h dA (fun r w' => r = yq_waiting w ∧ w' = w)) (.ref (h 0) :: []).toArray s 0 0 (AY h)) (F0 m 14 ls []) := by
    intro n
    induction n with
    | zero => intro i H locs ls hn hi; exact absurd hn (by omega)
    | succ n ih =>
      intro i H locs ls hn hi hbk hW hl
      refine lv_iload_n hx hb dX1_waiting_14 rfl (lv_at hl 0 rfl) ?_
      refine lv_aload_n hx hb dX1_waiting_15 rfl (lv_at hl 2 rfl) ?_
      refine y_get C hW 0 (by decide) q204 rfl rfl dX1_waiting_16 ?_
      refine n_icmp_ge (tgt := 39) hx hb (by omega) (by omega) dX1_waiting_19 (by decide) (fun c19 => ?_) (fun c19 => ?_)
      · refine lv_iload_n hx hb dX1_waiting_39 rfl (lv_at hl 1 rfl) ?_
        exact y_iret C hW hr hlocks ⟨by unfold yq_waiting; rw [hbk, if_neg (by decide), show i = w.n from Nat.le_antisymm hi c19], rfl⟩ dX1_waiting_40
      · refine lv_aload_n hx hb dX1_waiting_22 rfl (lv_at hl 2 rfl) ?_
        refine lv_iload_n hx hb dX1_waiting_23 rfl (lv_at hl 0 rfl) ?_
        refine y_callz C hW (As := [_]) (rest := []) (mY_ready l D h dA _ i (by omega) hS) cbY_ready ⟨by decide, by decide⟩ ⟨rfl, rfl⟩ ⟨Nat.zero_le _, Nat.zero_le _⟩ rfl hl.1 rfl (Nat.le_of_ble_eq_true rfl) dX1_waiting_24 (fun r u' H locs hp hW => ?_)
        obtain ⟨hre, hu⟩ := hp
        rw [hu] at hW
        clear hu
        subst hre
        refine b_if_ne (tgt := 33) hx hb dX1_waiting_27 (by decide) (fun c27 => ?_) (fun c27 => ?_)
        · refine lv_iinc (lv' := [(2, _), (1, _), (0, _)]) hx hb dX1_waiting_33 hl (k := 0) rfl (nI_1 _) (by decide) rfl (fun ls hl => ?_)
          refine lv_goto (tgt := 14) hx hb dX1_waiting_36 (by decide) ?_
          have ec : cntB (i + 1) (fun j => !(ys_ready w j)) = cntB i (fun j => !(ys_ready w j)) + 0 := by
            show cntB i _ + (if (!(ys_ready w i)) then 1 else 0) = _
            rw [c27]
            rfl
          exact ih (i + 1) H locs ls (by omega) (by omega) hbk hW (by rw [ec]; exact hl)
        · refine lv_iinc (lv' := [(1, _), (2, _), (0, _)]) hx hb dX1_waiting_30 hl (k := 1) rfl (nI_1 _) (by decide) rfl (fun ls hl => ?_)
          refine lv_iinc (lv' := [(2, _), (1, _), (0, _)]) hx hb dX1_waiting_33 hl (k := 1) rfl (nI_1 _) (by decide) rfl (fun ls hl => ?_)
          refine lv_goto (tgt := 14) hx hb dX1_waiting_36 (by decide) ?_
          have ec : cntB (i + 1) (fun j => !(ys_ready w j)) = cntB i (fun j => !(ys_ready w j)) + 1 := by
            show cntB i _ + (if (!(ys_ready w i)) then 1 else 0) = _
            rw [c27]
            rfl
          exact ih (i + 1) H locs ls (by omega) (by omega) hbk hW (by rw [ec]; exact lv_sub hl [0, 1, 2] rfl)
  refine lv_aload_n hx hb dX1_waiting_0 rfl (lv_at hl 0 rfl) ?_
  refine y_get C hW 11 (by decide) q215 rfl rfl dX1_waiting_1 ?_
  refine b_if_eq (tgt := 10) hx hb dX1_waiting_4 (by decide) (fun c4 => ?_) (fun c4 => ?_)
  · refine lv_iconst (v := nI 0) hx hb dX1_waiting_10 (by decide) ?_
    refine lv_istore_n (lv' := [(1, _), (0, _)]) hx hb dX1_waiting_11 rfl hl (by decide) rfl (fun ls hl => ?_)
    refine lv_iconst (v := nI 0) hx hb dX1_waiting_12 (by decide) ?_
    refine lv_istore_n (lv' := [(2, _), (1, _), (0, _)]) hx hb dX1_waiting_13 rfl hl (by decide) rfl (fun ls hl => ?_)
    exact loop (w.n + 1) 0 s.heap [] ls (by omega) (Nat.zero_le _) c4 hW hl
  · refine lv_bipush (v := -3) hx hb dX1_waiting_7 (by decide) ?_
    exact y_iret C hW hr hlocks ⟨(if_pos c4).symm, rfl⟩ dX1_waiting_9
set_option maxHeartbeats 4000000 in
set_option maxRecDepth 100000 in
/-- classes() -/
theorem mY_classes (l : Launch) (D : va_G) (h : Nat → Nat) (dA : Nat → ClassId) (w : YSt) (hS : YSr w) : Met l yX1_classes (ws_ yX1_classes cX1_classes 3 (some .int)) (rmN 0) (YPc D h dA w []) (YQi D h dA (fun r w' => r = yq_classes w ∧ w' = w)) 0 0 (AY h) := by
  refine y_met rfl (Nat.le_of_ble_eq_true rfl) ?_
  intro p e s m below meth c ls C hr hlocks hW hl
  have hx := C.1
  have hb := C.2.1
  have hl : lv_has ls 3 [(0, .ref (h 0))] := hl
  have loop : ∀ (n i : Nat) (H : Heap) (locs : List Loc) (ls : Array Slot), 12 < n + i → i ≤ 12 → w.bk = false → YW D h dA w s.heap H locs → lv_has ls 3 [(2, .int (nI i)), (1, .int (nI (cntB i (fun x => decide (w.le x = x))))), (0, .ref (h 0))] → W p l e (rmN 0) s m (.ref (h 0) :: []).toArray below meth c H locs 0 0 (MQ below (YQi D h dA (fun r w' => r = yq_classes w ∧ w' = w)) (.ref (h 0) :: []).toArray s 0 0 (AY h)) (F0 m 14 ls []) := by
    intro n
    induction n with
    | zero => intro i H locs ls hn hi; exact absurd hn (by omega)
    | succ n ih =>
      intro i H locs ls hn hi hbk hW hl
      refine lv_iload_n hx hb dX1_classes_14 rfl (lv_at hl 0 rfl) ?_
      refine lv_bipush (v := nI 12) hx hb dX1_classes_15 (by decide) ?_
      refine n_icmp_ge (tgt := 39) hx hb (by omega) (by omega) dX1_classes_17 (by decide) (fun c17 => ?_) (fun c17 => ?_)
      · refine lv_iload_n hx hb dX1_classes_39 rfl (lv_at hl 1 rfl) ?_
        exact y_iret C hW hr hlocks ⟨by unfold yq_classes; rw [hbk, if_neg (by decide), show i = 12 by omega], rfl⟩ dX1_classes_40
      · refine lv_aload_n hx hb dX1_classes_20 rfl (lv_at hl 2 rfl) ?_
        refine y_get C hW 5 (by decide) q209 rfl rfl dX1_classes_21 ?_
        refine lv_iload_n hx hb dX1_classes_24 rfl (lv_at hl 0 rfl) ?_
        refine y_ld_le C hW (by omega) dX1_classes_25 ?_
        refine lv_iload_n hx hb dX1_classes_26 rfl (lv_at hl 0 rfl) ?_
        refine n_icmp_ne (tgt := 33) hx hb (hS.le31 _) (by omega) dX1_classes_27 (by decide) (fun c27 => ?_) (fun c27 => ?_)
        · refine lv_iinc (lv' := [(2, _), (1, _), (0, _)]) hx hb dX1_classes_33 hl (k := 0) rfl (nI_1 _) (by decide) rfl (fun ls hl => ?_)
          refine lv_goto (tgt := 14) hx hb dX1_classes_36 (by decide) ?_
          have ec : cntB (i + 1) (fun x => decide (w.le x = x)) = cntB i (fun x => decide (w.le x = x)) + 0 := by
            show cntB i _ + (if decide (w.le i = i) then 1 else 0) = _
            simp [c27]
          exact ih (i + 1) H locs ls (by omega) (by omega) hbk hW (by rw [ec]; exact hl)
        · refine lv_iinc (lv' := [(1, _), (2, _), (0, _)]) hx hb dX1_classes_30 hl (k := 1) rfl (nI_1 _) (by decide) rfl (fun ls hl => ?_)
          refine lv_iinc (lv' := [(2, _), (1, _), (0, _)]) hx hb dX1_classes_33 hl (k := 1) rfl (nI_1 _) (by decide) rfl (fun ls hl => ?_)
          refine lv_goto (tgt := 14) hx hb dX1_classes_36 (by decide) ?_
          have ec : cntB (i + 1) (fun x => decide (w.le x = x)) = cntB i (fun x => decide (w.le x = x)) + 1 := by
            show cntB i _ + (if decide (w.le i = i) then 1 else 0) = _
            simp [c27]
          exact ih (i + 1) H locs ls (by omega) (by omega) hbk hW (by rw [ec]; exact lv_sub hl [0, 1, 2] rfl)
  refine lv_aload_n hx hb dX1_classes_0 rfl (lv_at hl 0 rfl) ?_
  refine y_get C hW 11 (by decide) q215 rfl rfl dX1_classes_1 ?_
  refine b_if_eq (tgt := 10) hx hb dX1_classes_4 (by decide) (fun c4 => ?_) (fun c4 => ?_)
  · refine lv_iconst (v := nI 0) hx hb dX1_classes_10 (by decide) ?_
    refine lv_istore_n (lv' := [(1, _), (0, _)]) hx hb dX1_classes_11 rfl hl (by decide) rfl (fun ls hl => ?_)
    refine lv_iconst (v := nI 0) hx hb dX1_classes_12 (by decide) ?_
    refine lv_istore_n (lv' := [(2, _), (1, _), (0, _)]) hx hb dX1_classes_13 rfl hl (by decide) rfl (fun ls hl => ?_)
    exact loop 13 0 s.heap [] ls (by omega) (Nat.zero_le _) c4 hW hl
  · refine lv_bipush (v := -3) hx hb dX1_classes_7 (by decide) ?_
    exact y_iret C hW hr hlocks ⟨(if_pos c4).symm, rfl⟩ dX1_classes_9
end
section
set_option maxRecDepth 100000
def ys_clear (w : YSt) : YSt := ys_follow ((w.s_n 0).s_bk false)
theorem YSr.cleared {w : YSt} (h : YSr w) : YSr ((w.s_n 0).s_bk false) := ⟨Nat.zero_le _, h.2.1, h.2.2.1, h.2.2.2.1, h.2.2.2.2.1, h.2.2.2.2.2.1, fun i hi => absurd hi (Nat.not_lt_zero _)⟩
set_option maxHeartbeats 4000000 in
set_option maxRecDepth 100000 in
/-- clear() -/
theorem mY_clear (l : Launch) (D : va_G) (h : Nat → Nat) (dA : Nat → ClassId) (w : YSt) (hS : YSr w) : Met l yX1_clear (ws_ yX1_clear cX1_clear 2 (some .int)) (rmN 5) (YPc D h dA w []) (YQi D h dA (fun r w' => r = nI w.n ∧ w' = ys_clear w)) 0 0 (AY h) := by
  refine y_met rfl (Nat.le_of_ble_eq_true rfl) ?_
  intro p e s m below meth c ls C hr hlocks hW hl
  have hx := C.1
  have hb := C.2.1
  have hl : lv_has ls 2 [(0, .ref (h 0))] := hl
  refine lv_aload_n hx hb dX1_clear_0 rfl (lv_at hl 0 rfl) ?_
  refine y_get C hW 0 (by decide) q204 rfl rfl dX1_clear_1 ?_
  refine lv_istore_n (lv' := [(1, _), (0, _)]) hx hb dX1_clear_4 rfl hl (by decide) rfl (fun ls hl => ?_)
  refine lv_aload_n hx hb dX1_clear_5 rfl (lv_at hl 1 rfl) ?_
  refine lv_iconst (v := nI 0) hx hb dX1_clear_6 (by decide) ?_
  refine y_put_n C hW q204 dX1_clear_7 (fun H locs hW => ?_)
  refine lv_aload_n hx hb dX1_clear_10 rfl (lv_at hl 1 rfl) ?_
  refine lv_iconst (v := bI false) hx hb dX1_clear_11 (by decide) ?_
  refine y_put_bk C hW q215 dX1_clear_12 (fun H locs hW => ?_)
  refine lv_aload_n hx hb dX1_clear_15 rfl (lv_at hl 1 rfl) ?_
  refine y_callv C hW (As := []) (rest := []) (mY_follow l D h dA ((w.s_n 0).s_bk false) hS.cleared) cbY_follow ⟨by decide, by decide⟩ ⟨rfl, rfl⟩ ⟨Nat.zero_le _, Nat.zero_le _⟩ rfl hl.1 rfl (Nat.le_of_ble_eq_true rfl) dX1_clear_16 (fun u' H locs hp hW => ?_)
  have hp : u' = ys_clear w := hp
  refine lv_iload_n hx hb dX1_clear_19 rfl (lv_at hl 0 rfl) ?_
  exact y_iret C hW hr hlocks ⟨rfl, hp⟩ dX1_clear_20
end
section
/-! the plain law: interpretations of the told statements -/
theorem up_at {α : Type} (f : Nat → α) (k : Nat) (v : α) : va_up f k v k = v := by simp [va_up]
theorem up_ne {α : Type} (f : Nat → α) {k j : Nat} (v : α) (h : j ≠ k) : va_up f k v j = f j := by simp [va_up, h]
theorem up_same {α : Type} (f : Nat → α) {k : Nat} {v : α} (h : f k = v) : va_up f k v = f := by
  funext j
  by_cases e : j = k
  · rw [e, up_at, h]
  · rw [up_ne f v e]
theorem cnt_le {f g : Nat → Bool} : ∀ (n : Nat), (∀ i, i < n → f i = true → g i = true) → cntB n f ≤ cntB n g
  | 0, _ => Nat.le_refl _
  | n + 1, h => by
    have ih := cnt_le n (fun i hi => h i (by omega))
    have hn := h n (by omega)
    show cntB n f + (if f n then 1 else 0) ≤ cntB n g + (if g n then 1 else 0)
    cases hf : f n with
    | false => simp; omega
    | true => rw [hn hf]; simp; omega
theorem cnt_lt {f g : Nat → Bool} : ∀ (n j : Nat), (∀ i, i < n → f i = true → g i = true) → j < n → g j = true → f j = false → cntB n f < cntB n g
  | 0, j, _, hj, _, _ => absurd hj (Nat.not_lt_zero _)
  | n + 1, j, h, hj, hg, hf => by
    have hn := h n (by omega)
    show cntB n f + (if f n then 1 else 0) < cntB n g + (if g n then 1 else 0)
    by_cases e : j = n
    · subst e
      have := cnt_le (f := f) (g := g) j (fun i hi => h i (by omega))
      rw [hf, hg]
      simp
      omega
    · have ih := cnt_lt n j (fun i hi => h i (by omega)) (by omega) hg hf
      cases hfn : f n with
      | false => simp; omega
      | true => rw [hn hfn]; simp; omega
theorem cnt_eq {f g : Nat → Bool} (n : Nat) (h : ∀ i, i < n → f i = g i) : cntB n f = cntB n g :=
  Nat.le_antisymm (cnt_le n (fun i hi e => by rw [← h i hi]; exact e)) (cnt_le n (fun i hi e => by rw [h i hi]; exact e))
abbrev VT : Type := Nat → Option (Int32 ⊕ Nat × Nat)
def Sat (r : Nat → Nat) (val : VT) (k x : Nat) (yv : Int32) (y z : Nat) : Prop :=
  (k = 0 → r x = r y) ∧ (k = 1 → val (r x) = some (.inl yv)) ∧
  (k = 2 → ∃ a b, val (r x) = some (.inr (a, b)) ∧ r a = r y ∧ r b = r z) ∧
  (k = 3 ∨ k = 4 ∨ k = 7 → ∀ p q, val (r y) = some (.inl p) → val (r z) = some (.inl q) → val (r x) = some (.inl (xs_comp k p q))) ∧
  (k = 5 ∨ k = 6 → ∀ a b, val (r y) = some (.inr (a, b)) → r x = r (if k = 5 then a else b))
/-- (r, val) holds all statements of g -/
def Mod (g : YSt) (r : Nat → Nat) (val : VT) : Prop := ∀ i, i < g.n → Sat r val (g.kd i) (g.ax i) (g.ay i) (vN (g.ay i)) (vN (g.az i))
theorem Mod.same {g g' : YSt} {r : Nat → Nat} {val : VT} (hs : YSame g g') : Mod g' r val ↔ Mod g r val := by
  unfold Mod
  rw [hs.1, hs.2.1, hs.2.2.1, hs.2.2.2.1, hs.2.2.2.2]
def YSnd (w : YSt) (r : Nat → Nat) (val : VT) : Prop := w.bk = false ∧ (∀ x, x < 12 → r (w.le x) = r x) ∧ (∀ p, p < 12 → w.ii p = true → val (r p) = some (.inl (w.iv p))) ∧ (∀ p, p < 12 → w.ip p = true → ∃ a b, val (r p) = some (.inr (a, b)) ∧ r a = r (w.pa p) ∧ r b = r (w.pb p))
section
variable {r : Nat → Nat} {val : VT} {w : YSt}
theorem YSnd.fr (h : YSnd w r val) (b : Bool) : YSnd (w.s_fr b) r val := h
theorem YSnd.b3 (h : YSnd w r val) {p : Nat} {v : Int32} (hv : val (r p) = some (.inl v)) : YSnd (ys_b3 w p v) r val := by
  obtain ⟨h0, h1, h2, h3⟩ := h
  refine ⟨h0, h1, fun q hq e => ?_, h3⟩
  have e : va_up w.ii p true q = true := e
  show val (r q) = some (.inl (va_up w.iv p v q))
  by_cases c : q = p
  · rw [c, up_at]; exact hv
  · rw [up_ne _ _ c] at e ⊢
    exact h2 q hq e
theorem YSnd.b1 (h : YSnd w r val) {p : Nat} (hp : p < 12) {v : Int32} (hv : val (r p) = some (.inl v)) : YSnd (ys_b1 w p v) r val := by
  unfold ys_b1
  split
  · rename_i c
    exfalso
    rcases c with c | c
    · obtain ⟨a, b, e, -⟩ := h.2.2.2 p hp c
      rw [hv] at e
      cases e
    · have e := h.2.2.1 p hp c.1
      rw [hv] at e
      exact c.2 (by injection e with e; injection e with e; exact e.symm)
  · exact h
theorem YSnd.b2 (h : YSnd w r val) (p : Nat) : YSnd (ys_b2 w p) r val := by
  unfold ys_b2
  split
  · exact h
  · exact h
theorem YSnd.beInt (h : YSnd w r val) (hS : YSr w) {x : Nat} (hx : x < 12) {v : Int32} (hv : val (r x) = some (.inl v)) : YSnd (ys_beInt w x v) r val := by
  have hp : val (r (w.le x)) = some (.inl v) := by rw [h.2.1 x hx]; exact hv
  exact ((h.b1 (hS.le x) hp).b2 _).b3 hp
theorem YSnd.j1 (h : YSnd w r val) {p q : Nat} (hpq : r p = r q) : YSnd (ys_j1 w p q) r val := by
  obtain ⟨h0, h1, h2⟩ := h
  refine ⟨h0, fun x hx => ?_, h2⟩
  show r (ys_rel w.le 12 p q x) = r x
  unfold ys_rel
  split
  · rename_i c
    rw [hpq, ← c.2]
    exact h1 x hx
  · exact h1 x hx
theorem YSnd.j2 (h : YSnd w r val) (hS : YSr w) {p q : Nat} (hp : p < 12) (hq : q < 12) (hpq : r p = r q) : YSnd (ys_j2 w p q) r val := by
  unfold ys_j2
  split
  · rename_i c
    exact h.beInt hS hp (by rw [hpq]; exact h.2.2.1 q hq c)
  · exact h
theorem YSnd.p1 (h : YSnd w r val) {p : Nat} (hp : p < 12) {ab : Nat × Nat} (hv : val (r p) = some (.inr ab)) : YSnd (ys_p1 w p) r val := by
  unfold ys_p1
  split
  · rename_i c
    have e := h.2.2.1 p hp c
    rw [hv] at e
    cases e
  · exact h
theorem YSnd.pset (h : YSnd w r val) {p x y : Nat} {a b : Nat} (hv : val (r p) = some (.inr (a, b))) (ha : r a = r x) (hb : r b = r y) : YSnd (((w.s_ip (va_up w.ip p true)).s_pa (va_up w.pa p x)).s_pb (va_up w.pb p y)) r val := by
  obtain ⟨h0, h1, h2, h3⟩ := h
  refine ⟨h0, h1, h2, fun q hq e => ?_⟩
  have e : va_up w.ip p true q = true := e
  show ∃ a b, val (r q) = some (.inr (a, b)) ∧ r a = r (va_up w.pa p x q) ∧ r b = r (va_up w.pb p y q)
  by_cases c : q = p
  · rw [c, up_at, up_at]; exact ⟨a, b, hv, ha, hb⟩
  · rw [up_ne _ _ c] at e
    rw [up_ne _ _ c, up_ne _ _ c]
    exact h3 q hq e
theorem YSnd.j4 (h : YSnd w r val) {p q : Nat} {a b : Nat} (hv : val (r p) = some (.inr (a, b))) (ha : r a = r (w.pa q)) (hb : r b = r (w.pb q)) : YSnd (ys_j4 w p q) r val := by
  unfold ys_j4
  split
  · exact h
  · exact h.pset hv ha hb
theorem p1_pa (w : YSt) (p : Nat) : (ys_p1 w p).pa = w.pa ∧ (ys_p1 w p).pb = w.pb ∧ (ys_p1 w p).ip = w.ip ∧ (ys_p1 w p).le = w.le := by
  unfold ys_p1
  split <;> exact ⟨rfl, rfl, rfl, rfl⟩
theorem beInt_f (w : YSt) (x : Nat) (v : Int32) : (ys_beInt w x v).le = w.le ∧ (ys_beInt w x v).ip = w.ip ∧ (ys_beInt w x v).pa = w.pa ∧ (ys_beInt w x v).pb = w.pb ∧ (ys_beInt w x v).ii = va_up w.ii (w.le x) true ∧ (ys_beInt w x v).iv = va_up w.iv (w.le x) v := by
  unfold ys_beInt ys_b3 ys_b2 ys_b1
  split <;> split <;> exact ⟨rfl, rfl, rfl, rfl, rfl, rfl⟩
theorem j2_f (w : YSt) (p q : Nat) : (ys_j2 w p q).le = w.le ∧ (ys_j2 w p q).ip = w.ip ∧ (ys_j2 w p q).pa = w.pa ∧ (ys_j2 w p q).pb = w.pb := by
  unfold ys_j2
  split
  · have h := beInt_f w p (w.iv q)
    exact ⟨h.1, h.2.1, h.2.2.1, h.2.2.2.1⟩
  · exact ⟨rfl, rfl, rfl, rfl⟩
theorem up_true {f : Nat → Bool} {k j : Nat} (h : f j = true) : va_up f k true j = true := by
  by_cases e : j = k
  · rw [e, up_at]
  · rw [up_ne _ _ e]; exact h
theorem j4_f (w : YSt) (p q : Nat) : (ys_j4 w p q).le = w.le ∧ (ys_j4 w p q).ii = w.ii ∧ (∀ h, w.ip h = true → (ys_j4 w p q).ip h = true) ∧ (ys_j4 w p q).ip p = true ∧ (ys_j4 w p q).bk = w.bk ∧ (ys_j4 w p q).fr = w.fr := by
  unfold ys_j4
  split
  · rename_i c
    exact ⟨rfl, rfl, fun _ h => h, c, rfl, rfl⟩
  · exact ⟨rfl, rfl, fun _ h => up_true h, up_at _ _ _, rfl, rfl⟩
theorem j3_f (w : YSt) (p q : Nat) : (ys_j3 w p q).le = w.le ∧ (ys_j3 w p q).ii = w.ii ∧ (∀ h, w.ip h = true → (ys_j3 w p q).ip h = true) ∧ (w.ip q = true → (ys_j3 w p q).ip p = true) ∧ (ys_j3 w p q).fr = w.fr := by
  unfold ys_j3
  split
  · have h := j4_f (ys_p1 w p) p q
    have h2 := p1_pa w p
    have h3 : (ys_p1 w p).ii = w.ii ∧ (ys_p1 w p).fr = w.fr := by
      unfold ys_p1
      split <;> exact ⟨rfl, rfl⟩
    exact ⟨h.1.trans h2.2.2.2, h.2.1.trans h3.1, fun k e => h.2.2.1 k (by rw [h2.2.2.1]; exact e), fun _ => h.2.2.2.1, h.2.2.2.2.2.trans h3.2⟩
  · rename_i c
    exact ⟨rfl, rfl, fun _ h => h, fun h => absurd h c, rfl⟩
theorem joinR_ip (w : YSt) {p q x : Nat} (hx : x < 12) (h : w.ip (w.le x) = true) : (ys_joinR w p q).ip ((ys_joinR w p q).le x) = true := by
  unfold ys_joinR
  split
  · exact h
  · have h2 := j2_f (ys_j1 w p q) p q
    have h3 := j3_f (ys_j2 (ys_j1 w p q) p q) p q
    rw [h3.1, h2.1]
    show (ys_j3 (ys_j2 (ys_j1 w p q) p q) p q).ip (ys_rel w.le 12 p q x) = true
    unfold ys_rel
    split
    · rename_i c
      apply h3.2.2.2.1
      rw [h2.2.1]
      show w.ip q = true
      rw [← c.2]
      exact h
    · apply h3.2.2.1
      rw [h2.2.1]
      exact h
theorem join_ip (w : YSt) {a b x : Nat} (hx : x < 12) (h : w.ip (w.le x) = true) : (ys_join w a b).ip ((ys_join w a b).le x) = true := by
  unfold ys_join
  split
  · exact joinR_ip w hx h
  · exact joinR_ip w hx h
theorem YSnd.j3 (h : YSnd w r val) {p q : Nat} (hp : p < 12) (hq : q < 12) (hpq : r p = r q) : YSnd (ys_j3 w p q) r val := by
  unfold ys_j3
  split
  · rename_i c
    obtain ⟨a, b, e, ha, hb⟩ := h.2.2.2 q hq c
    rw [← hpq] at e
    exact (h.p1 hp e).j4 e (by rw [(p1_pa w p).1]; exact ha) (by rw [(p1_pa w p).2.1]; exact hb)
  · exact h
theorem YSnd.joinR (h : YSnd w r val) (hS : YSr w) {p q : Nat} (hp : p < 12) (hq : q < 12) (hpq : r p = r q) : YSnd (ys_joinR w p q) r val := by
  unfold ys_joinR
  split
  · exact h
  · exact ((h.j1 hpq).j2 (hS.j1 hp) hp hq hpq).j3 hp hq hpq
theorem YSnd.join (h : YSnd w r val) (hS : YSr w) {x y : Nat} (hx : x < 12) (hy : y < 12) (hxy : r x = r y) : YSnd (ys_join w x y) r val := by
  have e : r (w.le x) = r (w.le y) := by rw [h.2.1 x hx, h.2.1 y hy]; exact hxy
  unfold ys_join
  split
  · exact h.joinR hS (hS.le y) (hS.le x) e.symm
  · exact h.joinR hS (hS.le x) (hS.le y) e
theorem YSnd.bePair (h : YSnd w r val) (hS : YSr w) {x y z : Nat} (hx : x < 12) (hy : y < 12) (hz : z < 12) {a b : Nat} (hv : val (r x) = some (.inr (a, b))) (ha : r a = r y) (hb : r b = r z) : YSnd (ys_bePair w x y z) r val := by
  have hp : val (r (w.le x)) = some (.inr (a, b)) := by rw [h.2.1 x hx]; exact hv
  unfold ys_bePair ys_p3
  have h1 := h.p1 (hS.le x) hp
  have hS1 := hS.p1 (w.le x)
  have e1 := p1_pa w (w.le x)
  have hle : w.le x < 12 := hS.le x
  generalize ys_p1 w (w.le x) = v at h1 hS1 e1 ⊢
  split
  · rename_i c
    obtain ⟨a2, b2, e, ha2, hb2⟩ := h1.2.2.2 _ hle c
    rw [hp] at e
    injection e with e; injection e with e; injection e with e3 e4
    subst e3 e4
    have h2 := h1.join hS1 (hS1.pa _) hy (by rw [← ha2]; exact ha)
    have hS2 := hS1.join (v.pa (w.le x)) y
    generalize hq : ys_join v (v.pa (w.le x)) y = t at h2 hS2 ⊢
    unfold ys_p2
    refine h2.join hS2 (hS2.pb _) hz ?_
    by_cases ct : t.ip (t.le x) = true
    · obtain ⟨a3, b3, e5, -, hb3⟩ := h2.2.2.2 _ (hS2.le x) ct
      rw [h2.2.1 x hx, hv] at e5
      injection e5 with e5; injection e5 with e5; injection e5 with e6 e7
      subst e6 e7
      rw [← hb3]; exact hb
    · exfalso
      apply ct
      -- the class of x keeps a pair through the join
      rw [← hq]
      exact join_ip v hx (by rw [e1.2.2.2]; exact c)
  · exact (YSnd.fr h1 true).pset hp ha hb
theorem YSnd.apply (h : YSnd w r val) (hS : YSr w) {i : Nat} (hi : i < w.n) (hM : Mod w r val) (hr : ys_ready w i = true) : YSnd (ys_apply w i) r val := by
  have hs := hM i hi
  have hle : ∀ y, y < 12 → r (w.le y) = r y := h.2.1
  have hk8 := hS.2.2.2.2.1 i
  unfold ys_apply
  split
  · rename_i c
    exact h.join hS (hS.ax i) (hS.ay hi (by omega)).2 (hs.1 c)
  · split
    · rename_i c
      exact h.beInt hS (hS.ax i) (hs.2.1 c)
    · split
      · rename_i c
        obtain ⟨a, b, e, ha, hb⟩ := hs.2.2.1 c
        exact h.bePair hS (hS.ax i) (hS.ay hi (by omega)).2 (hS.az hi (Or.inl c)).2 e ha hb
      · rename_i c0 c1 c2
        have hay := hS.ay hi c1
        have hcy : ys_cl (w.ay i) = vN (w.ay i) := if_pos ((hS.2.2.2.2.2.2 i hi).1 c1)
        rw [hcy]
        have num : ¬ (w.kd i = 5 ∨ w.kd i = 6) → ys_cl (w.az i) = vN (w.az i) ∧ val (r (vN (w.ay i))) = some (.inl (w.iv (w.le (vN (w.ay i))))) ∧ val (r (vN (w.az i))) = some (.inl (w.iv (w.le (vN (w.az i))))) := by
          intro hn
          have haz := hS.az hi (by omega)
          have hcz : ys_cl (w.az i) = vN (w.az i) := if_pos ((hS.2.2.2.2.2.2 i hi).2 (by omega))
          unfold ys_ready at hr
          rw [if_neg (by omega), if_neg hn, Bool.and_eq_true] at hr
          refine ⟨hcz, ?_, ?_⟩
          · rw [← hle _ hay.2]; exact h.2.2.1 _ (hS.le _) hr.1
          · rw [← hle _ haz.2]; exact h.2.2.1 _ (hS.le _) hr.2
        have cpl : (w.kd i = 5 ∨ w.kd i = 6) → ∃ a b, val (r (vN (w.ay i))) = some (.inr (a, b)) ∧ r a = r (w.pa (w.le (vN (w.ay i)))) ∧ r b = r (w.pb (w.le (vN (w.ay i)))) := by
          intro hn
          unfold ys_ready at hr
          rw [if_neg (by omega), if_pos hn] at hr
          rw [← hle _ hay.2]
          exact h.2.2.2 _ (hS.le _) hr
        split
        · rename_i c
          obtain ⟨hcz, e1, e2⟩ := num (by omega)
          have e3 := hs.2.2.2.1 (by omega) _ _ e1 e2
          rw [hcz]
          refine h.beInt hS (hS.ax i) ?_
          rw [e3, c]
          rfl
        · split
          · rename_i c
            obtain ⟨hcz, e1, e2⟩ := num (by omega)
            have e3 := hs.2.2.2.1 (by omega) _ _ e1 e2
            rw [hcz]
            refine h.beInt hS (hS.ax i) ?_
            rw [e3, c]
            rfl
          · split
            · rename_i c
              obtain ⟨a, b, e, ha, hb⟩ := cpl (Or.inl c)
              have e3 := hs.2.2.2.2 (Or.inl c) a b e
              rw [if_pos c] at e3
              exact h.join hS (hS.ax i) (hS.pa _) (by rw [e3, ha])
            · split
              · rename_i c5 c
                obtain ⟨a, b, e, ha, hb⟩ := cpl (Or.inr c)
                have e3 := hs.2.2.2.2 (Or.inr c) a b e
                rw [if_neg c5] at e3
                exact h.join hS (hS.ax i) (hS.pb _) (by rw [e3, hb])
              · rename_i c3 c4 c5 c6
                obtain ⟨hcz, e1, e2⟩ := num (by omega)
                have c7 : w.kd i = 7 := by omega
                have e3 := hs.2.2.2.1 (by omega) _ _ e1 e2
                rw [hcz]
                refine h.beInt hS (hS.ax i) ?_
                rw [e3, c7]
                rfl
theorem YSnd.one (h : YSnd w r val) (hS : YSr w) {i : Nat} (hi : i < w.n) (hM : Mod w r val) : YSnd (ys_one w i) r val := by
  unfold ys_one
  split
  · exact h
  · split
    · rename_i c
      exact h.apply hS hi hM c
    · exact h
theorem YSnd.pass (h : YSnd w r val) (hS : YSr w) (hM : Mod w r val) (k : Nat) (hk : k ≤ w.n) : YSnd (ys_pass w k) r val := by
  induction k with
  | zero => exact h
  | succ k ih =>
    have hs := same_pass w k
    exact (ih (by omega)).one (hS.pass k (by omega)) (by rw [hs.1]; omega) ((Mod.same hs).mpr hM)
theorem YSnd.go (h : YSnd w r val) (hS : YSr w) (hM : Mod w r val) : YSnd (ys_go w) r val := by
  unfold ys_go
  split
  · exact YSnd.pass (w := w.s_fr false) h hS hM _ (Nat.le_refl _)
  · exact h
theorem YSnd.rounds (h : YSnd w r val) (hS : YSr w) (hM : Mod w r val) (k : Nat) : YSnd (ys_rounds w k) r val := by
  induction k with
  | zero => exact h
  | succ k ih => exact ih.go (hS.rounds k) ((Mod.same (same_rounds w k)).mpr hM)
theorem YSnd.follow (hb : w.bk = false) (hS : YSr w) (hM : Mod w r val) : YSnd (ys_follow w) r val := by
  refine YSnd.rounds (w := (ys_init w 12).s_fr true) ?_ (hS.init 12 (by decide)) hM 40
  refine ⟨hb, fun x hx => ?_, fun p hp e => ?_, fun p hp e => ?_⟩
  · show r (if x < 12 then x else w.le x) = r x
    rw [if_pos hx]
  · have e : (if p < 12 then false else w.ii p) = true := e
    rw [if_pos hp] at e
    cases e
  · have e : (if p < 12 then false else w.ip p) = true := e
    rw [if_pos hp] at e
    cases e
end
end
section
/-! Y comes to rest: every fresh round lowers a measure; a round that brings nothing new shows that all statements hold -/
def Can (w : YSt) : Prop := ∀ x, x < 12 → w.le (w.le x) = w.le x ∧ w.le x ≤ x
def Exc (w : YSt) : Prop := ∀ p, p < 12 → ¬ (w.ii p = true ∧ w.ip p = true)
def ymu (w : YSt) : Nat := cntB 12 (fun x => decide (w.le x = x)) + cntB 12 (fun x => decide (w.le x = x) && (!(w.ii x) && !(w.ip x)))
def Prog (w w' : YSt) : Prop := (w.fr = true → w'.fr = true) ∧ (w'.bk = false → w.bk = false ∧ (Can w → Exc w → Can w' ∧ Exc w' ∧ ymu w' ≤ ymu w ∧ (w'.fr = true → w.fr = true ∨ ymu w' < ymu w)))
theorem Prog.rf (w : YSt) : Prog w w := ⟨fun h => h, fun h => ⟨h, fun a b => ⟨a, b, Nat.le_refl _, fun c => Or.inl c⟩⟩⟩
theorem Prog.tr {a b c : YSt} (h1 : Prog a b) (h2 : Prog b c) : Prog a c := by
  refine ⟨fun h => h2.1 (h1.1 h), fun h => ?_⟩
  obtain ⟨k1, k2⟩ := h2.2 h
  obtain ⟨k3, k4⟩ := h1.2 k1
  refine ⟨k3, fun ca ea => ?_⟩
  obtain ⟨cb, eb, m1, f1⟩ := k4 ca ea
  obtain ⟨cc, ec, m2, f2⟩ := k2 cb eb
  refine ⟨cc, ec, Nat.le_trans m2 m1, fun f => ?_⟩
  rcases f2 f with q | q
  · rcases f1 q with q | q
    · exact Or.inl q
    · exact Or.inr (Nat.lt_of_le_of_lt m2 q)
  · exact Or.inr (Nat.lt_of_lt_of_le q m1)
theorem prog_p1 (w : YSt) (p : Nat) : Prog w (ys_p1 w p) := by
  unfold ys_p1
  split
  · exact ⟨fun h => h, fun h => absurd (show true = false from h) (by decide)⟩
  · exact Prog.rf w
theorem ymu_le {w w' : YSt} (h1 : ∀ x, x < 12 → w'.le x = x → w.le x = x) (h2 : ∀ x, x < 12 → w.ii x = true → w'.ii x = true) (h3 : ∀ x, x < 12 → w.ip x = true → w'.ip x = true) : cntB 12 (fun x => decide (w'.le x = x)) ≤ cntB 12 (fun x => decide (w.le x = x)) ∧ (∀ x, x < 12 → (decide (w'.le x = x) && (!(w'.ii x) && !(w'.ip x))) = true → (decide (w.le x = x) && (!(w.ii x) && !(w.ip x))) = true) := by
  refine ⟨cnt_le 12 (fun i hi e => ?_), fun x hx e => ?_⟩
  · have e := of_decide_eq_true e
    exact decide_eq_true (h1 i hi e)
  · simp only [Bool.and_eq_true, decide_eq_true_eq, Bool.not_eq_true'] at e ⊢
    refine ⟨h1 x hx e.1, ?_, ?_⟩
    · cases c : w.ii x with
      | false => rfl
      | true => rw [h2 x hx c] at e; exact absurd e.2.1 (by decide)
    · cases c : w.ip x with
      | false => rfl
      | true => rw [h3 x hx c] at e; exact absurd e.2.2 (by decide)
theorem ymu_bound {w w' : YSt} {p : Nat} (hp : p < 12) (h1 : ∀ x, x < 12 → w'.le x = x → w.le x = x) (h2 : ∀ x, x < 12 → w.ii x = true → w'.ii x = true) (h3 : ∀ x, x < 12 → w.ip x = true → w'.ip x = true) (hr : w.le p = p) (h4 : w.ii p = false) (h5 : w.ip p = false) (h6 : w'.ii p = true ∨ w'.ip p = true) : ymu w' < ymu w := by
  obtain ⟨a, b⟩ := ymu_le h1 h2 h3
  have c := cnt_lt 12 p b hp (by simp [hr, h4, h5]) (by rcases h6 with q | q <;> simp [q])
  unfold ymu
  omega
theorem beInt_bf (w : YSt) (x : Nat) (v : Int32) : ((ys_beInt w x v).bk = false → w.bk = false ∧ w.ip (w.le x) = false ∧ (w.ii (w.le x) = true → w.iv (w.le x) = v)) ∧ ((ys_beInt w x v).fr = true → w.fr = true ∨ w.ii (w.le x) = false) ∧ (w.fr = true → (ys_beInt w x v).fr = true) ∧ ((ys_beInt w x v).fr = false → w.ii (w.le x) = true) := by
  by_cases c1 : w.ip (w.le x) = true ∨ (w.ii (w.le x) = true ∧ ¬ w.iv (w.le x) = v)
  · have e1 : ys_b1 w (w.le x) v = w.s_bk true := if_pos c1
    by_cases c2 : w.ii (w.le x) = true
    · have e2 : ys_beInt w x v = ys_b3 (w.s_bk true) (w.le x) v := by
        unfold ys_beInt
        rw [e1]
        exact congrArg (fun z => ys_b3 z (w.le x) v) (if_pos c2)
      rw [e2]
      exact ⟨fun h => absurd (show true = false from h) (by decide), fun h => Or.inl h, fun h => h, fun _ => c2⟩
    · have e2 : ys_beInt w x v = ys_b3 ((w.s_bk true).s_fr true) (w.le x) v := by
        unfold ys_beInt
        rw [e1]
        exact congrArg (fun z => ys_b3 z (w.le x) v) (if_neg c2)
      rw [e2]
      exact ⟨fun h => absurd (show true = false from h) (by decide), fun h => Or.inr (by cases q : w.ii (w.le x) with | false => rfl | true => exact absurd q c2), fun h => rfl, fun h => absurd (show true = false from h) (by decide)⟩
  · have e1 : ys_b1 w (w.le x) v = w := if_neg c1
    have h1 : w.ip (w.le x) = false := by
      cases q : w.ip (w.le x) with
      | false => rfl
      | true => exact absurd (Or.inl q) c1
    have h2 : w.ii (w.le x) = true → w.iv (w.le x) = v := fun q => Classical.byContradiction (fun z => c1 (Or.inr ⟨q, z⟩))
    by_cases c2 : w.ii (w.le x) = true
    · have e2 : ys_beInt w x v = ys_b3 w (w.le x) v := by
        unfold ys_beInt
        rw [e1]
        exact congrArg (fun z => ys_b3 z (w.le x) v) (if_pos c2)
      rw [e2]
      exact ⟨fun h => ⟨h, h1, h2⟩, fun h => Or.inl h, fun h => h, fun _ => c2⟩
    · have e2 : ys_beInt w x v = ys_b3 (w.s_fr true) (w.le x) v := by
        unfold ys_beInt
        rw [e1]
        exact congrArg (fun z => ys_b3 z (w.le x) v) (if_neg c2)
      rw [e2]
      exact ⟨fun h => ⟨h, h1, h2⟩, fun h => Or.inr (by cases q : w.ii (w.le x) with | false => rfl | true => exact absurd q c2), fun h => rfl, fun h => absurd (show true = false from h) (by decide)⟩
theorem prog_beInt {w : YSt} (hS : YSr w) {x : Nat} (hx : x < 12) (v : Int32) : Prog w (ys_beInt w x v) := by
  obtain ⟨g1, g2, g3, -⟩ := beInt_bf w x v
  obtain ⟨f1, f2, f3, f4, f5, f6⟩ := beInt_f w x v
  refine ⟨g3, fun h => ⟨(g1 h).1, fun hc he => ?_⟩⟩
  have k1 : ∀ y, y < 12 → (ys_beInt w x v).le y = y → w.le y = y := fun y _ q => by rw [f1] at q; exact q
  have k2 : ∀ y, y < 12 → w.ii y = true → (ys_beInt w x v).ii y = true := fun y _ q => by rw [f5]; exact up_true q
  have k3 : ∀ y, y < 12 → w.ip y = true → (ys_beInt w x v).ip y = true := fun y _ q => by rw [f2]; exact q
  refine ⟨fun y hy => by rw [f1]; exact hc y hy, fun q hq z => ?_, ?_, fun f => ?_⟩
  · rw [f5, f2] at z
    by_cases e : q = w.le x
    · rw [e, (g1 h).2.1] at z
      exact absurd z.2 (by decide)
    · rw [up_ne _ _ e] at z
      exact he q hq z
  · obtain ⟨a, b⟩ := ymu_le k1 k2 k3
    exact Nat.add_le_add a (cnt_le 12 b)
  · rcases g2 f with q | q
    · exact Or.inl q
    · exact Or.inr (ymu_bound (hS.le x) k1 k2 k3 (hc x hx).1 q (g1 h).2.1 (Or.inl (by rw [f5, up_at])))
/-- what a join of two classes does -/
theorem joinR_bf {w : YSt} {p q : Nat} (hne : p ≠ q) (hp : p < 12) (hq : q < 12) : (ys_joinR w p q).fr = true ∧ (ys_joinR w p q).le = ys_rel w.le 12 p q ∧ (∀ h, w.ii h = true → (ys_joinR w p q).ii h = true) ∧ (∀ h, w.ip h = true → (ys_joinR w p q).ip h = true) ∧ ((ys_joinR w p q).bk = false → w.bk = false ∧ (Exc w → w.le p = p → Exc (ys_joinR w p q))) := by
  have e0 : ys_joinR w p q = ys_j3 (ys_j2 (ys_j1 w p q) p q) p q := if_neg hne
  rw [e0]
  obtain ⟨a1, a2, a3, a4, a5⟩ := j3_f (ys_j2 (ys_j1 w p q) p q) p q
  obtain ⟨b1, b2, b3, b4⟩ := j2_f (ys_j1 w p q) p q
  have hrel : w.le p = p → (ys_j1 w p q).le p = p := fun h => by
    show ys_rel w.le 12 p q p = p
    unfold ys_rel
    split
    · rfl
    · exact h
  have hii : ∀ h, w.ii h = true → (ys_j2 (ys_j1 w p q) p q).ii h = true := fun h e => by
    unfold ys_j2
    split
    · rw [(beInt_f (ys_j1 w p q) p _).2.2.2.2.1]; exact up_true e
    · exact e
  have hfr : (ys_j2 (ys_j1 w p q) p q).fr = true := by
    unfold ys_j2
    split
    · exact (beInt_bf (ys_j1 w p q) p _).2.2.1 rfl
    · rfl
  refine ⟨a5.trans hfr, a1.trans b1, fun h e => by rw [a2]; exact hii h e, fun h e => a3 h (by rw [b2]; exact e), fun hb => ?_⟩
  -- broken stays broken
  have hb2 : (ys_j2 (ys_j1 w p q) p q).bk = false ∧ ((ys_j2 (ys_j1 w p q) p q).ip q = true → (ys_j2 (ys_j1 w p q) p q).ii p = false) := by
    generalize ys_j2 (ys_j1 w p q) p q = v at hb
    unfold ys_j3 at hb
    split at hb
    · rw [(j4_f (ys_p1 v p) p q).2.2.2.2.1] at hb
      unfold ys_p1 at hb
      split at hb
      · exact absurd (show true = false from hb) (by decide)
      · rename_i c
        exact ⟨hb, fun _ => by cases z : v.ii p with | false => rfl | true => exact absurd z c⟩
    · rename_i c
      exact ⟨hb, fun z => absurd z c⟩
  have hb1 : (ys_j1 w p q).bk = false ∧ (w.ii q = true → (ys_j1 w p q).ip ((ys_j1 w p q).le p) = false) := by
    have h0 := hb2.1
    unfold ys_j2 at h0
    split at h0
    · have := (beInt_bf (ys_j1 w p q) p _).1 h0
      exact ⟨this.1, fun _ => this.2.1⟩
    · rename_i c
      exact ⟨h0, fun z => absurd z c⟩
  refine ⟨hb1.1, fun he hpp => ?_⟩
  have hlp := hrel hpp
  intro k hk z
  rw [a2] at z
  -- flags of j2
  have hii2 : ∀ h, (ys_j2 (ys_j1 w p q) p q).ii h = true → w.ii h = true ∨ (h = p ∧ w.ii q = true) := fun h e => by
    unfold ys_j2 at e
    split at e
    · rename_i c
      rw [(beInt_f (ys_j1 w p q) p _).2.2.2.2.1, hlp] at e
      by_cases e2 : h = p
      · exact Or.inr ⟨e2, c⟩
      · rw [up_ne _ _ e2] at e; exact Or.inl e
    · exact Or.inl e
  have hip3 : (ys_j3 (ys_j2 (ys_j1 w p q) p q) p q).ip k = true → w.ip k = true ∨ (k = p ∧ w.ip q = true) := fun e => by
    have b2 : (ys_j2 (ys_j1 w p q) p q).ip = w.ip := b2
    generalize ys_j2 (ys_j1 w p q) p q = v at e b2
    unfold ys_j3 at e
    split at e
    · rename_i c
      rw [b2] at c
      unfold ys_j4 at e
      split at e
      · rw [(p1_pa v p).2.2.1, b2] at e; exact Or.inl e
      · have e : va_up (ys_p1 v p).ip p true k = true := e
        by_cases e2 : k = p
        · exact Or.inr ⟨e2, c⟩
        · rw [up_ne _ _ e2, (p1_pa v p).2.2.1, b2] at e; exact Or.inl e
    · rw [b2] at e; exact Or.inl e
  rcases hii2 k z.1 with i1 | ⟨i1, i2⟩
  · rcases hip3 z.2 with j1 | ⟨j1, j2⟩
    · exact he k hk ⟨i1, j1⟩
    · have := hb2.2 (by rw [b2]; exact j2)
      rw [j1] at i1
      rw [hii p i1] at this
      exact absurd this (by decide)
  · rcases hip3 z.2 with j1 | ⟨j1, j2⟩
    · have := hb1.2 i2
      rw [hlp] at this
      rw [i1] at j1
      rw [show (ys_j1 w p q).ip p = w.ip p from rfl, j1] at this
      exact absurd this (by decide)
    · exact he q hq ⟨i2, j2⟩
theorem prog_joinR {w : YSt} {p q : Nat} (hp : p < 12) (hq : q < 12) (hpq : p ≤ q) (hroot : Can w → w.le p = p ∧ w.le q = q) : Prog w (ys_joinR w p q) := by
  by_cases hne : p = q
  · have : ys_joinR w p q = w := if_pos hne
    rw [this]
    exact Prog.rf w
  · obtain ⟨a1, a2, a3, a4, a5⟩ := joinR_bf (w := w) hne hp hq
    refine ⟨fun _ => a1, fun h => ⟨(a5 h).1, fun hc he => ?_⟩⟩
    obtain ⟨rp, rq⟩ := hroot hc
    have hrel : ∀ x, x < 12 → (ys_joinR w p q).le x = if w.le x = q then p else w.le x := fun x hx => by
      rw [a2]
      unfold ys_rel
      simp [hx]
    have k1 : ∀ y, y < 12 → (ys_joinR w p q).le y = y → w.le y = y := fun y hy z => by
      rw [hrel y hy] at z
      by_cases e : w.le y = q
      · rw [if_pos e] at z
        rw [← z, rp] at e
        exact absurd e hne
      · rw [if_neg e] at z; exact z
    refine ⟨fun x hx => ?_, (a5 h).2 he rp, ?_, fun _ => Or.inr ?_⟩
    · rw [hrel x hx]
      by_cases e : w.le x = q
      · rw [if_pos e, hrel p hp, rp, if_neg hne]
        have := (hc x hx).2
        exact ⟨rfl, by omega⟩
      · have hlx : w.le x < 12 := by have := (hc x hx).2; omega
        rw [if_neg e, hrel _ hlx, (hc x hx).1, if_neg e]
        exact ⟨rfl, (hc x hx).2⟩
    · obtain ⟨a, b⟩ := ymu_le k1 (fun x _ => a3 x) (fun x _ => a4 x)
      exact Nat.add_le_add a (cnt_le 12 b)
    · obtain ⟨a, b⟩ := ymu_le k1 (fun x _ => a3 x) (fun x _ => a4 x)
      have c := cnt_lt (f := fun x => decide ((ys_joinR w p q).le x = x)) (g := fun x => decide (w.le x = x)) 12 q (fun i hi e => decide_eq_true (k1 i hi (of_decide_eq_true e))) hq (decide_eq_true rq) (by
        apply decide_eq_false
        rw [hrel q hq, rq, if_pos rfl]
        exact hne)
      have d := cnt_le 12 b
      unfold ymu
      omega
theorem prog_join {w : YSt} (hS : YSr w) {x y : Nat} (hx : x < 12) (hy : y < 12) : Prog w (ys_join w x y) := by
  unfold ys_join
  split
  · rename_i c
    exact prog_joinR (hS.le y) (hS.le x) c (fun hc => ⟨(hc y hy).1, (hc x hx).1⟩)
  · rename_i c
    exact prog_joinR (hS.le x) (hS.le y) (by omega) (fun hc => ⟨(hc x hx).1, (hc y hy).1⟩)
theorem prog_pnew {w : YSt} {p y z : Nat} (hp : p < 12) (h1 : w.ip p = false) (h2 : w.bk = false → w.ii p = false) (hroot : Can w → w.le p = p) : Prog w (ys_pnew w p y z) := by
  refine ⟨fun _ => rfl, fun h => ?_⟩
  have h : w.bk = false := h
  refine ⟨h, fun hc he => ⟨hc, fun q hq z => ?_, ?_, fun _ => Or.inr ?_⟩⟩
  · have z2 : va_up w.ip p true q = true := z.2
    have z1 : w.ii q = true := z.1
    by_cases e : q = p
    · rw [e, h2 h] at z1; exact absurd z1 (by decide)
    · rw [up_ne _ _ e] at z2; exact he q hq ⟨z1, z2⟩
  · obtain ⟨a, b⟩ := ymu_le (w := w) (w' := ys_pnew w p y z) (fun _ _ q => q) (fun _ _ q => q) (fun x _ q => show va_up w.ip p true x = true from up_true q)
    exact Nat.add_le_add a (cnt_le 12 b)
  · exact ymu_bound (w := w) (w' := ys_pnew w p y z) hp (fun _ _ q => q) (fun _ _ q => q) (fun x _ q => show va_up w.ip p true x = true from up_true q) (hroot hc) (h2 h) h1 (Or.inr (up_at _ _ _))
theorem p1_ii (w : YSt) (p : Nat) : (ys_p1 w p).ii = w.ii ∧ (ys_p1 w p).fr = w.fr ∧ ((ys_p1 w p).bk = false → w.ii p = false ∧ ys_p1 w p = w) := by
  unfold ys_p1
  split
  · exact ⟨rfl, rfl, fun h => absurd (show true = false from h) (by decide)⟩
  · rename_i c
    exact ⟨rfl, rfl, fun _ => ⟨by cases z : w.ii p with | false => rfl | true => exact absurd z c, rfl⟩⟩
theorem prog_bePair {w : YSt} (hS : YSr w) {x y z : Nat} (hx : x < 12) (hy : y < 12) (hz : z < 12) : Prog w (ys_bePair w x y z) := by
  unfold ys_bePair ys_p3
  have h1 := prog_p1 w (w.le x)
  have hS1 := hS.p1 (w.le x)
  have e1 := p1_pa w (w.le x)
  have e2 := p1_ii w (w.le x)
  have hle : w.le x < 12 := hS.le x
  generalize ys_p1 w (w.le x) = v at h1 hS1 e1 e2 ⊢
  refine h1.tr ?_
  split
  · exact (prog_join hS1 (hS1.pa _) hy).tr (prog_join (hS1.join _ _) ((hS1.join _ _).pb _) hz)
  · rename_i c
    refine prog_pnew hle (by cases q : v.ip (w.le x) with | false => rfl | true => exact absurd q c) (fun h => ?_) (fun hc => ?_)
    · rw [e2.1]; exact (e2.2.2 h).1
    · have := (hc x hx).1
      rw [e1.2.2.2] at this
      rw [e1.2.2.2]; exact this
theorem prog_apply {w : YSt} (hS : YSr w) {i : Nat} (hi : i < w.n) : Prog w (ys_apply w i) := by
  unfold ys_apply
  split
  · rename_i c
    exact prog_join hS (hS.ax i) (hS.ay hi (by omega)).2
  · split
    · exact prog_beInt hS (hS.ax i) _
    · split
      · rename_i c
        exact prog_bePair hS (hS.ax i) (hS.ay hi (by omega)).2 (hS.az hi (Or.inl c)).2
      · split
        · exact prog_beInt hS (hS.ax i) _
        · split
          · exact prog_beInt hS (hS.ax i) _
          · split
            · exact prog_join hS (hS.ax i) (hS.pa _)
            · split
              · exact prog_join hS (hS.ax i) (hS.pb _)
              · exact prog_beInt hS (hS.ax i) _
theorem prog_one {w : YSt} (hS : YSr w) {i : Nat} (hi : i < w.n) : Prog w (ys_one w i) := by
  unfold ys_one
  split
  · exact Prog.rf w
  · split
    · exact prog_apply hS hi
    · exact Prog.rf w
theorem prog_pass {w : YSt} (hS : YSr w) (k : Nat) (hk : k ≤ w.n) : Prog w (ys_pass w k) := by
  induction k with
  | zero => exact Prog.rf w
  | succ k ih => exact (ih (by omega)).tr (prog_one (hS.pass k (by omega)) (by rw [(same_pass w k).1]; omega))
end
section
/-! Y at rest is itself an interpretation that holds all statements -/
def valY (w : YSt) : VT := fun p => if w.ii p = true then some (.inl (w.iv p)) else if w.ip p = true then some (.inr (w.pa p, w.pb p)) else none
theorem valY_i {w : YSt} {p : Nat} (h : w.ii p = true) : valY w p = some (.inl (w.iv p)) := if_pos h
theorem valY_p {w : YSt} {p : Nat} (h0 : w.ii p = false) (h : w.ip p = true) : valY w p = some (.inr (w.pa p, w.pb p)) := (if_neg (by rw [h0]; decide)).trans (if_pos h)
theorem valY_iI {w : YSt} {p : Nat} {v : Int32} (h : valY w p = some (.inl v)) : w.ii p = true ∧ w.iv p = v := by
  unfold valY at h
  split at h
  · rename_i c
    injection h with h; injection h with h
    exact ⟨c, h⟩
  · split at h
    · cases h
    · cases h
theorem valY_pI {w : YSt} {p a b : Nat} (h : valY w p = some (.inr (a, b))) : w.ii p = false ∧ w.ip p = true ∧ w.pa p = a ∧ w.pb p = b := by
  unfold valY at h
  split at h
  · cases h
  · rename_i c
    split at h
    · rename_i d
      injection h with h; injection h with h; injection h with h1 h2
      exact ⟨by cases z : w.ii p with | false => rfl | true => exact absurd z c, d, h1, h2⟩
    · cases h
theorem bnot_t {b : Bool} (h : ¬ b = true) : b = false := by cases b; rfl; exact absurd rfl h
theorem bnot_f {b : Bool} (h : ¬ b = false) : b = true := by cases b; exact absurd rfl h; rfl
theorem q_beInt {w : YSt} {x : Nat} {v : Int32} (hf : (ys_beInt w x v).fr = false) (hb : (ys_beInt w x v).bk = false) : w.ii (w.le x) = true ∧ w.iv (w.le x) = v ∧ ys_beInt w x v = w := by
  obtain ⟨g1, -, -, g4⟩ := beInt_bf w x v
  have h1 := g4 hf
  obtain ⟨-, h2, h3⟩ := g1 hb
  have h3 := h3 h1
  refine ⟨h1, h3, ?_⟩
  have e1 : ys_b1 w (w.le x) v = w := if_neg (fun z => z.elim (fun z => by rw [h2] at z; exact absurd z (by decide)) (fun z => z.2 h3))
  have e2 : ys_b2 w (w.le x) = w := if_pos h1
  unfold ys_beInt
  rw [e1, e2]
  unfold ys_b3
  rw [up_same _ h1, up_same _ h3]
  rfl
theorem q_join {w : YSt} (hS : YSr w) {x y : Nat} (hf : (ys_join w x y).fr = false) : w.le x = w.le y ∧ ys_join w x y = w := by
  unfold ys_join at hf ⊢
  split at hf
  · rename_i c
    rw [if_pos c]
    by_cases e : w.le y = w.le x
    · exact ⟨e.symm, if_pos e⟩
    · rw [(joinR_bf e (hS.le y) (hS.le x)).1] at hf
      exact absurd hf (by decide)
  · rename_i c
    rw [if_neg c]
    by_cases e : w.le x = w.le y
    · exact ⟨e, if_pos e⟩
    · rw [(joinR_bf e (hS.le x) (hS.le y)).1] at hf
      exact absurd hf (by decide)
theorem q_bePair {w : YSt} (hS : YSr w) {x y z : Nat} (hx : x < 12) (hy : y < 12) (hz : z < 12) (hf : (ys_bePair w x y z).fr = false) (hb : (ys_bePair w x y z).bk = false) : w.ii (w.le x) = false ∧ w.ip (w.le x) = true ∧ w.le (w.pa (w.le x)) = w.le y ∧ w.le (w.pb (w.le x)) = w.le z ∧ ys_bePair w x y z = w := by
  unfold ys_bePair at hf hb ⊢
  have hS1 := hS.p1 (w.le x)
  have e2 := p1_ii w (w.le x)
  have hle : w.le x < 12 := hS.le x
  have key : (ys_p1 w (w.le x)).bk = false := by
    generalize ys_p1 w (w.le x) = v at hS1 hb
    unfold ys_p3 at hb
    split at hb
    · exact (((prog_join hS1 (hS1.pa _) hy).tr (prog_join (hS1.join _ _) ((hS1.join _ _).pb _) hz)).2 hb).1
    · exact hb
  obtain ⟨k1, k2⟩ := e2.2.2 key
  rw [k2] at hf hb ⊢
  clear key k2 e2 hS1
  unfold ys_p3 at hf hb ⊢
  split at hf
  · rename_i c
    rw [if_pos c] at hb ⊢
    unfold ys_p2 at hf hb ⊢
    have hS2 := hS.join (w.pa (w.le x)) y
    have hf2 : (ys_join w (w.pa (w.le x)) y).fr = false := by
      cases q : (ys_join w (w.pa (w.le x)) y).fr with
      | false => rfl
      | true =>
        have := (prog_join hS2 (hS2.pb ((ys_join w (w.pa (w.le x)) y).le x)) hz).1 q
        rw [this] at hf
        exact absurd hf (by decide)
    obtain ⟨a1, a2⟩ := q_join hS hf2
    rw [a2] at hf ⊢
    obtain ⟨b1, b2⟩ := q_join hS hf
    exact ⟨k1, c, a1, b1, b2⟩
  · exact absurd (show true = false from hf) (by decide)
theorem ready_num {w : YSt} {i : Nat} (h3 : ¬ w.kd i < 3) (hn : ¬ (w.kd i = 5 ∨ w.kd i = 6)) (h1 : w.ii (w.le (vN (w.ay i))) = true) (h2 : w.ii (w.le (vN (w.az i))) = true) : ys_ready w i = true := by
  unfold ys_ready
  rw [if_neg h3, if_neg hn, h1, h2]
  rfl
theorem ready_cpl {w : YSt} {i : Nat} (h3 : ¬ w.kd i < 3) (hn : w.kd i = 5 ∨ w.kd i = 6) (h1 : w.ip (w.le (vN (w.ay i))) = true) : ys_ready w i = true := by
  unfold ys_ready
  rw [if_neg h3, if_pos hn, h1]
theorem q_one {w : YSt} (hS : YSr w) {i : Nat} (hi : i < w.n) (hf : (ys_one w i).fr = false) (hb : (ys_one w i).bk = false) : Sat w.le (valY w) (w.kd i) (w.ax i) (w.ay i) (vN (w.ay i)) (vN (w.az i)) ∧ ys_one w i = w := by
  have hbk : w.bk = false := ((prog_one hS hi).2 hb).1
  have hk8 := hS.2.2.2.2.1 i
  have step : ys_ready w i = true → ys_one w i = ys_apply w i := fun h => (if_neg (by rw [hbk]; decide)).trans (if_pos h)
  have same : (ys_ready w i = true → ys_apply w i = w) → ys_one w i = w := fun h => by
    by_cases q : ys_ready w i = true
    · rw [step q]; exact h q
    · exact (if_neg (by rw [hbk]; decide)).trans (if_neg q)
  have hfa : ys_ready w i = true → (ys_apply w i).fr = false := fun q => by rw [← step q]; exact hf
  have hba : ys_ready w i = true → (ys_apply w i).bk = false := fun q => by rw [← step q]; exact hb
  by_cases c0 : w.kd i = 0
  · have e : ys_apply w i = ys_join w (w.ax i) (vN (w.ay i)) := if_pos c0
    have hr : ys_ready w i = true := by unfold ys_ready; rw [if_pos (by omega)]
    have f1 := hfa hr
    rw [e] at f1
    obtain ⟨a1, a2⟩ := q_join hS f1
    exact ⟨⟨fun _ => a1, fun z => by omega, fun z => by omega, fun z => by omega, fun z => by omega⟩, same (fun _ => e.trans a2)⟩
  by_cases c1 : w.kd i = 1
  · have e : ys_apply w i = ys_beInt w (w.ax i) (w.ay i) := (if_neg c0).trans (if_pos c1)
    have hr : ys_ready w i = true := by unfold ys_ready; rw [if_pos (by omega)]
    have f1 := hfa hr
    have f2 := hba hr
    rw [e] at f1 f2
    obtain ⟨a1, a2, a3⟩ := q_beInt f1 f2
    exact ⟨⟨fun z => by omega, fun _ => by rw [valY_i a1, a2], fun z => by omega, fun z => by omega, fun z => by omega⟩, same (fun _ => e.trans a3)⟩
  by_cases c2 : w.kd i = 2
  · have e : ys_apply w i = ys_bePair w (w.ax i) (vN (w.ay i)) (vN (w.az i)) := (if_neg c0).trans ((if_neg c1).trans (if_pos c2))
    have hr : ys_ready w i = true := by unfold ys_ready; rw [if_pos (by omega)]
    have f1 := hfa hr
    have f2 := hba hr
    rw [e] at f1 f2
    obtain ⟨a1, a2, a3, a4, a5⟩ := q_bePair hS (hS.ax i) (hS.ay hi c1).2 (hS.az hi (Or.inl c2)).2 f1 f2
    exact ⟨⟨fun z => by omega, fun z => by omega, fun _ => ⟨_, _, valY_p a1 a2, a3, a4⟩, fun z => by omega, fun z => by omega⟩, same (fun _ => e.trans a5)⟩
  have c3 : ¬ w.kd i < 3 := by omega
  have hcy : ys_cl (w.ay i) = vN (w.ay i) := if_pos ((hS.2.2.2.2.2.2 i hi).1 c1)
  by_cases c5 : w.kd i = 5 ∨ w.kd i = 6
  · have e : ys_apply w i = ys_join w (w.ax i) (if w.kd i = 5 then w.pa (w.le (vN (w.ay i))) else w.pb (w.le (vN (w.ay i)))) := by
      unfold ys_apply
      rw [if_neg c0, if_neg c1, if_neg c2, if_neg (by omega), if_neg (by omega), hcy]
      by_cases c : w.kd i = 5
      · rw [if_pos c, if_pos c]
      · rw [if_neg c, if_neg c, if_pos (by omega)]
    refine ⟨⟨fun z => by omega, fun z => by omega, fun z => by omega, fun z => by omega, fun _ a b h => ?_⟩, same (fun hr => ?_)⟩
    · obtain ⟨k1, k2, k3, k4⟩ := valY_pI h
      have hr := ready_cpl c3 c5 k2
      have f1 := hfa hr
      rw [e] at f1
      have := (q_join hS f1).1
      rw [this]
      by_cases c : w.kd i = 5
      · rw [if_pos c, if_pos c, k3]
      · rw [if_neg c, if_neg c, k4]
    · have f1 := hfa hr
      rw [e] at f1 ⊢
      exact (q_join hS f1).2
  · have hcz : ys_cl (w.az i) = vN (w.az i) := if_pos ((hS.2.2.2.2.2.2 i hi).2 (by omega))
    have e : ys_apply w i = ys_beInt w (w.ax i) (xs_comp (w.kd i) (w.iv (w.le (vN (w.ay i)))) (w.iv (w.le (vN (w.az i))))) := by
      unfold ys_apply xs_comp
      rw [if_neg c0, if_neg c1, if_neg c2, hcy, hcz]
      by_cases c : w.kd i = 3
      · rw [if_pos c, if_pos c]
      · rw [if_neg c, if_neg c]
        by_cases d : w.kd i = 4
        · rw [if_pos d, if_pos d]
        · rw [if_neg d, if_neg d, if_neg (by omega), if_neg (by omega)]
    refine ⟨⟨fun z => by omega, fun z => by omega, fun z => by omega, fun _ p q h1 h2 => ?_, fun z => absurd z c5⟩, same (fun hr => ?_)⟩
    · obtain ⟨k1, k2⟩ := valY_iI h1
      obtain ⟨k3, k4⟩ := valY_iI h2
      have hr := ready_num c3 c5 k1 k3
      have f1 := hfa hr
      have f2 := hba hr
      rw [e] at f1 f2
      obtain ⟨a1, a2, a3⟩ := q_beInt f1 f2
      rw [valY_i a1, a2, k2, k4]
    · have f1 := hfa hr
      have f2 := hba hr
      rw [e] at f1 f2 ⊢
      exact (q_beInt f1 f2).2.2
theorem q_pass {w : YSt} (hS : YSr w) (k : Nat) (hk : k ≤ w.n) (hf : (ys_pass w k).fr = false) (hb : (ys_pass w k).bk = false) : ys_pass w k = w ∧ ∀ i, i < k → Sat w.le (valY w) (w.kd i) (w.ax i) (w.ay i) (vN (w.ay i)) (vN (w.az i)) := by
  induction k with
  | zero => exact ⟨rfl, fun i hi => absurd hi (Nat.not_lt_zero _)⟩
  | succ k ih =>
    have hn : k < (ys_pass w k).n := by rw [(same_pass w k).1]; omega
    have hp := prog_one (hS.pass k (by omega)) hn
    have hf' : (ys_one (ys_pass w k) k).fr = false := hf
    have hb' : (ys_one (ys_pass w k) k).bk = false := hb
    have f1 : (ys_pass w k).fr = false := by
      cases q : (ys_pass w k).fr with
      | false => rfl
      | true => rw [hp.1 q] at hf'; exact absurd hf' (by decide)
    obtain ⟨a1, a2⟩ := ih (by omega) f1 (hp.2 hb').1
    rw [a1] at hf' hb'
    obtain ⟨b1, b2⟩ := q_one hS (i := k) (by omega) hf' hb'
    refine ⟨by show ys_one (ys_pass w k) k = w; rw [a1]; exact b2, fun i hi => ?_⟩
    rcases Nat.lt_succ_iff_lt_or_eq.mp hi with q | q
    · exact a2 i q
    · rw [q]; exact b1
theorem q_rounds {w : YSt} (hS : YSr w) (hf : w.fr = true) (hc : Can w) (he : Exc w) (k : Nat) : (ys_rounds w k).bk = false → Can (ys_rounds w k) ∧ Exc (ys_rounds w k) ∧ ((ys_rounds w k).fr = true → ymu (ys_rounds w k) + k ≤ 24) ∧ ((ys_rounds w k).fr = false → Mod (ys_rounds w k) (ys_rounds w k).le (valY (ys_rounds w k))) := by
  induction k with
  | zero =>
    intro _
    refine ⟨hc, he, fun _ => ?_, fun z => ?_⟩
    · have h1 := cntB_le 12 (fun x => decide (w.le x = x))
      have h2 := cntB_le 12 (fun x => decide (w.le x = x) && (!(w.ii x) && !(w.ip x)))
      show ymu w + 0 ≤ 24
      unfold ymu
      omega
    · rw [show (ys_rounds w 0).fr = true from hf] at z
      exact absurd z (by decide)
  | succ k ih =>
    intro hb
    have hSk := hS.rounds k
    have e : ys_rounds w (k + 1) = ys_go (ys_rounds w k) := rfl
    rw [e] at hb ⊢
    generalize ys_rounds w k = v at ih hSk hb
    unfold ys_go at hb ⊢
    split at hb
    · rename_i c
      rw [if_pos c]
      obtain ⟨a1, a2, a3, -⟩ := ih c.2
      have a3 := a3 c.1
      have hS0 : YSr (v.s_fr false) := hSk
      obtain ⟨b1, b2⟩ := (prog_pass hS0 v.n (Nat.le_refl _)).2 hb
      obtain ⟨d1, d2, d3, d4⟩ := b2 a1 a2
      refine ⟨d1, d2, fun z => ?_, fun z => ?_⟩
      · rcases d4 z with q | q
        · exact absurd (show false = true from q) (by decide)
        · have : ymu (v.s_fr false) = ymu v := rfl
          omega
      · obtain ⟨g1, g2⟩ := q_pass hS0 v.n (Nat.le_refl _) z hb
        rw [g1]
        exact g2
    · rename_i c
      rw [if_neg c]
      obtain ⟨a1, a2, a3, a4⟩ := ih hb
      have hfr : v.fr = false := bnot_t (fun z => c ⟨z, hb⟩)
      exact ⟨a1, a2, fun z => by rw [hfr] at z; exact absurd z (by decide), a4⟩
/-- Y at rest -/
def YOk (w : YSt) : Prop := YSr w ∧ (w.bk = false → Can w ∧ Exc w ∧ Mod w w.le (valY w)) ∧ ∀ (r : Nat → Nat) (val : VT), Mod w r val → YSnd w r val
theorem YOk.follow {w : YSt} (hS : YSr w) (hb : w.bk = false) : YOk (ys_follow w) := by
  have hS1 : YSr ((ys_init w 12).s_fr true) := hS.init 12 (by decide)
  have hsame : YSame w (ys_follow w) := YSame.tr (b := (ys_init w 12).s_fr true) ⟨rfl, rfl, rfl, rfl, rfl⟩ (same_rounds _ 40)
  have hle : ∀ x, x < 12 → ((ys_init w 12).s_fr true).le x = x := fun x hx => if_pos hx
  refine ⟨hS1.rounds 40, fun h => ?_, fun r val hM => YSnd.follow hb hS ((Mod.same hsame).mp hM)⟩
  obtain ⟨a1, a2, a3, a4⟩ := q_rounds hS1 rfl (fun x hx => by rw [hle x hx, hle x hx]; exact ⟨rfl, Nat.le_refl _⟩) (fun p hp z => by
    have z1 : (if p < 12 then false else w.ii p) = true := z.1
    rw [if_pos hp] at z1
    cases z1) 40 h
  refine ⟨a1, a2, a4 (bnot_t (fun z => ?_))⟩
  have := a3 z
  omega
end
section
/-! all fields behind each setter of X's state (bundles for simp only) -/
theorem e_sc (u : XSt) (v : Nat) : (u.s_sc v).sc = v ∧ (u.s_sc v).kd = u.kd ∧ (u.s_sc v).tg = u.tg ∧ (u.s_sc v).sy = u.sy ∧ (u.s_sc v).sz = u.sz ∧ (u.s_sc v).su = u.su ∧ (u.s_sc v).wt = u.wt ∧ (u.s_sc v).st = u.st ∧ (u.s_sc v).nu = u.nu ∧ (u.s_sc v).lf = u.lf ∧ (u.s_sc v).rt = u.rt ∧ (u.s_sc v).wa = u.wa ∧ (u.s_sc v).jc = u.jc ∧ (u.s_sc v).ja = u.ja ∧ (u.s_sc v).jb = u.jb ∧ (u.s_sc v).rd = u.rd ∧ (u.s_sc v).bk = u.bk ∧ (u.s_sc v).r = u.r := ⟨rfl, rfl, rfl, rfl, rfl, rfl, rfl, rfl, rfl, rfl, rfl, rfl, rfl, rfl, rfl, rfl, rfl, rfl⟩
theorem e_kd (u : XSt) (v : Nat → Nat) : (u.s_kd v).sc = u.sc ∧ (u.s_kd v).kd = v ∧ (u.s_kd v).tg = u.tg ∧ (u.s_kd v).sy = u.sy ∧ (u.s_kd v).sz = u.sz ∧ (u.s_kd v).su = u.su ∧ (u.s_kd v).wt = u.wt ∧ (u.s_kd v).st = u.st ∧ (u.s_kd v).nu = u.nu ∧ (u.s_kd v).lf = u.lf ∧ (u.s_kd v).rt = u.rt ∧ (u.s_kd v).wa = u.wa ∧ (u.s_kd v).jc = u.jc ∧ (u.s_kd v).ja = u.ja ∧ (u.s_kd v).jb = u.jb ∧ (u.s_kd v).rd = u.rd ∧ (u.s_kd v).bk = u.bk ∧ (u.s_kd v).r = u.r := ⟨rfl, rfl, rfl, rfl, rfl, rfl, rfl, rfl, rfl, rfl, rfl, rfl, rfl, rfl, rfl, rfl, rfl, rfl⟩
theorem e_tg (u : XSt) (v : Nat → Nat) : (u.s_tg v).sc = u.sc ∧ (u.s_tg v).kd = u.kd ∧ (u.s_tg v).tg = v ∧ (u.s_tg v).sy = u.sy ∧ (u.s_tg v).sz = u.sz ∧ (u.s_tg v).su = u.su ∧ (u.s_tg v).wt = u.wt ∧ (u.s_tg v).st = u.st ∧ (u.s_tg v).nu = u.nu ∧ (u.s_tg v).lf = u.lf ∧ (u.s_tg v).rt = u.rt ∧ (u.s_tg v).wa = u.wa ∧ (u.s_tg v).jc = u.jc ∧ (u.s_tg v).ja = u.ja ∧ (u.s_tg v).jb = u.jb ∧ (u.s_tg v).rd = u.rd ∧ (u.s_tg v).bk = u.bk ∧ (u.s_tg v).r = u.r := ⟨rfl, rfl, rfl, rfl, rfl, rfl, rfl, rfl, rfl, rfl, rfl, rfl, rfl, rfl, rfl, rfl, rfl, rfl⟩
theorem e_sy (u : XSt) (v : Nat → Nat) : (u.s_sy v).sc = u.sc ∧ (u.s_sy v).kd = u.kd ∧ (u.s_sy v).tg = u.tg ∧ (u.s_sy v).sy = v ∧ (u.s_sy v).sz = u.sz ∧ (u.s_sy v).su = u.su ∧ (u.s_sy v).wt = u.wt ∧ (u.s_sy v).st = u.st ∧ (u.s_sy v).nu = u.nu ∧ (u.s_sy v).lf = u.lf ∧ (u.s_sy v).rt = u.rt ∧ (u.s_sy v).wa = u.wa ∧ (u.s_sy v).jc = u.jc ∧ (u.s_sy v).ja = u.ja ∧ (u.s_sy v).jb = u.jb ∧ (u.s_sy v).rd = u.rd ∧ (u.s_sy v).bk = u.bk ∧ (u.s_sy v).r = u.r := ⟨rfl, rfl, rfl, rfl, rfl, rfl, rfl, rfl, rfl, rfl, rfl, rfl, rfl, rfl, rfl, rfl, rfl, rfl⟩
theorem e_sz (u : XSt) (v : Nat → Nat) : (u.s_sz v).sc = u.sc ∧ (u.s_sz v).kd = u.kd ∧ (u.s_sz v).tg = u.tg ∧ (u.s_sz v).sy = u.sy ∧ (u.s_sz v).sz = v ∧ (u.s_sz v).su = u.su ∧ (u.s_sz v).wt = u.wt ∧ (u.s_sz v).st = u.st ∧ (u.s_sz v).nu = u.nu ∧ (u.s_sz v).lf = u.lf ∧ (u.s_sz v).rt = u.rt ∧ (u.s_sz v).wa = u.wa ∧ (u.s_sz v).jc = u.jc ∧ (u.s_sz v).ja = u.ja ∧ (u.s_sz v).jb = u.jb ∧ (u.s_sz v).rd = u.rd ∧ (u.s_sz v).bk = u.bk ∧ (u.s_sz v).r = u.r := ⟨rfl, rfl, rfl, rfl, rfl, rfl, rfl, rfl, rfl, rfl, rfl, rfl, rfl, rfl, rfl, rfl, rfl, rfl⟩
theorem e_su (u : XSt) (v : Int64) : (u.s_su v).sc = u.sc ∧ (u.s_su v).kd = u.kd ∧ (u.s_su v).tg = u.tg ∧ (u.s_su v).sy = u.sy ∧ (u.s_su v).sz = u.sz ∧ (u.s_su v).su = v ∧ (u.s_su v).wt = u.wt ∧ (u.s_su v).st = u.st ∧ (u.s_su v).nu = u.nu ∧ (u.s_su v).lf = u.lf ∧ (u.s_su v).rt = u.rt ∧ (u.s_su v).wa = u.wa ∧ (u.s_su v).jc = u.jc ∧ (u.s_su v).ja = u.ja ∧ (u.s_su v).jb = u.jb ∧ (u.s_su v).rd = u.rd ∧ (u.s_su v).bk = u.bk ∧ (u.s_su v).r = u.r := ⟨rfl, rfl, rfl, rfl, rfl, rfl, rfl, rfl, rfl, rfl, rfl, rfl, rfl, rfl, rfl, rfl, rfl, rfl⟩
theorem e_wt (u : XSt) (v : Nat → Int32) : (u.s_wt v).sc = u.sc ∧ (u.s_wt v).kd = u.kd ∧ (u.s_wt v).tg = u.tg ∧ (u.s_wt v).sy = u.sy ∧ (u.s_wt v).sz = u.sz ∧ (u.s_wt v).su = u.su ∧ (u.s_wt v).wt = v ∧ (u.s_wt v).st = u.st ∧ (u.s_wt v).nu = u.nu ∧ (u.s_wt v).lf = u.lf ∧ (u.s_wt v).rt = u.rt ∧ (u.s_wt v).wa = u.wa ∧ (u.s_wt v).jc = u.jc ∧ (u.s_wt v).ja = u.ja ∧ (u.s_wt v).jb = u.jb ∧ (u.s_wt v).rd = u.rd ∧ (u.s_wt v).bk = u.bk ∧ (u.s_wt v).r = u.r := ⟨rfl, rfl, rfl, rfl, rfl, rfl, rfl, rfl, rfl, rfl, rfl, rfl, rfl, rfl, rfl, rfl, rfl, rfl⟩
theorem e_st (u : XSt) (v : Nat → Nat) : (u.s_st v).sc = u.sc ∧ (u.s_st v).kd = u.kd ∧ (u.s_st v).tg = u.tg ∧ (u.s_st v).sy = u.sy ∧ (u.s_st v).sz = u.sz ∧ (u.s_st v).su = u.su ∧ (u.s_st v).wt = u.wt ∧ (u.s_st v).st = v ∧ (u.s_st v).nu = u.nu ∧ (u.s_st v).lf = u.lf ∧ (u.s_st v).rt = u.rt ∧ (u.s_st v).wa = u.wa ∧ (u.s_st v).jc = u.jc ∧ (u.s_st v).ja = u.ja ∧ (u.s_st v).jb = u.jb ∧ (u.s_st v).rd = u.rd ∧ (u.s_st v).bk = u.bk ∧ (u.s_st v).r = u.r := ⟨rfl, rfl, rfl, rfl, rfl, rfl, rfl, rfl, rfl, rfl, rfl, rfl, rfl, rfl, rfl, rfl, rfl, rfl⟩
theorem e_nu (u : XSt) (v : Nat → Int32) : (u.s_nu v).sc = u.sc ∧ (u.s_nu v).kd = u.kd ∧ (u.s_nu v).tg = u.tg ∧ (u.s_nu v).sy = u.sy ∧ (u.s_nu v).sz = u.sz ∧ (u.s_nu v).su = u.su ∧ (u.s_nu v).wt = u.wt ∧ (u.s_nu v).st = u.st ∧ (u.s_nu v).nu = v ∧ (u.s_nu v).lf = u.lf ∧ (u.s_nu v).rt = u.rt ∧ (u.s_nu v).wa = u.wa ∧ (u.s_nu v).jc = u.jc ∧ (u.s_nu v).ja = u.ja ∧ (u.s_nu v).jb = u.jb ∧ (u.s_nu v).rd = u.rd ∧ (u.s_nu v).bk = u.bk ∧ (u.s_nu v).r = u.r := ⟨rfl, rfl, rfl, rfl, rfl, rfl, rfl, rfl, rfl, rfl, rfl, rfl, rfl, rfl, rfl, rfl, rfl, rfl⟩
theorem e_lf (u : XSt) (v : Nat → Nat) : (u.s_lf v).sc = u.sc ∧ (u.s_lf v).kd = u.kd ∧ (u.s_lf v).tg = u.tg ∧ (u.s_lf v).sy = u.sy ∧ (u.s_lf v).sz = u.sz ∧ (u.s_lf v).su = u.su ∧ (u.s_lf v).wt = u.wt ∧ (u.s_lf v).st = u.st ∧ (u.s_lf v).nu = u.nu ∧ (u.s_lf v).lf = v ∧ (u.s_lf v).rt = u.rt ∧ (u.s_lf v).wa = u.wa ∧ (u.s_lf v).jc = u.jc ∧ (u.s_lf v).ja = u.ja ∧ (u.s_lf v).jb = u.jb ∧ (u.s_lf v).rd = u.rd ∧ (u.s_lf v).bk = u.bk ∧ (u.s_lf v).r = u.r := ⟨rfl, rfl, rfl, rfl, rfl, rfl, rfl, rfl, rfl, rfl, rfl, rfl, rfl, rfl, rfl, rfl, rfl, rfl⟩
theorem e_rt (u : XSt) (v : Nat → Nat) : (u.s_rt v).sc = u.sc ∧ (u.s_rt v).kd = u.kd ∧ (u.s_rt v).tg = u.tg ∧ (u.s_rt v).sy = u.sy ∧ (u.s_rt v).sz = u.sz ∧ (u.s_rt v).su = u.su ∧ (u.s_rt v).wt = u.wt ∧ (u.s_rt v).st = u.st ∧ (u.s_rt v).nu = u.nu ∧ (u.s_rt v).lf = u.lf ∧ (u.s_rt v).rt = v ∧ (u.s_rt v).wa = u.wa ∧ (u.s_rt v).jc = u.jc ∧ (u.s_rt v).ja = u.ja ∧ (u.s_rt v).jb = u.jb ∧ (u.s_rt v).rd = u.rd ∧ (u.s_rt v).bk = u.bk ∧ (u.s_rt v).r = u.r := ⟨rfl, rfl, rfl, rfl, rfl, rfl, rfl, rfl, rfl, rfl, rfl, rfl, rfl, rfl, rfl, rfl, rfl, rfl⟩
theorem e_wa (u : XSt) (v : Nat → Int64) : (u.s_wa v).sc = u.sc ∧ (u.s_wa v).kd = u.kd ∧ (u.s_wa v).tg = u.tg ∧ (u.s_wa v).sy = u.sy ∧ (u.s_wa v).sz = u.sz ∧ (u.s_wa v).su = u.su ∧ (u.s_wa v).wt = u.wt ∧ (u.s_wa v).st = u.st ∧ (u.s_wa v).nu = u.nu ∧ (u.s_wa v).lf = u.lf ∧ (u.s_wa v).rt = u.rt ∧ (u.s_wa v).wa = v ∧ (u.s_wa v).jc = u.jc ∧ (u.s_wa v).ja = u.ja ∧ (u.s_wa v).jb = u.jb ∧ (u.s_wa v).rd = u.rd ∧ (u.s_wa v).bk = u.bk ∧ (u.s_wa v).r = u.r := ⟨rfl, rfl, rfl, rfl, rfl, rfl, rfl, rfl, rfl, rfl, rfl, rfl, rfl, rfl, rfl, rfl, rfl, rfl⟩
theorem e_jc (u : XSt) (v : Nat) : (u.s_jc v).sc = u.sc ∧ (u.s_jc v).kd = u.kd ∧ (u.s_jc v).tg = u.tg ∧ (u.s_jc v).sy = u.sy ∧ (u.s_jc v).sz = u.sz ∧ (u.s_jc v).su = u.su ∧ (u.s_jc v).wt = u.wt ∧ (u.s_jc v).st = u.st ∧ (u.s_jc v).nu = u.nu ∧ (u.s_jc v).lf = u.lf ∧ (u.s_jc v).rt = u.rt ∧ (u.s_jc v).wa = u.wa ∧ (u.s_jc v).jc = v ∧ (u.s_jc v).ja = u.ja ∧ (u.s_jc v).jb = u.jb ∧ (u.s_jc v).rd = u.rd ∧ (u.s_jc v).bk = u.bk ∧ (u.s_jc v).r = u.r := ⟨rfl, rfl, rfl, rfl, rfl, rfl, rfl, rfl, rfl, rfl, rfl, rfl, rfl, rfl, rfl, rfl, rfl, rfl⟩
theorem e_ja (u : XSt) (v : Nat → Nat) : (u.s_ja v).sc = u.sc ∧ (u.s_ja v).kd = u.kd ∧ (u.s_ja v).tg = u.tg ∧ (u.s_ja v).sy = u.sy ∧ (u.s_ja v).sz = u.sz ∧ (u.s_ja v).su = u.su ∧ (u.s_ja v).wt = u.wt ∧ (u.s_ja v).st = u.st ∧ (u.s_ja v).nu = u.nu ∧ (u.s_ja v).lf = u.lf ∧ (u.s_ja v).rt = u.rt ∧ (u.s_ja v).wa = u.wa ∧ (u.s_ja v).jc = u.jc ∧ (u.s_ja v).ja = v ∧ (u.s_ja v).jb = u.jb ∧ (u.s_ja v).rd = u.rd ∧ (u.s_ja v).bk = u.bk ∧ (u.s_ja v).r = u.r := ⟨rfl, rfl, rfl, rfl, rfl, rfl, rfl, rfl, rfl, rfl, rfl, rfl, rfl, rfl, rfl, rfl, rfl, rfl⟩
theorem e_jb (u : XSt) (v : Nat → Nat) : (u.s_jb v).sc = u.sc ∧ (u.s_jb v).kd = u.kd ∧ (u.s_jb v).tg = u.tg ∧ (u.s_jb v).sy = u.sy ∧ (u.s_jb v).sz = u.sz ∧ (u.s_jb v).su = u.su ∧ (u.s_jb v).wt = u.wt ∧ (u.s_jb v).st = u.st ∧ (u.s_jb v).nu = u.nu ∧ (u.s_jb v).lf = u.lf ∧ (u.s_jb v).rt = u.rt ∧ (u.s_jb v).wa = u.wa ∧ (u.s_jb v).jc = u.jc ∧ (u.s_jb v).ja = u.ja ∧ (u.s_jb v).jb = v ∧ (u.s_jb v).rd = u.rd ∧ (u.s_jb v).bk = u.bk ∧ (u.s_jb v).r = u.r := ⟨rfl, rfl, rfl, rfl, rfl, rfl, rfl, rfl, rfl, rfl, rfl, rfl, rfl, rfl, rfl, rfl, rfl, rfl⟩
theorem e_rd (u : XSt) (v : Int64) : (u.s_rd v).sc = u.sc ∧ (u.s_rd v).kd = u.kd ∧ (u.s_rd v).tg = u.tg ∧ (u.s_rd v).sy = u.sy ∧ (u.s_rd v).sz = u.sz ∧ (u.s_rd v).su = u.su ∧ (u.s_rd v).wt = u.wt ∧ (u.s_rd v).st = u.st ∧ (u.s_rd v).nu = u.nu ∧ (u.s_rd v).lf = u.lf ∧ (u.s_rd v).rt = u.rt ∧ (u.s_rd v).wa = u.wa ∧ (u.s_rd v).jc = u.jc ∧ (u.s_rd v).ja = u.ja ∧ (u.s_rd v).jb = u.jb ∧ (u.s_rd v).rd = v ∧ (u.s_rd v).bk = u.bk ∧ (u.s_rd v).r = u.r := ⟨rfl, rfl, rfl, rfl, rfl, rfl, rfl, rfl, rfl, rfl, rfl, rfl, rfl, rfl, rfl, rfl, rfl, rfl⟩
theorem e_bk (u : XSt) (v : Bool) : (u.s_bk v).sc = u.sc ∧ (u.s_bk v).kd = u.kd ∧ (u.s_bk v).tg = u.tg ∧ (u.s_bk v).sy = u.sy ∧ (u.s_bk v).sz = u.sz ∧ (u.s_bk v).su = u.su ∧ (u.s_bk v).wt = u.wt ∧ (u.s_bk v).st = u.st ∧ (u.s_bk v).nu = u.nu ∧ (u.s_bk v).lf = u.lf ∧ (u.s_bk v).rt = u.rt ∧ (u.s_bk v).wa = u.wa ∧ (u.s_bk v).jc = u.jc ∧ (u.s_bk v).ja = u.ja ∧ (u.s_bk v).jb = u.jb ∧ (u.s_bk v).rd = u.rd ∧ (u.s_bk v).bk = v ∧ (u.s_bk v).r = u.r := ⟨rfl, rfl, rfl, rfl, rfl, rfl, rfl, rfl, rfl, rfl, rfl, rfl, rfl, rfl, rfl, rfl, rfl, rfl⟩
theorem e_r (u : XSt) (v : Nat → Nat) : (u.s_r v).sc = u.sc ∧ (u.s_r v).kd = u.kd ∧ (u.s_r v).tg = u.tg ∧ (u.s_r v).sy = u.sy ∧ (u.s_r v).sz = u.sz ∧ (u.s_r v).su = u.su ∧ (u.s_r v).wt = u.wt ∧ (u.s_r v).st = u.st ∧ (u.s_r v).nu = u.nu ∧ (u.s_r v).lf = u.lf ∧ (u.s_r v).rt = u.rt ∧ (u.s_r v).wa = u.wa ∧ (u.s_r v).jc = u.jc ∧ (u.s_r v).ja = u.ja ∧ (u.s_r v).jb = u.jb ∧ (u.s_r v).rd = u.rd ∧ (u.s_r v).bk = u.bk ∧ (u.s_r v).r = v := ⟨rfl, rfl, rfl, rfl, rfl, rfl, rfl, rfl, rfl, rfl, rfl, rfl, rfl, rfl, rfl, rfl, rfl, rfl⟩
theorem wake_e (u : XSt) (h : Nat) : (xs_wake u h).sc = u.sc ∧ (xs_wake u h).kd = u.kd ∧ (xs_wake u h).tg = u.tg ∧ (xs_wake u h).sy = u.sy ∧ (xs_wake u h).sz = u.sz ∧ (xs_wake u h).su = u.su ∧ (xs_wake u h).wt = u.wt ∧ (xs_wake u h).st = u.st ∧ (xs_wake u h).nu = u.nu ∧ (xs_wake u h).lf = u.lf ∧ (xs_wake u h).rt = u.rt ∧ (xs_wake u h).wa = va_up u.wa h 0 ∧ (xs_wake u h).jc = u.jc ∧ (xs_wake u h).ja = u.ja ∧ (xs_wake u h).jb = u.jb ∧ (xs_wake u h).rd = u.rd ||| (u.wa h &&& u.su) ∧ (xs_wake u h).bk = u.bk ∧ (xs_wake u h).r = u.r := by
  unfold xs_wake
  simp only [e_rd, e_wa]
  simp only [and_self]
theorem want_e (u : XSt) (x y : Nat) : (xs_want u x y).sc = u.sc ∧ (xs_want u x y).kd = u.kd ∧ (xs_want u x y).tg = u.tg ∧ (xs_want u x y).sy = u.sy ∧ (xs_want u x y).sz = u.sz ∧ (xs_want u x y).su = u.su ∧ (xs_want u x y).wt = u.wt ∧ (xs_want u x y).st = u.st ∧ (xs_want u x y).nu = u.nu ∧ (xs_want u x y).lf = u.lf ∧ (xs_want u x y).rt = u.rt ∧ (xs_want u x y).wa = u.wa ∧ (xs_want u x y).jc = u.jc + 1 ∧ (xs_want u x y).ja = va_up u.ja u.jc x ∧ (xs_want u x y).jb = va_up u.jb u.jc y ∧ (xs_want u x y).rd = u.rd ∧ (xs_want u x y).bk = u.bk ∧ (xs_want u x y).r = u.r := by
  unfold xs_want
  simp only [e_ja, e_jb, e_jc]
  simp only [and_self]
theorem park_e (u : XSt) (k s : Nat) : (xs_park u k s).sc = u.sc ∧ (xs_park u k s).kd = u.kd ∧ (xs_park u k s).tg = u.tg ∧ (xs_park u k s).sy = u.sy ∧ (xs_park u k s).sz = u.sz ∧ (xs_park u k s).su = u.su ∧ (xs_park u k s).wt = u.wt ∧ (xs_park u k s).st = u.st ∧ (xs_park u k s).nu = u.nu ∧ (xs_park u k s).lf = u.lf ∧ (xs_park u k s).rt = u.rt ∧ (xs_park u k s).wa = va_up u.wa k (u.wa k ||| xs_bit s) ∧ (xs_park u k s).jc = u.jc ∧ (xs_park u k s).ja = u.ja ∧ (xs_park u k s).jb = u.jb ∧ (xs_park u k s).rd = u.rd ∧ (xs_park u k s).bk = u.bk ∧ (xs_park u k s).r = u.r := by
  unfold xs_park
  simp only [e_wa]
  simp only [and_self]
theorem merge_e (u : XSt) (a b : Nat) : (xs_merge u a b).sc = u.sc ∧ (xs_merge u a b).kd = u.kd ∧ (xs_merge u a b).tg = u.tg ∧ (xs_merge u a b).sy = u.sy ∧ (xs_merge u a b).sz = u.sz ∧ (xs_merge u a b).su = u.su ∧ (xs_merge u a b).wt = va_up u.wt a (vp_nar .byte ((u.wt a + u.wt b).toInt8.toInt32)) ∧ (xs_merge u a b).st = u.st ∧ (xs_merge u a b).nu = u.nu ∧ (xs_merge u a b).lf = u.lf ∧ (xs_merge u a b).rt = u.rt ∧ (xs_merge u a b).wa = va_up u.wa a (u.wa a ||| u.wa b) ∧ (xs_merge u a b).jc = u.jc ∧ (xs_merge u a b).ja = u.ja ∧ (xs_merge u a b).jb = u.jb ∧ (xs_merge u a b).rd = u.rd ∧ (xs_merge u a b).bk = u.bk ∧ (xs_merge u a b).r = (fun z => if u.r z = b then a else u.r z) := by
  unfold xs_merge xs_merge0
  simp only [e_wt, e_wa, e_r]
  simp only [and_self]
theorem want2_e (u : XSt) (a b c d : Nat) : (xs_want (xs_want u a b) c d).sc = u.sc ∧ (xs_want (xs_want u a b) c d).kd = u.kd ∧ (xs_want (xs_want u a b) c d).tg = u.tg ∧ (xs_want (xs_want u a b) c d).sy = u.sy ∧ (xs_want (xs_want u a b) c d).sz = u.sz ∧ (xs_want (xs_want u a b) c d).su = u.su ∧ (xs_want (xs_want u a b) c d).wt = u.wt ∧ (xs_want (xs_want u a b) c d).st = u.st ∧ (xs_want (xs_want u a b) c d).nu = u.nu ∧ (xs_want (xs_want u a b) c d).lf = u.lf ∧ (xs_want (xs_want u a b) c d).rt = u.rt ∧ (xs_want (xs_want u a b) c d).wa = u.wa ∧ (xs_want (xs_want u a b) c d).jc = u.jc + 1 + 1 ∧ (xs_want (xs_want u a b) c d).ja = va_up (va_up u.ja u.jc a) (u.jc + 1) c ∧ (xs_want (xs_want u a b) c d).jb = va_up (va_up u.jb u.jc b) (u.jc + 1) d ∧ (xs_want (xs_want u a b) c d).rd = u.rd ∧ (xs_want (xs_want u a b) c d).bk = u.bk ∧ (xs_want (xs_want u a b) c d).r = u.r := by
  simp only [want_e]
  simp only [and_self]
theorem setN_e (u : XSt) (k : Nat) (n : Int32) : (xs_wake ((u.s_st (va_up u.st k 1)).s_nu (va_up u.nu k n)) k).sc = u.sc ∧ (xs_wake ((u.s_st (va_up u.st k 1)).s_nu (va_up u.nu k n)) k).kd = u.kd ∧ (xs_wake ((u.s_st (va_up u.st k 1)).s_nu (va_up u.nu k n)) k).tg = u.tg ∧ (xs_wake ((u.s_st (va_up u.st k 1)).s_nu (va_up u.nu k n)) k).sy = u.sy ∧ (xs_wake ((u.s_st (va_up u.st k 1)).s_nu (va_up u.nu k n)) k).sz = u.sz ∧ (xs_wake ((u.s_st (va_up u.st k 1)).s_nu (va_up u.nu k n)) k).su = u.su ∧ (xs_wake ((u.s_st (va_up u.st k 1)).s_nu (va_up u.nu k n)) k).wt = u.wt ∧ (xs_wake ((u.s_st (va_up u.st k 1)).s_nu (va_up u.nu k n)) k).st = va_up u.st k 1 ∧ (xs_wake ((u.s_st (va_up u.st k 1)).s_nu (va_up u.nu k n)) k).nu = va_up u.nu k n ∧ (xs_wake ((u.s_st (va_up u.st k 1)).s_nu (va_up u.nu k n)) k).lf = u.lf ∧ (xs_wake ((u.s_st (va_up u.st k 1)).s_nu (va_up u.nu k n)) k).rt = u.rt ∧ (xs_wake ((u.s_st (va_up u.st k 1)).s_nu (va_up u.nu k n)) k).wa = va_up u.wa k 0 ∧ (xs_wake ((u.s_st (va_up u.st k 1)).s_nu (va_up u.nu k n)) k).jc = u.jc ∧ (xs_wake ((u.s_st (va_up u.st k 1)).s_nu (va_up u.nu k n)) k).ja = u.ja ∧ (xs_wake ((u.s_st (va_up u.st k 1)).s_nu (va_up u.nu k n)) k).jb = u.jb ∧ (xs_wake ((u.s_st (va_up u.st k 1)).s_nu (va_up u.nu k n)) k).rd = u.rd ||| (u.wa k &&& u.su) ∧ (xs_wake ((u.s_st (va_up u.st k 1)).s_nu (va_up u.nu k n)) k).bk = u.bk ∧ (xs_wake ((u.s_st (va_up u.st k 1)).s_nu (va_up u.nu k n)) k).r = u.r := by
  simp only [wake_e, e_st, e_nu]
  simp only [and_self]
theorem setC_e (u : XSt) (k a b : Nat) : (xs_wake (((u.s_st (va_up u.st k 2)).s_lf (va_up u.lf k a)).s_rt (va_up u.rt k b)) k).sc = u.sc ∧ (xs_wake (((u.s_st (va_up u.st k 2)).s_lf (va_up u.lf k a)).s_rt (va_up u.rt k b)) k).kd = u.kd ∧ (xs_wake (((u.s_st (va_up u.st k 2)).s_lf (va_up u.lf k a)).s_rt (va_up u.rt k b)) k).tg = u.tg ∧ (xs_wake (((u.s_st (va_up u.st k 2)).s_lf (va_up u.lf k a)).s_rt (va_up u.rt k b)) k).sy = u.sy ∧ (xs_wake (((u.s_st (va_up u.st k 2)).s_lf (va_up u.lf k a)).s_rt (va_up u.rt k b)) k).sz = u.sz ∧ (xs_wake (((u.s_st (va_up u.st k 2)).s_lf (va_up u.lf k a)).s_rt (va_up u.rt k b)) k).su = u.su ∧ (xs_wake (((u.s_st (va_up u.st k 2)).s_lf (va_up u.lf k a)).s_rt (va_up u.rt k b)) k).wt = u.wt ∧ (xs_wake (((u.s_st (va_up u.st k 2)).s_lf (va_up u.lf k a)).s_rt (va_up u.rt k b)) k).st = va_up u.st k 2 ∧ (xs_wake (((u.s_st (va_up u.st k 2)).s_lf (va_up u.lf k a)).s_rt (va_up u.rt k b)) k).nu = u.nu ∧ (xs_wake (((u.s_st (va_up u.st k 2)).s_lf (va_up u.lf k a)).s_rt (va_up u.rt k b)) k).lf = va_up u.lf k a ∧ (xs_wake (((u.s_st (va_up u.st k 2)).s_lf (va_up u.lf k a)).s_rt (va_up u.rt k b)) k).rt = va_up u.rt k b ∧ (xs_wake (((u.s_st (va_up u.st k 2)).s_lf (va_up u.lf k a)).s_rt (va_up u.rt k b)) k).wa = va_up u.wa k 0 ∧ (xs_wake (((u.s_st (va_up u.st k 2)).s_lf (va_up u.lf k a)).s_rt (va_up u.rt k b)) k).jc = u.jc ∧ (xs_wake (((u.s_st (va_up u.st k 2)).s_lf (va_up u.lf k a)).s_rt (va_up u.rt k b)) k).ja = u.ja ∧ (xs_wake (((u.s_st (va_up u.st k 2)).s_lf (va_up u.lf k a)).s_rt (va_up u.rt k b)) k).jb = u.jb ∧ (xs_wake (((u.s_st (va_up u.st k 2)).s_lf (va_up u.lf k a)).s_rt (va_up u.rt k b)) k).rd = u.rd ||| (u.wa k &&& u.su) ∧ (xs_wake (((u.s_st (va_up u.st k 2)).s_lf (va_up u.lf k a)).s_rt (va_up u.rt k b)) k).bk = u.bk ∧ (xs_wake (((u.s_st (va_up u.st k 2)).s_lf (va_up u.lf k a)).s_rt (va_up u.rt k b)) k).r = u.r := by
  simp only [wake_e, e_st, e_lf, e_rt]
  simp only [and_self]
end
section
/-! X: every fact of its state holds in every interpretation of the told statements -/
def XSnd (u : XSt) (r : Nat → Nat) (val : VT) : Prop := u.bk = false ∧ (∀ x, x < 12 → r (u.r x) = r x) ∧ (∀ h, h < 12 → u.st h = 1 → val (r h) = some (.inl (u.nu h))) ∧ (∀ h, h < 12 → u.st h = 2 → ∃ a b, val (r h) = some (.inr (a, b)) ∧ r a = r (u.lf h) ∧ r b = r (u.rt h)) ∧ (∀ j, j < u.jc → r (u.ja j) = r (u.jb j))
def XSame (u v : XSt) : Prop := v.sc = u.sc ∧ v.kd = u.kd ∧ v.tg = u.tg ∧ v.sy = u.sy ∧ v.sz = u.sz
theorem XSame.rf (u : XSt) : XSame u u := ⟨rfl, rfl, rfl, rfl, rfl⟩
theorem XSame.tr {a b c : XSt} (h : XSame a b) (h2 : XSame b c) : XSame a c := ⟨h2.1.trans h.1, h2.2.1.trans h.2.1, h2.2.2.1.trans h.2.2.1, h2.2.2.2.1.trans h.2.2.2.1, h2.2.2.2.2.trans h.2.2.2.2⟩
theorem xsame_wake (u : XSt) (k : Nat) : XSame u (xs_wake u k) := ⟨rfl, rfl, rfl, rfl, rfl⟩
theorem xsame_want (u : XSt) (x y : Nat) : XSame u (xs_want u x y) := ⟨rfl, rfl, rfl, rfl, rfl⟩
theorem xsame_merge (u : XSt) (a b : Nat) : XSame u (xs_merge u a b) := ⟨rfl, rfl, rfl, rfl, rfl⟩
theorem xsame_park (u : XSt) (a b : Nat) : XSame u (xs_park u a b) := ⟨rfl, rfl, rfl, rfl, rfl⟩
theorem xsame_bindN (u : XSt) (k : Nat) (n : Int32) : XSame u (xs_bindN u k n) := by
  unfold xs_bindN
  split
  · exact ⟨rfl, rfl, rfl, rfl, rfl⟩
  · split
    · exact ⟨rfl, rfl, rfl, rfl, rfl⟩
    · exact XSame.rf u
theorem xsame_bindC (u : XSt) (k a b : Nat) : XSame u (xs_bindC u k a b) := by
  unfold xs_bindC
  split
  · exact ⟨rfl, rfl, rfl, rfl, rfl⟩
  · split
    · exact (xsame_want _ _ _).tr (xsame_want _ _ _)
    · exact ⟨rfl, rfl, rfl, rfl, rfl⟩
theorem xsame_j2 (u : XSt) (a b : Nat) : XSame u (xs_j2 u a b) := by
  unfold xs_j2
  split
  · exact xsame_bindN _ _ _
  · exact XSame.rf u
theorem xsame_j3 (u : XSt) (a b : Nat) : XSame u (xs_j3 u a b) := by
  unfold xs_j3
  split
  · exact xsame_bindC _ _ _ _
  · exact XSame.rf u
theorem xsame_j4 (u : XSt) (a : Nat) : XSame u (xs_j4 u a) := by
  unfold xs_j4
  split
  · exact XSame.rf u
  · exact xsame_wake _ _
theorem xsame_join2 (u : XSt) (a b : Nat) : XSame u (xs_join2 u a b) := (((xsame_merge u a b).tr (xsame_j2 _ _ _)).tr (xsame_j3 _ _ _)).tr (xsame_j4 _ _)
theorem xsame_join (u : XSt) (a b : Nat) : XSame u (xs_join u a b) := by
  unfold xs_join
  split
  · exact XSame.rf u
  · split
    · exact xsame_join2 _ _ _
    · exact xsame_join2 _ _ _
theorem xsame_fire (u : XSt) (s : Nat) : XSame u (xs_fire u s) := by
  unfold xs_fire
  split
  · exact xsame_want _ _ _
  · exact xsame_bindN _ _ _
theorem xsame_su (u : XSt) (b : Int64) : XSame u (u.s_su b) := ⟨rfl, rfl, rfl, rfl, rfl⟩
theorem xsame_rd (u : XSt) (b : Int64) : XSame u (u.s_rd b) := ⟨rfl, rfl, rfl, rfl, rfl⟩
theorem xsame_jc (u : XSt) (b : Nat) : XSame u (u.s_jc b) := ⟨rfl, rfl, rfl, rfl, rfl⟩
theorem xsame_try (u : XSt) (s : Nat) : XSame u (xs_try u s) := by
  unfold xs_try
  split
  · exact xsame_park _ _ _
  · split
    · exact xsame_park _ _ _
    · split
      · exact XSame.rf u
      · exact (xsame_su u _).tr (xsame_fire _ _)
section
variable {r : Nat → Nat} {val : VT} {u : XSt}
theorem XSnd.wake (h : XSnd u r val) (k : Nat) : XSnd (xs_wake u k) r val := h
theorem XSnd.park (h : XSnd u r val) (k s : Nat) : XSnd (xs_park u k s) r val := h
theorem XSnd.su (h : XSnd u r val) (b : Int64) : XSnd (u.s_su b) r val := h
theorem XSnd.rd (h : XSnd u r val) (b : Int64) : XSnd (u.s_rd b) r val := h
theorem XSnd.want (h : XSnd u r val) {x y : Nat} (hxy : r x = r y) : XSnd (xs_want u x y) r val := by
  obtain ⟨h0, h1, h2, h3, h4⟩ := h
  refine ⟨h0, h1, h2, h3, fun j hj => ?_⟩
  have hj : j < u.jc + 1 := hj
  show r (va_up u.ja u.jc x j) = r (va_up u.jb u.jc y j)
  by_cases e : j = u.jc
  · rw [e, up_at, up_at]; exact hxy
  · rw [up_ne _ _ e, up_ne _ _ e]
    exact h4 j (by omega)
theorem XSnd.of {v : XSt} (e1 : v.bk = u.bk) (e2 : v.r = u.r) (e3 : v.jc = u.jc ∧ v.ja = u.ja ∧ v.jb = u.jb) (h : XSnd u r val) (h2 : ∀ q, q < 12 → v.st q = 1 → val (r q) = some (.inl (v.nu q))) (h3 : ∀ q, q < 12 → v.st q = 2 → ∃ a b, val (r q) = some (.inr (a, b)) ∧ r a = r (v.lf q) ∧ r b = r (v.rt q)) : XSnd v r val := by
  obtain ⟨k0, k1, k2, k3, k4⟩ := h
  refine ⟨e1.trans k0, by rw [e2]; exact k1, h2, h3, ?_⟩
  rw [e3.1, e3.2.1, e3.2.2]
  exact k4
theorem XSnd.bindN (h : XSnd u r val) (hS : XSr u) {k : Nat} (hk : k < 12) {n : Int32} (hv : val (r k) = some (.inl n)) : XSnd (xs_bindN u k n) r val := by
  unfold xs_bindN
  split
  · have E := setN_e u k n
    generalize xs_wake ((u.s_st (va_up u.st k 1)).s_nu (va_up u.nu k n)) k = v at E ⊢
    obtain ⟨-, -, -, -, -, Esu, -, Est, Enu, Elf, Ert, Ewa, Ejc, Eja, Ejb, Erd, Ebk, Er⟩ := E
    refine XSnd.of Ebk Er ⟨Ejc, Eja, Ejb⟩ h (fun q hq e => ?_) (fun q hq e => ?_)
    · rw [Est] at e
      rw [Enu]
      by_cases c : q = k
      · rw [c, up_at]; exact hv
      · rw [up_ne _ _ c] at e ⊢
        exact h.2.2.1 q hq e
    · rw [Est] at e
      rw [Elf, Ert]
      by_cases c : q = k
      · rw [c, up_at] at e; exact absurd e (by decide)
      · rw [up_ne _ _ c] at e
        exact h.2.2.2.1 q hq e
  · rename_i c0
    split
    · rename_i c
      exfalso
      by_cases c2 : u.st k = 2
      · obtain ⟨a, b, e, -⟩ := h.2.2.2.1 k hk c2
        rw [hv] at e
        cases e
      · have c1 : u.st k = 1 := by have := hS.2.1 k; omega
        have e := h.2.2.1 k hk c1
        rw [hv] at e
        injection e with e; injection e with e
        rcases c with c | c
        · exact c2 c
        · exact c e.symm
    · exact h
theorem XSnd.bindC (h : XSnd u r val) (hS : XSr u) {k : Nat} (hk : k < 12) {x y a b : Nat} (hv : val (r k) = some (.inr (a, b))) (ha : r a = r x) (hb : r b = r y) : XSnd (xs_bindC u k x y) r val := by
  unfold xs_bindC
  split
  · have E := setC_e u k x y
    generalize xs_wake (((u.s_st (va_up u.st k 2)).s_lf (va_up u.lf k x)).s_rt (va_up u.rt k y)) k = v at E ⊢
    obtain ⟨-, -, -, -, -, Esu, -, Est, Enu, Elf, Ert, Ewa, Ejc, Eja, Ejb, Erd, Ebk, Er⟩ := E
    refine XSnd.of Ebk Er ⟨Ejc, Eja, Ejb⟩ h (fun q hq e => ?_) (fun q hq e => ?_)
    · rw [Est] at e
      rw [Enu]
      by_cases c : q = k
      · rw [c, up_at] at e; exact absurd e (by decide)
      · rw [up_ne _ _ c] at e
        exact h.2.2.1 q hq e
    · rw [Est] at e
      rw [Elf, Ert]
      by_cases c : q = k
      · rw [c, up_at, up_at]; exact ⟨a, b, hv, ha, hb⟩
      · rw [up_ne _ _ c] at e
        rw [up_ne _ _ c, up_ne _ _ c]
        exact h.2.2.2.1 q hq e
  · split
    · rename_i c
      obtain ⟨a2, b2, e, ha2, hb2⟩ := h.2.2.2.1 k hk c
      rw [hv] at e
      have e3 : a = a2 ∧ b = b2 := by
        injection e with e; injection e with e; injection e with e3 e4
        exact ⟨e3, e4⟩
      rw [e3.1] at ha
      rw [e3.2] at hb
      have w1 := h.want (x := u.lf k) (y := x) (ha2.symm.trans ha)
      exact w1.want (x := u.rt k) (y := y) (hb2.symm.trans hb)
    · rename_i c0 c2
      have c1 : u.st k = 1 := by have := hS.2.1 k; omega
      have e := h.2.2.1 k hk c1
      rw [hv] at e
      cases e
theorem XSnd.merge (h : XSnd u r val) {big small : Nat} (e : r big = r small) : XSnd (xs_merge u big small) r val := by
  obtain ⟨h0, h1, h2⟩ := h
  refine ⟨h0, fun x hx => ?_, h2⟩
  show r (if u.r x = small then big else u.r x) = r x
  split
  · rename_i c
    rw [e, ← c]
    exact h1 x hx
  · exact h1 x hx
theorem XSnd.j2 (h : XSnd u r val) (hS : XSr u) {big small : Nat} (hb : big < 12) (hs : small < 12) (e : r big = r small) : XSnd (xs_j2 u big small) r val := by
  unfold xs_j2
  split
  · rename_i c
    exact h.bindN hS hb (by rw [e]; exact h.2.2.1 small hs c)
  · exact h
theorem XSnd.j3 (h : XSnd u r val) (hS : XSr u) {big small : Nat} (hb : big < 12) (hs : small < 12) (e : r big = r small) : XSnd (xs_j3 u big small) r val := by
  unfold xs_j3
  split
  · rename_i c
    obtain ⟨a, b, k1, k2, k3⟩ := h.2.2.2.1 small hs c
    exact h.bindC hS hb (by rw [e]; exact k1) k2 k3
  · exact h
theorem XSnd.j4 (h : XSnd u r val) (big : Nat) : XSnd (xs_j4 u big) r val := by
  unfold xs_j4
  split
  · exact h
  · exact h.wake big
theorem XSnd.join2 (h : XSnd u r val) (hS : XSr u) {big small : Nat} (hb : big < 12) (hs : small < 12) (e : r big = r small) : XSnd (xs_join2 u big small) r val :=
  (((h.merge e).j2 (hS.merge big small) hb hs e).j3 ((hS.merge big small).j2 big small) hb hs e).j4 big
theorem XSnd.join (h : XSnd u r val) (hS : XSr u) {L : Nat → Nat} (hF : Forest L u.r) {x y : Nat} (hx : x < 12) (hy : y < 12) (e : r x = r y) : XSnd (xs_join u x y) r val := by
  have e2 : r (u.r x) = r (u.r y) := by rw [h.2.1 x hx, h.2.1 y hy]; exact e
  unfold xs_join
  split
  · exact h
  · split
    · exact h.join2 hS (hF.lt hx) (hF.lt hy) e2
    · exact h.join2 hS (hF.lt hy) (hF.lt hx) e2.symm
/-- statement s of X's own arrays -/
def SatX (r : Nat → Nat) (val : VT) (u : XSt) (s : Nat) : Prop := (u.kd s = 5 ∨ u.kd s = 6 → ∀ a b, val (r (u.sy s)) = some (.inr (a, b)) → r (u.tg s) = r (if u.kd s = 5 then a else b)) ∧ (¬ (u.kd s = 5 ∨ u.kd s = 6) → ∀ p q, val (r (u.sy s)) = some (.inl p) → val (r (u.sz s)) = some (.inl q) → val (r (u.tg s)) = some (.inl (xs_comp (u.kd s) p q)))
theorem XSnd.fire (h : XSnd u r val) (hS : XSr u) {L : Nat → Nat} (hF : Forest L u.r) {s : Nat} (hs : SatX r val u s) (h1 : u.st (u.r (u.sy s)) = xs_wanted (u.kd s)) (h2 : u.st (u.r (u.sz s)) = xs_wanted (u.kd s)) : XSnd (xs_fire u s) r val := by
  have ey := h.2.1 _ (hS.sy s)
  have ez := h.2.1 _ (hS.sz s)
  unfold xs_fire
  split
  · rename_i c
    have hw : xs_wanted (u.kd s) = 2 := if_pos c
    rw [hw] at h1
    obtain ⟨a, b, k1, k2, k3⟩ := h.2.2.2.1 _ (hF.lt (hS.sy s)) h1
    rw [ey] at k1
    have := hs.1 c a b k1
    refine h.want ?_
    rw [this]
    split
    · exact k2
    · exact k3
  · rename_i c
    have hw : xs_wanted (u.kd s) = 1 := if_neg c
    rw [hw] at h1 h2
    have k1 := h.2.2.1 _ (hF.lt (hS.sy s)) h1
    have k2 := h.2.2.1 _ (hF.lt (hS.sz s)) h2
    rw [ey] at k1
    rw [ez] at k2
    exact h.bindN hS (hF.lt (hS.tg s)) (by rw [h.2.1 _ (hS.tg s)]; exact hs.2 c _ _ k1 k2)
theorem XSnd.tryS (h : XSnd u r val) (hS : XSr u) {L : Nat → Nat} (hF : Forest L u.r) {s : Nat} (hs : SatX r val u s) : XSnd (xs_try u s) r val := by
  unfold xs_try
  split
  · exact h.park _ _
  · split
    · exact h.park _ _
    · split
      · exact h
      · rename_i c
        have c1 : u.st (u.r (u.sy s)) = xs_wanted (u.kd s) := Classical.byContradiction (fun z => c (Or.inl z))
        have c2 : u.st (u.r (u.sz s)) = xs_wanted (u.kd s) := Classical.byContradiction (fun z => c (Or.inr z))
        exact XSnd.fire (u := u.s_su (u.su &&& (xs_bit s ^^^ -1))) h hS hF hs c1 c2
end
/-! equal once all that is pending has been joined -/
def EqI (u : XSt) (x y : Nat) : Prop := ∀ f : Nat → Nat, (∀ z, z < 12 → f (u.r z) = f z) → (∀ j, j < u.jc → f (u.ja j) = f (u.jb j)) → f x = f y
theorem EqI.rf (u : XSt) (x : Nat) : EqI u x x := fun _ _ _ => rfl
theorem EqI.sy {u : XSt} {x y : Nat} (h : EqI u x y) : EqI u y x := fun f a b => (h f a b).symm
theorem EqI.tr {u : XSt} {x y z : Nat} (h : EqI u x y) (h2 : EqI u y z) : EqI u x z := fun f a b => (h f a b).trans (h2 f a b)
def RootOk (r : Nat → Nat) : Prop := ∀ x, x < 12 → r x < 12 ∧ r (r x) = r x
theorem Forest.ok {L r : Nat → Nat} (h : Forest L r) : RootOk r := fun _ hx => ⟨h.lt hx, h.rr hx⟩
theorem EqI.rest {u : XSt} (hR : RootOk u.r) (hj : u.jc = 0) {x y : Nat} (h : EqI u x y) : u.r x = u.r y := h u.r (fun z hz => (hR z hz).2) (fun j hj2 => by omega)
def Ext (u v : XSt) : Prop :=
  (∀ x, x < 12 → v.r (u.r x) = v.r x) ∧
  (∀ f : Nat → Nat, (∀ z, z < 12 → f (v.r z) = f z) → (∀ j, j < v.jc → f (v.ja j) = f (v.jb j)) → (∀ z, z < 12 → f (u.r z) = f z) ∧ ∀ j, j < u.jc → f (u.ja j) = f (u.jb j)) ∧
  (∀ h, h < 12 → u.r h = h → u.st h = 1 → v.st (v.r h) = 1 ∧ v.nu (v.r h) = u.nu h) ∧
  (∀ h, h < 12 → u.r h = h → u.st h = 2 → v.st (v.r h) = 2 ∧ EqI v (v.lf (v.r h)) (u.lf h) ∧ EqI v (v.rt (v.r h)) (u.rt h)) ∧
  (∀ h, h < 12 → u.r h = h → u.st h = 0 → ∀ i, bt (u.wa h) i = true → bt v.su i = true → bt v.rd i = true ∨ (v.st (v.r h) = 0 ∧ bt (v.wa (v.r h)) i = true)) ∧
  (∀ i, bt u.rd i = true → bt v.rd i = true) ∧ XSame u v
section
variable {u v : XSt} {g : YSt}
theorem Ext.rf (hR : RootOk u.r) : Ext u u := ⟨fun x hx => (hR x hx).2, fun f a b => ⟨a, b⟩, fun h _ e k => by rw [e]; exact ⟨k, rfl⟩, fun h _ e k => by rw [e]; exact ⟨k, EqI.rf _ _, EqI.rf _ _⟩, fun h _ e k i b _ => Or.inr (by rw [e]; exact ⟨k, b⟩), fun _ h => h, XSame.rf u⟩
theorem EqI.ext (hE : Ext u v) {x y : Nat} (h : EqI u x y) : EqI v x y := fun f a b => h f (hE.2.1 f a b).1 (hE.2.1 f a b).2
theorem Ext.n1 (hE : Ext u v) (hR : RootOk u.r) {x : Nat} (hx : x < 12) (h : u.st (u.r x) = 1) : v.st (v.r x) = 1 ∧ v.nu (v.r x) = u.nu (u.r x) := by
  have := hE.2.2.1 _ (hR x hx).1 (hR x hx).2 h
  rw [hE.1 x hx] at this
  exact this
theorem Ext.n2 (hE : Ext u v) (hR : RootOk u.r) {x : Nat} (hx : x < 12) (h : u.st (u.r x) = 2) : v.st (v.r x) = 2 ∧ EqI v (v.lf (v.r x)) (u.lf (u.r x)) ∧ EqI v (v.rt (v.r x)) (u.rt (u.r x)) := by
  have := hE.2.2.2.1 _ (hR x hx).1 (hR x hx).2 h
  rw [hE.1 x hx] at this
  exact this
theorem Ext.z (hE : Ext u v) (hR : RootOk u.r) {x : Nat} (hx : x < 12) (h : u.st (u.r x) = 0) {i : Nat} (hb : bt (u.wa (u.r x)) i = true) (hs : bt v.su i = true) : bt v.rd i = true ∨ (v.st (v.r x) = 0 ∧ bt (v.wa (v.r x)) i = true) := by
  have := hE.2.2.2.2.1 _ (hR x hx).1 (hR x hx).2 h i hb hs
  rw [hE.1 x hx] at this
  exact this
theorem Ext.nz (hE : Ext u v) (hR : RootOk u.r) (hS : XSr u) {x : Nat} (hx : x < 12) (h : u.st (u.r x) ≠ 0) : v.st (v.r x) = u.st (u.r x) := by
  have h2 := hS.2.1 (u.r x)
  by_cases e : u.st (u.r x) = 1
  · rw [e]; exact (hE.n1 hR hx e).1
  · have e2 : u.st (u.r x) = 2 := by omega
    rw [e2]; exact (hE.n2 hR hx e2).1
theorem Ext.tr {w : XSt} (hu : RootOk u.r) (hv : RootOk v.r) (h1 : Ext u v) (h2 : Ext v w) (hs : ∀ i, bt w.su i = true → bt v.su i = true) : Ext u w := by
  refine ⟨fun x hx => ?_, fun f a b => ?_, fun h hh e k => ?_, fun h hh e k => ?_, fun h hh e k i b s => ?_, fun i q => h2.2.2.2.2.2.1 i (h1.2.2.2.2.2.1 i q), h1.2.2.2.2.2.2.tr h2.2.2.2.2.2.2⟩
  · rw [← h2.1 (u.r x) (hu x hx).1, h1.1 x hx, h2.1 x hx]
  · obtain ⟨c, d⟩ := h2.2.1 f a b
    exact h1.2.1 f c d
  · obtain ⟨a, b⟩ := h1.2.2.1 h hh e k
    obtain ⟨c, d⟩ := h2.2.2.1 (v.r h) (hv h hh).1 (hv h hh).2 a
    rw [h2.1 h hh] at c d
    exact ⟨c, d.trans b⟩
  · obtain ⟨a, b, b2⟩ := h1.2.2.2.1 h hh e k
    obtain ⟨c, d, d2⟩ := h2.2.2.2.1 (v.r h) (hv h hh).1 (hv h hh).2 a
    rw [h2.1 h hh] at c d d2
    exact ⟨c, d.tr (b.ext h2), d2.tr (b2.ext h2)⟩
  · rcases h1.2.2.2.2.1 h hh e k i b (hs i s) with q | q
    · exact Or.inl (h2.2.2.2.2.2.1 i q)
    · have := h2.2.2.2.2.1 (v.r h) (hv h hh).1 (hv h hh).2 q.1 i q.2 s
      rw [h2.1 h hh] at this
      exact this
theorem wanted_12 (k : Nat) : xs_wanted k = 1 ∨ xs_wanted k = 2 := by
  unfold xs_wanted
  split
  · exact Or.inr rfl
  · exact Or.inl rfl
def Fired (u : XSt) (i : Nat) : Prop := u.st (u.r (u.sy i)) = xs_wanted (u.kd i) ∧ u.st (u.r (u.sz i)) = xs_wanted (u.kd i) ∧ (u.kd i = 5 ∨ u.kd i = 6 → EqI u (u.tg i) (if u.kd i = 5 then u.lf (u.r (u.sy i)) else u.rt (u.r (u.sy i)))) ∧ (¬ (u.kd i = 5 ∨ u.kd i = 6) → u.st (u.r (u.tg i)) = 1 ∧ u.nu (u.r (u.tg i)) = xs_comp (u.kd i) (u.nu (u.r (u.sy i))) (u.nu (u.r (u.sz i))))
def Parked (u : XSt) (i : Nat) : Prop := (u.st (u.r (u.sy i)) = 0 ∧ bt (u.wa (u.r (u.sy i))) i = true) ∨ (u.st (u.r (u.sz i)) = 0 ∧ bt (u.wa (u.r (u.sz i))) i = true)
def Stuck (u : XSt) (i : Nat) : Prop := u.st (u.r (u.sy i)) ≠ 0 ∧ u.st (u.r (u.sz i)) ≠ 0 ∧ (u.st (u.r (u.sy i)) ≠ xs_wanted (u.kd i) ∨ u.st (u.r (u.sz i)) ≠ xs_wanted (u.kd i))
def Comp (u : XSt) (g : YSt) (i : Nat) : Prop :=
  (g.kd i = 0 → EqI u (g.ax i) (vN (g.ay i))) ∧ (g.kd i = 1 → u.st (u.r (g.ax i)) = 1 ∧ u.nu (u.r (g.ax i)) = g.ay i) ∧
  (g.kd i = 2 → u.st (u.r (g.ax i)) = 2 ∧ EqI u (u.lf (u.r (g.ax i))) (vN (g.ay i)) ∧ EqI u (u.rt (u.r (g.ax i))) (vN (g.az i))) ∧
  (3 ≤ g.kd i → (bt u.su i = false → Fired u i) ∧ (bt u.su i = true → bt u.rd i = true ∨ Parked u i ∨ Stuck u i))
theorem Fired.ext (hE : Ext u v) (hR : RootOk u.r) (hS : XSr u) {i : Nat} (h : Fired u i) : Fired v i := by
  obtain ⟨-, k1, k2, k3, k4⟩ := hE.2.2.2.2.2.2
  obtain ⟨h1, h2, h3, h4⟩ := h
  have nzw : ∀ a, a = xs_wanted (u.kd i) → a ≠ 0 := fun a e => by rcases wanted_12 (u.kd i) with q | q <;> omega
  unfold Fired
  rw [k1, k2, k3, k4]
  have e1 := hE.nz hR hS (hS.sy i) (nzw _ h1)
  have e2 := hE.nz hR hS (hS.sz i) (nzw _ h2)
  refine ⟨e1.trans h1, e2.trans h2, fun c => ?_, fun c => ?_⟩
  · have hw : xs_wanted (u.kd i) = 2 := if_pos c
    have n2 := hE.n2 hR (hS.sy i) (h1.trans hw)
    refine ((h3 c).ext hE).tr ?_
    split
    · exact n2.2.1.sy
    · exact n2.2.2.sy
  · have hw : xs_wanted (u.kd i) = 1 := if_neg c
    have n1 := hE.n1 hR (hS.sy i) (h1.trans hw)
    have n2 := hE.n1 hR (hS.sz i) (h2.trans hw)
    have n3 := hE.n1 hR (hS.tg i) (h4 c).1
    exact ⟨n3.1, by rw [n3.2, n1.2, n2.2]; exact (h4 c).2⟩
theorem Stuck.ext (hE : Ext u v) (hR : RootOk u.r) (hS : XSr u) {i : Nat} (h : Stuck u i) : Stuck v i := by
  obtain ⟨-, k1, k2, k3, k4⟩ := hE.2.2.2.2.2.2
  obtain ⟨h1, h2, h3⟩ := h
  unfold Stuck
  rw [k1, k3, k4, hE.nz hR hS (hS.sy i) h1, hE.nz hR hS (hS.sz i) h2]
  exact ⟨h1, h2, h3⟩
theorem Parked.ext (hE : Ext u v) (hR : RootOk u.r) (hS : XSr u) {i : Nat} (h : Parked u i) (hs : bt v.su i = true) : bt v.rd i = true ∨ Parked v i := by
  obtain ⟨-, k1, k2, k3, k4⟩ := hE.2.2.2.2.2.2
  unfold Parked
  rw [k3, k4]
  rcases h with h | h
  · rcases hE.z hR (hS.sy i) h.1 h.2 hs with q | q
    · exact Or.inl q
    · exact Or.inr (Or.inl q)
  · rcases hE.z hR (hS.sz i) h.1 h.2 hs with q | q
    · exact Or.inl q
    · exact Or.inr (Or.inr q)
theorem Comp.ext (hE : Ext u v) (hR : RootOk u.r) (hS : XSr u) (hg : YSr g) {i : Nat} (hsu : bt v.su i = bt u.su i) (h : Comp u g i) : Comp v g i := by
  obtain ⟨h0, h1, h2, h3⟩ := h
  refine ⟨fun c => (h0 c).ext hE, fun c => ?_, fun c => ?_, fun c => ⟨fun s => ?_, fun s => ?_⟩⟩
  · have n := hE.n1 hR (hg.ax i) (h1 c).1
    exact ⟨n.1, n.2.trans (h1 c).2⟩
  · have n := hE.n2 hR (hg.ax i) (h2 c).1
    exact ⟨n.1, n.2.1.tr ((h2 c).2.1.ext hE), n.2.2.tr ((h2 c).2.2.ext hE)⟩
  · exact ((h3 c).1 (by rw [← hsu]; exact s)).ext hE hR hS
  · rcases (h3 c).2 (by rw [← hsu]; exact s) with q | q | q
    · exact Or.inl (hE.2.2.2.2.2.1 i q)
    · rcases q.ext hE hR hS s with q | q
      · exact Or.inl q
      · exact Or.inr (Or.inl q)
    · exact Or.inr (Or.inr (q.ext hE hR hS))
/-- more is pending, all else the same -/
theorem ext_pend (hR : RootOk u.r) (h1 : v.r = u.r) (h2 : v.st = u.st) (h3 : v.nu = u.nu) (h4 : v.lf = u.lf) (h5 : v.rt = u.rt) (h6 : v.wa = u.wa) (h7 : v.rd = u.rd) (h8 : u.jc ≤ v.jc) (h9 : ∀ j, j < u.jc → v.ja j = u.ja j ∧ v.jb j = u.jb j) (hs : XSame u v) : Ext u v := by
  refine ⟨fun x hx => by rw [h1]; exact (hR x hx).2, fun f a b => ⟨fun z hz => by rw [← h1]; exact a z hz, fun j hj => ?_⟩, fun h _ e k => by rw [h1, e, h2, h3]; exact ⟨k, rfl⟩, fun h _ e k => by rw [h1, e, h2, h4, h5]; exact ⟨k, EqI.rf _ _, EqI.rf _ _⟩, fun h _ e k i b _ => Or.inr (by rw [h1, e, h2, h6]; exact ⟨k, b⟩), fun i h => by rw [h7]; exact h, hs⟩
  have := b j (by omega)
  rw [(h9 j hj).1, (h9 j hj).2] at this
  exact this
/-- a free class is bound, and its waiters are woken -/
theorem ext_bind (hR : RootOk u.r) {k : Nat} (h0 : u.st k = 0) (h1 : v.r = u.r) (h2 : ∀ j, j ≠ k → v.st j = u.st j ∧ v.nu j = u.nu j ∧ v.lf j = u.lf j ∧ v.rt j = u.rt j ∧ v.wa j = u.wa j) (h7 : v.rd = u.rd ||| (u.wa k &&& u.su)) (h8 : v.su = u.su) (h9 : v.jc = u.jc ∧ v.ja = u.ja ∧ v.jb = u.jb) (hs : XSame u v) : Ext u v := by
  refine ⟨fun x hx => by rw [h1]; exact (hR x hx).2, fun f a b => ⟨fun z hz => by rw [← h1]; exact a z hz, fun j hj => ?_⟩, fun h _ e q => ?_, fun h _ e q => ?_, fun h _ e q i b s => ?_, fun i h => by rw [h7, bt_or, h]; rfl, hs⟩
  · have := b j (by rw [h9.1]; exact hj)
    rw [h9.2.1, h9.2.2] at this
    exact this
  · have hk : h ≠ k := fun z => by rw [z, h0] at q; exact absurd q (by decide)
    rw [h1, e, (h2 h hk).1, (h2 h hk).2.1]
    exact ⟨q, rfl⟩
  · have hk : h ≠ k := fun z => by rw [z, h0] at q; exact absurd q (by decide)
    rw [h1, e, (h2 h hk).1, (h2 h hk).2.2.1, (h2 h hk).2.2.2.1]
    exact ⟨q, EqI.rf _ _, EqI.rf _ _⟩
  · by_cases hk : h = k
    · refine Or.inl ?_
      rw [h8] at s
      rw [hk] at b
      rw [h7, bt_or, bt_and, b, s]
      simp
    · refine Or.inr ?_
      rw [h1, e, (h2 h hk).1, (h2 h hk).2.2.2.2]
      exact ⟨q, b⟩
theorem ext_want (hR : RootOk u.r) (x y : Nat) : Ext u (xs_want u x y) := by
  have E := want_e u x y
  have hs := xsame_want u x y
  generalize xs_want u x y = v at E hs ⊢
  obtain ⟨-, -, -, -, -, Esu, -, Est, Enu, Elf, Ert, Ewa, Ejc, Eja, Ejb, Erd, Ebk, Er⟩ := E
  exact ext_pend hR Er Est Enu Elf Ert Ewa Erd (by omega) (fun j hj => ⟨by rw [Eja, up_ne _ _ (Nat.ne_of_lt hj)], by rw [Ejb, up_ne _ _ (Nat.ne_of_lt hj)]⟩) hs
theorem rd_or {a b c : Int64} {i : Nat} (h : bt (a ||| (b &&& c)) i = true) : bt a i = true ∨ bt c i = true := by
  rw [bt_or, bt_and, Bool.or_eq_true, Bool.and_eq_true] at h
  rcases h with q | q
  · exact Or.inl q
  · exact Or.inr q.2
theorem ext_bindN (hR : RootOk u.r) (hS : XSr u) {k : Nat} (n : Int32) (hb : (xs_bindN u k n).bk = false) : Ext u (xs_bindN u k n) ∧ (xs_bindN u k n).st k = 1 ∧ (xs_bindN u k n).nu k = n ∧ (xs_bindN u k n).su = u.su ∧ (∀ i, bt (xs_bindN u k n).rd i = true → bt u.rd i = true ∨ bt u.su i = true) := by
  have hs := xsame_bindN u k n
  unfold xs_bindN at hb hs ⊢
  split
  · rename_i c
    rw [if_pos c] at hs
    have E := setN_e u k n
    generalize xs_wake ((u.s_st (va_up u.st k 1)).s_nu (va_up u.nu k n)) k = v at E hs ⊢
    obtain ⟨-, -, -, -, -, Esu, -, Est, Enu, Elf, Ert, Ewa, Ejc, Eja, Ejb, Erd, Ebk, Er⟩ := E
    refine ⟨ext_bind (k := k) hR c Er (fun j hj => ⟨by rw [Est, up_ne _ _ hj], by rw [Enu, up_ne _ _ hj], by rw [Elf], by rw [Ert], by rw [Ewa, up_ne _ _ hj]⟩) Erd Esu ⟨Ejc, Eja, Ejb⟩ hs, by rw [Est, up_at], by rw [Enu, up_at], Esu, fun i hi => ?_⟩
    rw [Erd] at hi
    exact rd_or hi
  · rename_i c
    rw [if_neg c] at hb
    split
    · rename_i d
      rw [if_pos d, (e_bk u true).2.2.2.2.2.2.2.2.2.2.2.2.2.2.2.2.1] at hb
      exact absurd hb (by decide)
    · rename_i d
      have d1 : ¬ u.st k = 2 := fun z => d (Or.inl z)
      have d2 : u.nu k = n := Classical.byContradiction (fun z => d (Or.inr z))
      have := hS.2.1 k
      exact ⟨Ext.rf hR, by omega, d2, rfl, fun i hi => Or.inl hi⟩
theorem ext_bindC (hR : RootOk u.r) {k : Nat} (a b : Nat) (hb : (xs_bindC u k a b).bk = false) : Ext u (xs_bindC u k a b) ∧ (xs_bindC u k a b).st k = 2 ∧ EqI (xs_bindC u k a b) ((xs_bindC u k a b).lf k) a ∧ EqI (xs_bindC u k a b) ((xs_bindC u k a b).rt k) b ∧ (xs_bindC u k a b).su = u.su ∧ (∀ i, bt (xs_bindC u k a b).rd i = true → bt u.rd i = true ∨ bt u.su i = true) ∧ (xs_bindC u k a b).jc ≤ u.jc + 2 := by
  have hs := xsame_bindC u k a b
  unfold xs_bindC at hb hs ⊢
  split
  · rename_i c
    rw [if_pos c] at hs
    have E := setC_e u k a b
    generalize xs_wake (((u.s_st (va_up u.st k 2)).s_lf (va_up u.lf k a)).s_rt (va_up u.rt k b)) k = v at E hs ⊢
    obtain ⟨-, -, -, -, -, Esu, -, Est, Enu, Elf, Ert, Ewa, Ejc, Eja, Ejb, Erd, Ebk, Er⟩ := E
    refine ⟨ext_bind (k := k) hR c Er (fun j hj => ⟨by rw [Est, up_ne _ _ hj], by rw [Enu], by rw [Elf, up_ne _ _ hj], by rw [Ert, up_ne _ _ hj], by rw [Ewa, up_ne _ _ hj]⟩) Erd Esu ⟨Ejc, Eja, Ejb⟩ hs, by rw [Est, up_at], ?_, ?_, Esu, fun i hi => ?_, by omega⟩
    · rw [Elf, up_at]; exact EqI.rf _ _
    · rw [Ert, up_at]; exact EqI.rf _ _
    · rw [Erd] at hi
      exact rd_or hi
  · rename_i c
    rw [if_neg c] at hb hs
    split
    · rename_i d
      rw [if_pos d] at hs
      have hE : Ext u (xs_want (xs_want u (u.lf k) a) (u.rt k) b) := Ext.tr hR (by rw [(want_e u (u.lf k) a).2.2.2.2.2.2.2.2.2.2.2.2.2.2.2.2.2]; exact hR) (ext_want hR _ _) (ext_want (by rw [(want_e u (u.lf k) a).2.2.2.2.2.2.2.2.2.2.2.2.2.2.2.2.2]; exact hR) _ _) (fun i q => by rw [(want_e (xs_want u (u.lf k) a) (u.rt k) b).2.2.2.2.2.1] at q; exact q)
      have E := want2_e u (u.lf k) a (u.rt k) b
      generalize xs_want (xs_want u (u.lf k) a) (u.rt k) b = v at E hs hE ⊢
      obtain ⟨-, -, -, -, -, Esu, -, Est, Enu, Elf, Ert, Ewa, Ejc, Eja, Ejb, Erd, Ebk, Er⟩ := E
      refine ⟨hE, by rw [Est]; exact d, fun f p q => ?_, fun f p q => ?_, Esu, fun i hi => Or.inl (by rw [← Erd]; exact hi), by omega⟩
      · have := q u.jc (by omega)
        rw [Eja, Ejb, up_ne _ _ (by omega), up_at, up_ne _ _ (by omega), up_at] at this
        rw [Elf]; exact this
      · have := q (u.jc + 1) (by omega)
        rw [Eja, Ejb, up_at, up_at] at this
        rw [Ert]; exact this
    · rename_i d
      rw [if_neg d, (e_bk u true).2.2.2.2.2.2.2.2.2.2.2.2.2.2.2.2.1] at hb
      exact absurd hb (by decide)
end
end
section
/-! the same, field by field -/
theorem e_sc_sc (u : XSt) (v : Nat) : (u.s_sc v).sc = v := (e_sc u v).1
theorem e_sc_kd (u : XSt) (v : Nat) : (u.s_sc v).kd = u.kd := (e_sc u v).2.1
theorem e_sc_tg (u : XSt) (v : Nat) : (u.s_sc v).tg = u.tg := (e_sc u v).2.2.1
theorem e_sc_sy (u : XSt) (v : Nat) : (u.s_sc v).sy = u.sy := (e_sc u v).2.2.2.1
theorem e_sc_sz (u : XSt) (v : Nat) : (u.s_sc v).sz = u.sz := (e_sc u v).2.2.2.2.1
theorem e_sc_su (u : XSt) (v : Nat) : (u.s_sc v).su = u.su := (e_sc u v).2.2.2.2.2.1
theorem e_sc_wt (u : XSt) (v : Nat) : (u.s_sc v).wt = u.wt := (e_sc u v).2.2.2.2.2.2.1
theorem e_sc_st (u : XSt) (v : Nat) : (u.s_sc v).st = u.st := (e_sc u v).2.2.2.2.2.2.2.1
theorem e_sc_nu (u : XSt) (v : Nat) : (u.s_sc v).nu = u.nu := (e_sc u v).2.2.2.2.2.2.2.2.1
theorem e_sc_lf (u : XSt) (v : Nat) : (u.s_sc v).lf = u.lf := (e_sc u v).2.2.2.2.2.2.2.2.2.1
theorem e_sc_rt (u : XSt) (v : Nat) : (u.s_sc v).rt = u.rt := (e_sc u v).2.2.2.2.2.2.2.2.2.2.1
theorem e_sc_wa (u : XSt) (v : Nat) : (u.s_sc v).wa = u.wa := (e_sc u v).2.2.2.2.2.2.2.2.2.2.2.1
theorem e_sc_jc (u : XSt) (v : Nat) : (u.s_sc v).jc = u.jc := (e_sc u v).2.2.2.2.2.2.2.2.2.2.2.2.1
theorem e_sc_ja (u : XSt) (v : Nat) : (u.s_sc v).ja = u.ja := (e_sc u v).2.2.2.2.2.2.2.2.2.2.2.2.2.1
theorem e_sc_jb (u : XSt) (v : Nat) : (u.s_sc v).jb = u.jb := (e_sc u v).2.2.2.2.2.2.2.2.2.2.2.2.2.2.1
theorem e_sc_rd (u : XSt) (v : Nat) : (u.s_sc v).rd = u.rd := (e_sc u v).2.2.2.2.2.2.2.2.2.2.2.2.2.2.2.1
theorem e_sc_bk (u : XSt) (v : Nat) : (u.s_sc v).bk = u.bk := (e_sc u v).2.2.2.2.2.2.2.2.2.2.2.2.2.2.2.2.1
theorem e_sc_r (u : XSt) (v : Nat) : (u.s_sc v).r = u.r := (e_sc u v).2.2.2.2.2.2.2.2.2.2.2.2.2.2.2.2.2
theorem e_kd_sc (u : XSt) (v : Nat → Nat) : (u.s_kd v).sc = u.sc := (e_kd u v).1
theorem e_kd_kd (u : XSt) (v : Nat → Nat) : (u.s_kd v).kd = v := (e_kd u v).2.1
theorem e_kd_tg (u : XSt) (v : Nat → Nat) : (u.s_kd v).tg = u.tg := (e_kd u v).2.2.1
theorem e_kd_sy (u : XSt) (v : Nat → Nat) : (u.s_kd v).sy = u.sy := (e_kd u v).2.2.2.1
theorem e_kd_sz (u : XSt) (v : Nat → Nat) : (u.s_kd v).sz = u.sz := (e_kd u v).2.2.2.2.1
theorem e_kd_su (u : XSt) (v : Nat → Nat) : (u.s_kd v).su = u.su := (e_kd u v).2.2.2.2.2.1
theorem e_kd_wt (u : XSt) (v : Nat → Nat) : (u.s_kd v).wt = u.wt := (e_kd u v).2.2.2.2.2.2.1
theorem e_kd_st (u : XSt) (v : Nat → Nat) : (u.s_kd v).st = u.st := (e_kd u v).2.2.2.2.2.2.2.1
theorem e_kd_nu (u : XSt) (v : Nat → Nat) : (u.s_kd v).nu = u.nu := (e_kd u v).2.2.2.2.2.2.2.2.1
theorem e_kd_lf (u : XSt) (v : Nat → Nat) : (u.s_kd v).lf = u.lf := (e_kd u v).2.2.2.2.2.2.2.2.2.1
theorem e_kd_rt (u : XSt) (v : Nat → Nat) : (u.s_kd v).rt = u.rt := (e_kd u v).2.2.2.2.2.2.2.2.2.2.1
theorem e_kd_wa (u : XSt) (v : Nat → Nat) : (u.s_kd v).wa = u.wa := (e_kd u v).2.2.2.2.2.2.2.2.2.2.2.1
theorem e_kd_jc (u : XSt) (v : Nat → Nat) : (u.s_kd v).jc = u.jc := (e_kd u v).2.2.2.2.2.2.2.2.2.2.2.2.1
theorem e_kd_ja (u : XSt) (v : Nat → Nat) : (u.s_kd v).ja = u.ja := (e_kd u v).2.2.2.2.2.2.2.2.2.2.2.2.2.1
theorem e_kd_jb (u : XSt) (v : Nat → Nat) : (u.s_kd v).jb = u.jb := (e_kd u v).2.2.2.2.2.2.2.2.2.2.2.2.2.2.1
theorem e_kd_rd (u : XSt) (v : Nat → Nat) : (u.s_kd v).rd = u.rd := (e_kd u v).2.2.2.2.2.2.2.2.2.2.2.2.2.2.2.1
theorem e_kd_bk (u : XSt) (v : Nat → Nat) : (u.s_kd v).bk = u.bk := (e_kd u v).2.2.2.2.2.2.2.2.2.2.2.2.2.2.2.2.1
theorem e_kd_r (u : XSt) (v : Nat → Nat) : (u.s_kd v).r = u.r := (e_kd u v).2.2.2.2.2.2.2.2.2.2.2.2.2.2.2.2.2
theorem e_tg_sc (u : XSt) (v : Nat → Nat) : (u.s_tg v).sc = u.sc := (e_tg u v).1
theorem e_tg_kd (u : XSt) (v : Nat → Nat) : (u.s_tg v).kd = u.kd := (e_tg u v).2.1
theorem e_tg_tg (u : XSt) (v : Nat → Nat) : (u.s_tg v).tg = v := (e_tg u v).2.2.1
theorem e_tg_sy (u : XSt) (v : Nat → Nat) : (u.s_tg v).sy = u.sy := (e_tg u v).2.2.2.1
theorem e_tg_sz (u : XSt) (v : Nat → Nat) : (u.s_tg v).sz = u.sz := (e_tg u v).2.2.2.2.1
theorem e_tg_su (u : XSt) (v : Nat → Nat) : (u.s_tg v).su = u.su := (e_tg u v).2.2.2.2.2.1
theorem e_tg_wt (u : XSt) (v : Nat → Nat) : (u.s_tg v).wt = u.wt := (e_tg u v).2.2.2.2.2.2.1
theorem e_tg_st (u : XSt) (v : Nat → Nat) : (u.s_tg v).st = u.st := (e_tg u v).2.2.2.2.2.2.2.1
theorem e_tg_nu (u : XSt) (v : Nat → Nat) : (u.s_tg v).nu = u.nu := (e_tg u v).2.2.2.2.2.2.2.2.1
theorem e_tg_lf (u : XSt) (v : Nat → Nat) : (u.s_tg v).lf = u.lf := (e_tg u v).2.2.2.2.2.2.2.2.2.1
theorem e_tg_rt (u : XSt) (v : Nat → Nat) : (u.s_tg v).rt = u.rt := (e_tg u v).2.2.2.2.2.2.2.2.2.2.1
theorem e_tg_wa (u : XSt) (v : Nat → Nat) : (u.s_tg v).wa = u.wa := (e_tg u v).2.2.2.2.2.2.2.2.2.2.2.1
theorem e_tg_jc (u : XSt) (v : Nat → Nat) : (u.s_tg v).jc = u.jc := (e_tg u v).2.2.2.2.2.2.2.2.2.2.2.2.1
theorem e_tg_ja (u : XSt) (v : Nat → Nat) : (u.s_tg v).ja = u.ja := (e_tg u v).2.2.2.2.2.2.2.2.2.2.2.2.2.1
theorem e_tg_jb (u : XSt) (v : Nat → Nat) : (u.s_tg v).jb = u.jb := (e_tg u v).2.2.2.2.2.2.2.2.2.2.2.2.2.2.1
theorem e_tg_rd (u : XSt) (v : Nat → Nat) : (u.s_tg v).rd = u.rd := (e_tg u v).2.2.2.2.2.2.2.2.2.2.2.2.2.2.2.1
theorem e_tg_bk (u : XSt) (v : Nat → Nat) : (u.s_tg v).bk = u.bk := (e_tg u v).2.2.2.2.2.2.2.2.2.2.2.2.2.2.2.2.1
theorem e_tg_r (u : XSt) (v : Nat → Nat) : (u.s_tg v).r = u.r := (e_tg u v).2.2.2.2.2.2.2.2.2.2.2.2.2.2.2.2.2
theorem e_sy_sc (u : XSt) (v : Nat → Nat) : (u.s_sy v).sc = u.sc := (e_sy u v).1
theorem e_sy_kd (u : XSt) (v : Nat → Nat) : (u.s_sy v).kd = u.kd := (e_sy u v).2.1
theorem e_sy_tg (u : XSt) (v : Nat → Nat) : (u.s_sy v).tg = u.tg := (e_sy u v).2.2.1
theorem e_sy_sy (u : XSt) (v : Nat → Nat) : (u.s_sy v).sy = v := (e_sy u v).2.2.2.1
theorem e_sy_sz (u : XSt) (v : Nat → Nat) : (u.s_sy v).sz = u.sz := (e_sy u v).2.2.2.2.1
theorem e_sy_su (u : XSt) (v : Nat → Nat) : (u.s_sy v).su = u.su := (e_sy u v).2.2.2.2.2.1
theorem e_sy_wt (u : XSt) (v : Nat → Nat) : (u.s_sy v).wt = u.wt := (e_sy u v).2.2.2.2.2.2.1
theorem e_sy_st (u : XSt) (v : Nat → Nat) : (u.s_sy v).st = u.st := (e_sy u v).2.2.2.2.2.2.2.1
theorem e_sy_nu (u : XSt) (v : Nat → Nat) : (u.s_sy v).nu = u.nu := (e_sy u v).2.2.2.2.2.2.2.2.1
theorem e_sy_lf (u : XSt) (v : Nat → Nat) : (u.s_sy v).lf = u.lf := (e_sy u v).2.2.2.2.2.2.2.2.2.1
theorem e_sy_rt (u : XSt) (v : Nat → Nat) : (u.s_sy v).rt = u.rt := (e_sy u v).2.2.2.2.2.2.2.2.2.2.1
theorem e_sy_wa (u : XSt) (v : Nat → Nat) : (u.s_sy v).wa = u.wa := (e_sy u v).2.2.2.2.2.2.2.2.2.2.2.1
theorem e_sy_jc (u : XSt) (v : Nat → Nat) : (u.s_sy v).jc = u.jc := (e_sy u v).2.2.2.2.2.2.2.2.2.2.2.2.1
theorem e_sy_ja (u : XSt) (v : Nat → Nat) : (u.s_sy v).ja = u.ja := (e_sy u v).2.2.2.2.2.2.2.2.2.2.2.2.2.1
theorem e_sy_jb (u : XSt) (v : Nat → Nat) : (u.s_sy v).jb = u.jb := (e_sy u v).2.2.2.2.2.2.2.2.2.2.2.2.2.2.1
theorem e_sy_rd (u : XSt) (v : Nat → Nat) : (u.s_sy v).rd = u.rd := (e_sy u v).2.2.2.2.2.2.2.2.2.2.2.2.2.2.2.1
theorem e_sy_bk (u : XSt) (v : Nat → Nat) : (u.s_sy v).bk = u.bk := (e_sy u v).2.2.2.2.2.2.2.2.2.2.2.2.2.2.2.2.1
theorem e_sy_r (u : XSt) (v : Nat → Nat) : (u.s_sy v).r = u.r := (e_sy u v).2.2.2.2.2.2.2.2.2.2.2.2.2.2.2.2.2
theorem e_sz_sc (u : XSt) (v : Nat → Nat) : (u.s_sz v).sc = u.sc := (e_sz u v).1
theorem e_sz_kd (u : XSt) (v : Nat → Nat) : (u.s_sz v).kd = u.kd := (e_sz u v).2.1
theorem e_sz_tg (u : XSt) (v : Nat → Nat) : (u.s_sz v).tg = u.tg := (e_sz u v).2.2.1
theorem e_sz_sy (u : XSt) (v : Nat → Nat) : (u.s_sz v).sy = u.sy := (e_sz u v).2.2.2.1
theorem e_sz_sz (u : XSt) (v : Nat → Nat) : (u.s_sz v).sz = v := (e_sz u v).2.2.2.2.1
theorem e_sz_su (u : XSt) (v : Nat → Nat) : (u.s_sz v).su = u.su := (e_sz u v).2.2.2.2.2.1
theorem e_sz_wt (u : XSt) (v : Nat → Nat) : (u.s_sz v).wt = u.wt := (e_sz u v).2.2.2.2.2.2.1
theorem e_sz_st (u : XSt) (v : Nat → Nat) : (u.s_sz v).st = u.st := (e_sz u v).2.2.2.2.2.2.2.1
theorem e_sz_nu (u : XSt) (v : Nat → Nat) : (u.s_sz v).nu = u.nu := (e_sz u v).2.2.2.2.2.2.2.2.1
theorem e_sz_lf (u : XSt) (v : Nat → Nat) : (u.s_sz v).lf = u.lf := (e_sz u v).2.2.2.2.2.2.2.2.2.1
theorem e_sz_rt (u : XSt) (v : Nat → Nat) : (u.s_sz v).rt = u.rt := (e_sz u v).2.2.2.2.2.2.2.2.2.2.1
theorem e_sz_wa (u : XSt) (v : Nat → Nat) : (u.s_sz v).wa = u.wa := (e_sz u v).2.2.2.2.2.2.2.2.2.2.2.1
theorem e_sz_jc (u : XSt) (v : Nat → Nat) : (u.s_sz v).jc = u.jc := (e_sz u v).2.2.2.2.2.2.2.2.2.2.2.2.1
theorem e_sz_ja (u : XSt) (v : Nat → Nat) : (u.s_sz v).ja = u.ja := (e_sz u v).2.2.2.2.2.2.2.2.2.2.2.2.2.1
theorem e_sz_jb (u : XSt) (v : Nat → Nat) : (u.s_sz v).jb = u.jb := (e_sz u v).2.2.2.2.2.2.2.2.2.2.2.2.2.2.1
theorem e_sz_rd (u : XSt) (v : Nat → Nat) : (u.s_sz v).rd = u.rd := (e_sz u v).2.2.2.2.2.2.2.2.2.2.2.2.2.2.2.1
theorem e_sz_bk (u : XSt) (v : Nat → Nat) : (u.s_sz v).bk = u.bk := (e_sz u v).2.2.2.2.2.2.2.2.2.2.2.2.2.2.2.2.1
theorem e_sz_r (u : XSt) (v : Nat → Nat) : (u.s_sz v).r = u.r := (e_sz u v).2.2.2.2.2.2.2.2.2.2.2.2.2.2.2.2.2
theorem e_su_sc (u : XSt) (v : Int64) : (u.s_su v).sc = u.sc := (e_su u v).1
theorem e_su_kd (u : XSt) (v : Int64) : (u.s_su v).kd = u.kd := (e_su u v).2.1
theorem e_su_tg (u : XSt) (v : Int64) : (u.s_su v).tg = u.tg := (e_su u v).2.2.1
theorem e_su_sy (u : XSt) (v : Int64) : (u.s_su v).sy = u.sy := (e_su u v).2.2.2.1
theorem e_su_sz (u : XSt) (v : Int64) : (u.s_su v).sz = u.sz := (e_su u v).2.2.2.2.1
theorem e_su_su (u : XSt) (v : Int64) : (u.s_su v).su = v := (e_su u v).2.2.2.2.2.1
theorem e_su_wt (u : XSt) (v : Int64) : (u.s_su v).wt = u.wt := (e_su u v).2.2.2.2.2.2.1
theorem e_su_st (u : XSt) (v : Int64) : (u.s_su v).st = u.st := (e_su u v).2.2.2.2.2.2.2.1
theorem e_su_nu (u : XSt) (v : Int64) : (u.s_su v).nu = u.nu := (e_su u v).2.2.2.2.2.2.2.2.1
theorem e_su_lf (u : XSt) (v : Int64) : (u.s_su v).lf = u.lf := (e_su u v).2.2.2.2.2.2.2.2.2.1
theorem e_su_rt (u : XSt) (v : Int64) : (u.s_su v).rt = u.rt := (e_su u v).2.2.2.2.2.2.2.2.2.2.1
theorem e_su_wa (u : XSt) (v : Int64) : (u.s_su v).wa = u.wa := (e_su u v).2.2.2.2.2.2.2.2.2.2.2.1
theorem e_su_jc (u : XSt) (v : Int64) : (u.s_su v).jc = u.jc := (e_su u v).2.2.2.2.2.2.2.2.2.2.2.2.1
theorem e_su_ja (u : XSt) (v : Int64) : (u.s_su v).ja = u.ja := (e_su u v).2.2.2.2.2.2.2.2.2.2.2.2.2.1
theorem e_su_jb (u : XSt) (v : Int64) : (u.s_su v).jb = u.jb := (e_su u v).2.2.2.2.2.2.2.2.2.2.2.2.2.2.1
theorem e_su_rd (u : XSt) (v : Int64) : (u.s_su v).rd = u.rd := (e_su u v).2.2.2.2.2.2.2.2.2.2.2.2.2.2.2.1
theorem e_su_bk (u : XSt) (v : Int64) : (u.s_su v).bk = u.bk := (e_su u v).2.2.2.2.2.2.2.2.2.2.2.2.2.2.2.2.1
theorem e_su_r (u : XSt) (v : Int64) : (u.s_su v).r = u.r := (e_su u v).2.2.2.2.2.2.2.2.2.2.2.2.2.2.2.2.2
theorem e_wt_sc (u : XSt) (v : Nat → Int32) : (u.s_wt v).sc = u.sc := (e_wt u v).1
theorem e_wt_kd (u : XSt) (v : Nat → Int32) : (u.s_wt v).kd = u.kd := (e_wt u v).2.1
theorem e_wt_tg (u : XSt) (v : Nat → Int32) : (u.s_wt v).tg = u.tg := (e_wt u v).2.2.1
theorem e_wt_sy (u : XSt) (v : Nat → Int32) : (u.s_wt v).sy = u.sy := (e_wt u v).2.2.2.1
theorem e_wt_sz (u : XSt) (v : Nat → Int32) : (u.s_wt v).sz = u.sz := (e_wt u v).2.2.2.2.1
theorem e_wt_su (u : XSt) (v : Nat → Int32) : (u.s_wt v).su = u.su := (e_wt u v).2.2.2.2.2.1
theorem e_wt_wt (u : XSt) (v : Nat → Int32) : (u.s_wt v).wt = v := (e_wt u v).2.2.2.2.2.2.1
theorem e_wt_st (u : XSt) (v : Nat → Int32) : (u.s_wt v).st = u.st := (e_wt u v).2.2.2.2.2.2.2.1
theorem e_wt_nu (u : XSt) (v : Nat → Int32) : (u.s_wt v).nu = u.nu := (e_wt u v).2.2.2.2.2.2.2.2.1
theorem e_wt_lf (u : XSt) (v : Nat → Int32) : (u.s_wt v).lf = u.lf := (e_wt u v).2.2.2.2.2.2.2.2.2.1
theorem e_wt_rt (u : XSt) (v : Nat → Int32) : (u.s_wt v).rt = u.rt := (e_wt u v).2.2.2.2.2.2.2.2.2.2.1
theorem e_wt_wa (u : XSt) (v : Nat → Int32) : (u.s_wt v).wa = u.wa := (e_wt u v).2.2.2.2.2.2.2.2.2.2.2.1
theorem e_wt_jc (u : XSt) (v : Nat → Int32) : (u.s_wt v).jc = u.jc := (e_wt u v).2.2.2.2.2.2.2.2.2.2.2.2.1
theorem e_wt_ja (u : XSt) (v : Nat → Int32) : (u.s_wt v).ja = u.ja := (e_wt u v).2.2.2.2.2.2.2.2.2.2.2.2.2.1
theorem e_wt_jb (u : XSt) (v : Nat → Int32) : (u.s_wt v).jb = u.jb := (e_wt u v).2.2.2.2.2.2.2.2.2.2.2.2.2.2.1
theorem e_wt_rd (u : XSt) (v : Nat → Int32) : (u.s_wt v).rd = u.rd := (e_wt u v).2.2.2.2.2.2.2.2.2.2.2.2.2.2.2.1
theorem e_wt_bk (u : XSt) (v : Nat → Int32) : (u.s_wt v).bk = u.bk := (e_wt u v).2.2.2.2.2.2.2.2.2.2.2.2.2.2.2.2.1
theorem e_wt_r (u : XSt) (v : Nat → Int32) : (u.s_wt v).r = u.r := (e_wt u v).2.2.2.2.2.2.2.2.2.2.2.2.2.2.2.2.2
theorem e_st_sc (u : XSt) (v : Nat → Nat) : (u.s_st v).sc = u.sc := (e_st u v).1
theorem e_st_kd (u : XSt) (v : Nat → Nat) : (u.s_st v).kd = u.kd := (e_st u v).2.1
theorem e_st_tg (u : XSt) (v : Nat → Nat) : (u.s_st v).tg = u.tg := (e_st u v).2.2.1
theorem e_st_sy (u : XSt) (v : Nat → Nat) : (u.s_st v).sy = u.sy := (e_st u v).2.2.2.1
theorem e_st_sz (u : XSt) (v : Nat → Nat) : (u.s_st v).sz = u.sz := (e_st u v).2.2.2.2.1
theorem e_st_su (u : XSt) (v : Nat → Nat) : (u.s_st v).su = u.su := (e_st u v).2.2.2.2.2.1
theorem e_st_wt (u : XSt) (v : Nat → Nat) : (u.s_st v).wt = u.wt := (e_st u v).2.2.2.2.2.2.1
theorem e_st_st (u : XSt) (v : Nat → Nat) : (u.s_st v).st = v := (e_st u v).2.2.2.2.2.2.2.1
theorem e_st_nu (u : XSt) (v : Nat → Nat) : (u.s_st v).nu = u.nu := (e_st u v).2.2.2.2.2.2.2.2.1
theorem e_st_lf (u : XSt) (v : Nat → Nat) : (u.s_st v).lf = u.lf := (e_st u v).2.2.2.2.2.2.2.2.2.1
theorem e_st_rt (u : XSt) (v : Nat → Nat) : (u.s_st v).rt = u.rt := (e_st u v).2.2.2.2.2.2.2.2.2.2.1
theorem e_st_wa (u : XSt) (v : Nat → Nat) : (u.s_st v).wa = u.wa := (e_st u v).2.2.2.2.2.2.2.2.2.2.2.1
theorem e_st_jc (u : XSt) (v : Nat → Nat) : (u.s_st v).jc = u.jc := (e_st u v).2.2.2.2.2.2.2.2.2.2.2.2.1
theorem e_st_ja (u : XSt) (v : Nat → Nat) : (u.s_st v).ja = u.ja := (e_st u v).2.2.2.2.2.2.2.2.2.2.2.2.2.1
theorem e_st_jb (u : XSt) (v : Nat → Nat) : (u.s_st v).jb = u.jb := (e_st u v).2.2.2.2.2.2.2.2.2.2.2.2.2.2.1
theorem e_st_rd (u : XSt) (v : Nat → Nat) : (u.s_st v).rd = u.rd := (e_st u v).2.2.2.2.2.2.2.2.2.2.2.2.2.2.2.1
theorem e_st_bk (u : XSt) (v : Nat → Nat) : (u.s_st v).bk = u.bk := (e_st u v).2.2.2.2.2.2.2.2.2.2.2.2.2.2.2.2.1
theorem e_st_r (u : XSt) (v : Nat → Nat) : (u.s_st v).r = u.r := (e_st u v).2.2.2.2.2.2.2.2.2.2.2.2.2.2.2.2.2
theorem e_nu_sc (u : XSt) (v : Nat → Int32) : (u.s_nu v).sc = u.sc := (e_nu u v).1
theorem e_nu_kd (u : XSt) (v : Nat → Int32) : (u.s_nu v).kd = u.kd := (e_nu u v).2.1
theorem e_nu_tg (u : XSt) (v : Nat → Int32) : (u.s_nu v).tg = u.tg := (e_nu u v).2.2.1
theorem e_nu_sy (u : XSt) (v : Nat → Int32) : (u.s_nu v).sy = u.sy := (e_nu u v).2.2.2.1
theorem e_nu_sz (u : XSt) (v : Nat → Int32) : (u.s_nu v).sz = u.sz := (e_nu u v).2.2.2.2.1
theorem e_nu_su (u : XSt) (v : Nat → Int32) : (u.s_nu v).su = u.su := (e_nu u v).2.2.2.2.2.1
theorem e_nu_wt (u : XSt) (v : Nat → Int32) : (u.s_nu v).wt = u.wt := (e_nu u v).2.2.2.2.2.2.1
theorem e_nu_st (u : XSt) (v : Nat → Int32) : (u.s_nu v).st = u.st := (e_nu u v).2.2.2.2.2.2.2.1
theorem e_nu_nu (u : XSt) (v : Nat → Int32) : (u.s_nu v).nu = v := (e_nu u v).2.2.2.2.2.2.2.2.1
theorem e_nu_lf (u : XSt) (v : Nat → Int32) : (u.s_nu v).lf = u.lf := (e_nu u v).2.2.2.2.2.2.2.2.2.1
theorem e_nu_rt (u : XSt) (v : Nat → Int32) : (u.s_nu v).rt = u.rt := (e_nu u v).2.2.2.2.2.2.2.2.2.2.1
theorem e_nu_wa (u : XSt) (v : Nat → Int32) : (u.s_nu v).wa = u.wa := (e_nu u v).2.2.2.2.2.2.2.2.2.2.2.1
theorem e_nu_jc (u : XSt) (v : Nat → Int32) : (u.s_nu v).jc = u.jc := (e_nu u v).2.2.2.2.2.2.2.2.2.2.2.2.1
theorem e_nu_ja (u : XSt) (v : Nat → Int32) : (u.s_nu v).ja = u.ja := (e_nu u v).2.2.2.2.2.2.2.2.2.2.2.2.2.1
theorem e_nu_jb (u : XSt) (v : Nat → Int32) : (u.s_nu v).jb = u.jb := (e_nu u v).2.2.2.2.2.2.2.2.2.2.2.2.2.2.1
theorem e_nu_rd (u : XSt) (v : Nat → Int32) : (u.s_nu v).rd = u.rd := (e_nu u v).2.2.2.2.2.2.2.2.2.2.2.2.2.2.2.1
theorem e_nu_bk (u : XSt) (v : Nat → Int32) : (u.s_nu v).bk = u.bk := (e_nu u v).2.2.2.2.2.2.2.2.2.2.2.2.2.2.2.2.1
theorem e_nu_r (u : XSt) (v : Nat → Int32) : (u.s_nu v).r = u.r := (e_nu u v).2.2.2.2.2.2.2.2.2.2.2.2.2.2.2.2.2
theorem e_lf_sc (u : XSt) (v : Nat → Nat) : (u.s_lf v).sc = u.sc := (e_lf u v).1
theorem e_lf_kd (u : XSt) (v : Nat → Nat) : (u.s_lf v).kd = u.kd := (e_lf u v).2.1
theorem e_lf_tg (u : XSt) (v : Nat → Nat) : (u.s_lf v).tg = u.tg := (e_lf u v).2.2.1
theorem e_lf_sy (u : XSt) (v : Nat → Nat) : (u.s_lf v).sy = u.sy := (e_lf u v).2.2.2.1
theorem e_lf_sz (u : XSt) (v : Nat → Nat) : (u.s_lf v).sz = u.sz := (e_lf u v).2.2.2.2.1
theorem e_lf_su (u : XSt) (v : Nat → Nat) : (u.s_lf v).su = u.su := (e_lf u v).2.2.2.2.2.1
theorem e_lf_wt (u : XSt) (v : Nat → Nat) : (u.s_lf v).wt = u.wt := (e_lf u v).2.2.2.2.2.2.1
theorem e_lf_st (u : XSt) (v : Nat → Nat) : (u.s_lf v).st = u.st := (e_lf u v).2.2.2.2.2.2.2.1
theorem e_lf_nu (u : XSt) (v : Nat → Nat) : (u.s_lf v).nu = u.nu := (e_lf u v).2.2.2.2.2.2.2.2.1
theorem e_lf_lf (u : XSt) (v : Nat → Nat) : (u.s_lf v).lf = v := (e_lf u v).2.2.2.2.2.2.2.2.2.1
theorem e_lf_rt (u : XSt) (v : Nat → Nat) : (u.s_lf v).rt = u.rt := (e_lf u v).2.2.2.2.2.2.2.2.2.2.1
theorem e_lf_wa (u : XSt) (v : Nat → Nat) : (u.s_lf v).wa = u.wa := (e_lf u v).2.2.2.2.2.2.2.2.2.2.2.1
theorem e_lf_jc (u : XSt) (v : Nat → Nat) : (u.s_lf v).jc = u.jc := (e_lf u v).2.2.2.2.2.2.2.2.2.2.2.2.1
theorem e_lf_ja (u : XSt) (v : Nat → Nat) : (u.s_lf v).ja = u.ja := (e_lf u v).2.2.2.2.2.2.2.2.2.2.2.2.2.1
theorem e_lf_jb (u : XSt) (v : Nat → Nat) : (u.s_lf v).jb = u.jb := (e_lf u v).2.2.2.2.2.2.2.2.2.2.2.2.2.2.1
theorem e_lf_rd (u : XSt) (v : Nat → Nat) : (u.s_lf v).rd = u.rd := (e_lf u v).2.2.2.2.2.2.2.2.2.2.2.2.2.2.2.1
theorem e_lf_bk (u : XSt) (v : Nat → Nat) : (u.s_lf v).bk = u.bk := (e_lf u v).2.2.2.2.2.2.2.2.2.2.2.2.2.2.2.2.1
theorem e_lf_r (u : XSt) (v : Nat → Nat) : (u.s_lf v).r = u.r := (e_lf u v).2.2.2.2.2.2.2.2.2.2.2.2.2.2.2.2.2
theorem e_rt_sc (u : XSt) (v : Nat → Nat) : (u.s_rt v).sc = u.sc := (e_rt u v).1
theorem e_rt_kd (u : XSt) (v : Nat → Nat) : (u.s_rt v).kd = u.kd := (e_rt u v).2.1
theorem e_rt_tg (u : XSt) (v : Nat → Nat) : (u.s_rt v).tg = u.tg := (e_rt u v).2.2.1
theorem e_rt_sy (u : XSt) (v : Nat → Nat) : (u.s_rt v).sy = u.sy := (e_rt u v).2.2.2.1
theorem e_rt_sz (u : XSt) (v : Nat → Nat) : (u.s_rt v).sz = u.sz := (e_rt u v).2.2.2.2.1
theorem e_rt_su (u : XSt) (v : Nat → Nat) : (u.s_rt v).su = u.su := (e_rt u v).2.2.2.2.2.1
theorem e_rt_wt (u : XSt) (v : Nat → Nat) : (u.s_rt v).wt = u.wt := (e_rt u v).2.2.2.2.2.2.1
theorem e_rt_st (u : XSt) (v : Nat → Nat) : (u.s_rt v).st = u.st := (e_rt u v).2.2.2.2.2.2.2.1
theorem e_rt_nu (u : XSt) (v : Nat → Nat) : (u.s_rt v).nu = u.nu := (e_rt u v).2.2.2.2.2.2.2.2.1
theorem e_rt_lf (u : XSt) (v : Nat → Nat) : (u.s_rt v).lf = u.lf := (e_rt u v).2.2.2.2.2.2.2.2.2.1
theorem e_rt_rt (u : XSt) (v : Nat → Nat) : (u.s_rt v).rt = v := (e_rt u v).2.2.2.2.2.2.2.2.2.2.1
theorem e_rt_wa (u : XSt) (v : Nat → Nat) : (u.s_rt v).wa = u.wa := (e_rt u v).2.2.2.2.2.2.2.2.2.2.2.1
theorem e_rt_jc (u : XSt) (v : Nat → Nat) : (u.s_rt v).jc = u.jc := (e_rt u v).2.2.2.2.2.2.2.2.2.2.2.2.1
theorem e_rt_ja (u : XSt) (v : Nat → Nat) : (u.s_rt v).ja = u.ja := (e_rt u v).2.2.2.2.2.2.2.2.2.2.2.2.2.1
theorem e_rt_jb (u : XSt) (v : Nat → Nat) : (u.s_rt v).jb = u.jb := (e_rt u v).2.2.2.2.2.2.2.2.2.2.2.2.2.2.1
theorem e_rt_rd (u : XSt) (v : Nat → Nat) : (u.s_rt v).rd = u.rd := (e_rt u v).2.2.2.2.2.2.2.2.2.2.2.2.2.2.2.1
theorem e_rt_bk (u : XSt) (v : Nat → Nat) : (u.s_rt v).bk = u.bk := (e_rt u v).2.2.2.2.2.2.2.2.2.2.2.2.2.2.2.2.1
theorem e_rt_r (u : XSt) (v : Nat → Nat) : (u.s_rt v).r = u.r := (e_rt u v).2.2.2.2.2.2.2.2.2.2.2.2.2.2.2.2.2
theorem e_wa_sc (u : XSt) (v : Nat → Int64) : (u.s_wa v).sc = u.sc := (e_wa u v).1
theorem e_wa_kd (u : XSt) (v : Nat → Int64) : (u.s_wa v).kd = u.kd := (e_wa u v).2.1
theorem e_wa_tg (u : XSt) (v : Nat → Int64) : (u.s_wa v).tg = u.tg := (e_wa u v).2.2.1
theorem e_wa_sy (u : XSt) (v : Nat → Int64) : (u.s_wa v).sy = u.sy := (e_wa u v).2.2.2.1
theorem e_wa_sz (u : XSt) (v : Nat → Int64) : (u.s_wa v).sz = u.sz := (e_wa u v).2.2.2.2.1
theorem e_wa_su (u : XSt) (v : Nat → Int64) : (u.s_wa v).su = u.su := (e_wa u v).2.2.2.2.2.1
theorem e_wa_wt (u : XSt) (v : Nat → Int64) : (u.s_wa v).wt = u.wt := (e_wa u v).2.2.2.2.2.2.1
theorem e_wa_st (u : XSt) (v : Nat → Int64) : (u.s_wa v).st = u.st := (e_wa u v).2.2.2.2.2.2.2.1
theorem e_wa_nu (u : XSt) (v : Nat → Int64) : (u.s_wa v).nu = u.nu := (e_wa u v).2.2.2.2.2.2.2.2.1
theorem e_wa_lf (u : XSt) (v : Nat → Int64) : (u.s_wa v).lf = u.lf := (e_wa u v).2.2.2.2.2.2.2.2.2.1
theorem e_wa_rt (u : XSt) (v : Nat → Int64) : (u.s_wa v).rt = u.rt := (e_wa u v).2.2.2.2.2.2.2.2.2.2.1
theorem e_wa_wa (u : XSt) (v : Nat → Int64) : (u.s_wa v).wa = v := (e_wa u v).2.2.2.2.2.2.2.2.2.2.2.1
theorem e_wa_jc (u : XSt) (v : Nat → Int64) : (u.s_wa v).jc = u.jc := (e_wa u v).2.2.2.2.2.2.2.2.2.2.2.2.1
theorem e_wa_ja (u : XSt) (v : Nat → Int64) : (u.s_wa v).ja = u.ja := (e_wa u v).2.2.2.2.2.2.2.2.2.2.2.2.2.1
theorem e_wa_jb (u : XSt) (v : Nat → Int64) : (u.s_wa v).jb = u.jb := (e_wa u v).2.2.2.2.2.2.2.2.2.2.2.2.2.2.1
theorem e_wa_rd (u : XSt) (v : Nat → Int64) : (u.s_wa v).rd = u.rd := (e_wa u v).2.2.2.2.2.2.2.2.2.2.2.2.2.2.2.1
theorem e_wa_bk (u : XSt) (v : Nat → Int64) : (u.s_wa v).bk = u.bk := (e_wa u v).2.2.2.2.2.2.2.2.2.2.2.2.2.2.2.2.1
theorem e_wa_r (u : XSt) (v : Nat → Int64) : (u.s_wa v).r = u.r := (e_wa u v).2.2.2.2.2.2.2.2.2.2.2.2.2.2.2.2.2
theorem e_jc_sc (u : XSt) (v : Nat) : (u.s_jc v).sc = u.sc := (e_jc u v).1
theorem e_jc_kd (u : XSt) (v : Nat) : (u.s_jc v).kd = u.kd := (e_jc u v).2.1
theorem e_jc_tg (u : XSt) (v : Nat) : (u.s_jc v).tg = u.tg := (e_jc u v).2.2.1
theorem e_jc_sy (u : XSt) (v : Nat) : (u.s_jc v).sy = u.sy := (e_jc u v).2.2.2.1
theorem e_jc_sz (u : XSt) (v : Nat) : (u.s_jc v).sz = u.sz := (e_jc u v).2.2.2.2.1
theorem e_jc_su (u : XSt) (v : Nat) : (u.s_jc v).su = u.su := (e_jc u v).2.2.2.2.2.1
theorem e_jc_wt (u : XSt) (v : Nat) : (u.s_jc v).wt = u.wt := (e_jc u v).2.2.2.2.2.2.1
theorem e_jc_st (u : XSt) (v : Nat) : (u.s_jc v).st = u.st := (e_jc u v).2.2.2.2.2.2.2.1
theorem e_jc_nu (u : XSt) (v : Nat) : (u.s_jc v).nu = u.nu := (e_jc u v).2.2.2.2.2.2.2.2.1
theorem e_jc_lf (u : XSt) (v : Nat) : (u.s_jc v).lf = u.lf := (e_jc u v).2.2.2.2.2.2.2.2.2.1
theorem e_jc_rt (u : XSt) (v : Nat) : (u.s_jc v).rt = u.rt := (e_jc u v).2.2.2.2.2.2.2.2.2.2.1
theorem e_jc_wa (u : XSt) (v : Nat) : (u.s_jc v).wa = u.wa := (e_jc u v).2.2.2.2.2.2.2.2.2.2.2.1
theorem e_jc_jc (u : XSt) (v : Nat) : (u.s_jc v).jc = v := (e_jc u v).2.2.2.2.2.2.2.2.2.2.2.2.1
theorem e_jc_ja (u : XSt) (v : Nat) : (u.s_jc v).ja = u.ja := (e_jc u v).2.2.2.2.2.2.2.2.2.2.2.2.2.1
theorem e_jc_jb (u : XSt) (v : Nat) : (u.s_jc v).jb = u.jb := (e_jc u v).2.2.2.2.2.2.2.2.2.2.2.2.2.2.1
theorem e_jc_rd (u : XSt) (v : Nat) : (u.s_jc v).rd = u.rd := (e_jc u v).2.2.2.2.2.2.2.2.2.2.2.2.2.2.2.1
theorem e_jc_bk (u : XSt) (v : Nat) : (u.s_jc v).bk = u.bk := (e_jc u v).2.2.2.2.2.2.2.2.2.2.2.2.2.2.2.2.1
theorem e_jc_r (u : XSt) (v : Nat) : (u.s_jc v).r = u.r := (e_jc u v).2.2.2.2.2.2.2.2.2.2.2.2.2.2.2.2.2
theorem e_ja_sc (u : XSt) (v : Nat → Nat) : (u.s_ja v).sc = u.sc := (e_ja u v).1
theorem e_ja_kd (u : XSt) (v : Nat → Nat) : (u.s_ja v).kd = u.kd := (e_ja u v).2.1
theorem e_ja_tg (u : XSt) (v : Nat → Nat) : (u.s_ja v).tg = u.tg := (e_ja u v).2.2.1
theorem e_ja_sy (u : XSt) (v : Nat → Nat) : (u.s_ja v).sy = u.sy := (e_ja u v).2.2.2.1
theorem e_ja_sz (u : XSt) (v : Nat → Nat) : (u.s_ja v).sz = u.sz := (e_ja u v).2.2.2.2.1
theorem e_ja_su (u : XSt) (v : Nat → Nat) : (u.s_ja v).su = u.su := (e_ja u v).2.2.2.2.2.1
theorem e_ja_wt (u : XSt) (v : Nat → Nat) : (u.s_ja v).wt = u.wt := (e_ja u v).2.2.2.2.2.2.1
theorem e_ja_st (u : XSt) (v : Nat → Nat) : (u.s_ja v).st = u.st := (e_ja u v).2.2.2.2.2.2.2.1
theorem e_ja_nu (u : XSt) (v : Nat → Nat) : (u.s_ja v).nu = u.nu := (e_ja u v).2.2.2.2.2.2.2.2.1
theorem e_ja_lf (u : XSt) (v : Nat → Nat) : (u.s_ja v).lf = u.lf := (e_ja u v).2.2.2.2.2.2.2.2.2.1
theorem e_ja_rt (u : XSt) (v : Nat → Nat) : (u.s_ja v).rt = u.rt := (e_ja u v).2.2.2.2.2.2.2.2.2.2.1
theorem e_ja_wa (u : XSt) (v : Nat → Nat) : (u.s_ja v).wa = u.wa := (e_ja u v).2.2.2.2.2.2.2.2.2.2.2.1
theorem e_ja_jc (u : XSt) (v : Nat → Nat) : (u.s_ja v).jc = u.jc := (e_ja u v).2.2.2.2.2.2.2.2.2.2.2.2.1
theorem e_ja_ja (u : XSt) (v : Nat → Nat) : (u.s_ja v).ja = v := (e_ja u v).2.2.2.2.2.2.2.2.2.2.2.2.2.1
theorem e_ja_jb (u : XSt) (v : Nat → Nat) : (u.s_ja v).jb = u.jb := (e_ja u v).2.2.2.2.2.2.2.2.2.2.2.2.2.2.1
theorem e_ja_rd (u : XSt) (v : Nat → Nat) : (u.s_ja v).rd = u.rd := (e_ja u v).2.2.2.2.2.2.2.2.2.2.2.2.2.2.2.1
theorem e_ja_bk (u : XSt) (v : Nat → Nat) : (u.s_ja v).bk = u.bk := (e_ja u v).2.2.2.2.2.2.2.2.2.2.2.2.2.2.2.2.1
theorem e_ja_r (u : XSt) (v : Nat → Nat) : (u.s_ja v).r = u.r := (e_ja u v).2.2.2.2.2.2.2.2.2.2.2.2.2.2.2.2.2
theorem e_jb_sc (u : XSt) (v : Nat → Nat) : (u.s_jb v).sc = u.sc := (e_jb u v).1
theorem e_jb_kd (u : XSt) (v : Nat → Nat) : (u.s_jb v).kd = u.kd := (e_jb u v).2.1
theorem e_jb_tg (u : XSt) (v : Nat → Nat) : (u.s_jb v).tg = u.tg := (e_jb u v).2.2.1
theorem e_jb_sy (u : XSt) (v : Nat → Nat) : (u.s_jb v).sy = u.sy := (e_jb u v).2.2.2.1
theorem e_jb_sz (u : XSt) (v : Nat → Nat) : (u.s_jb v).sz = u.sz := (e_jb u v).2.2.2.2.1
theorem e_jb_su (u : XSt) (v : Nat → Nat) : (u.s_jb v).su = u.su := (e_jb u v).2.2.2.2.2.1
theorem e_jb_wt (u : XSt) (v : Nat → Nat) : (u.s_jb v).wt = u.wt := (e_jb u v).2.2.2.2.2.2.1
theorem e_jb_st (u : XSt) (v : Nat → Nat) : (u.s_jb v).st = u.st := (e_jb u v).2.2.2.2.2.2.2.1
theorem e_jb_nu (u : XSt) (v : Nat → Nat) : (u.s_jb v).nu = u.nu := (e_jb u v).2.2.2.2.2.2.2.2.1
theorem e_jb_lf (u : XSt) (v : Nat → Nat) : (u.s_jb v).lf = u.lf := (e_jb u v).2.2.2.2.2.2.2.2.2.1
theorem e_jb_rt (u : XSt) (v : Nat → Nat) : (u.s_jb v).rt = u.rt := (e_jb u v).2.2.2.2.2.2.2.2.2.2.1
theorem e_jb_wa (u : XSt) (v : Nat → Nat) : (u.s_jb v).wa = u.wa := (e_jb u v).2.2.2.2.2.2.2.2.2.2.2.1
theorem e_jb_jc (u : XSt) (v : Nat → Nat) : (u.s_jb v).jc = u.jc := (e_jb u v).2.2.2.2.2.2.2.2.2.2.2.2.1
theorem e_jb_ja (u : XSt) (v : Nat → Nat) : (u.s_jb v).ja = u.ja := (e_jb u v).2.2.2.2.2.2.2.2.2.2.2.2.2.1
theorem e_jb_jb (u : XSt) (v : Nat → Nat) : (u.s_jb v).jb = v := (e_jb u v).2.2.2.2.2.2.2.2.2.2.2.2.2.2.1
theorem e_jb_rd (u : XSt) (v : Nat → Nat) : (u.s_jb v).rd = u.rd := (e_jb u v).2.2.2.2.2.2.2.2.2.2.2.2.2.2.2.1
theorem e_jb_bk (u : XSt) (v : Nat → Nat) : (u.s_jb v).bk = u.bk := (e_jb u v).2.2.2.2.2.2.2.2.2.2.2.2.2.2.2.2.1
theorem e_jb_r (u : XSt) (v : Nat → Nat) : (u.s_jb v).r = u.r := (e_jb u v).2.2.2.2.2.2.2.2.2.2.2.2.2.2.2.2.2
theorem e_rd_sc (u : XSt) (v : Int64) : (u.s_rd v).sc = u.sc := (e_rd u v).1
theorem e_rd_kd (u : XSt) (v : Int64) : (u.s_rd v).kd = u.kd := (e_rd u v).2.1
theorem e_rd_tg (u : XSt) (v : Int64) : (u.s_rd v).tg = u.tg := (e_rd u v).2.2.1
theorem e_rd_sy (u : XSt) (v : Int64) : (u.s_rd v).sy = u.sy := (e_rd u v).2.2.2.1
theorem e_rd_sz (u : XSt) (v : Int64) : (u.s_rd v).sz = u.sz := (e_rd u v).2.2.2.2.1
theorem e_rd_su (u : XSt) (v : Int64) : (u.s_rd v).su = u.su := (e_rd u v).2.2.2.2.2.1
theorem e_rd_wt (u : XSt) (v : Int64) : (u.s_rd v).wt = u.wt := (e_rd u v).2.2.2.2.2.2.1
theorem e_rd_st (u : XSt) (v : Int64) : (u.s_rd v).st = u.st := (e_rd u v).2.2.2.2.2.2.2.1
theorem e_rd_nu (u : XSt) (v : Int64) : (u.s_rd v).nu = u.nu := (e_rd u v).2.2.2.2.2.2.2.2.1
theorem e_rd_lf (u : XSt) (v : Int64) : (u.s_rd v).lf = u.lf := (e_rd u v).2.2.2.2.2.2.2.2.2.1
theorem e_rd_rt (u : XSt) (v : Int64) : (u.s_rd v).rt = u.rt := (e_rd u v).2.2.2.2.2.2.2.2.2.2.1
theorem e_rd_wa (u : XSt) (v : Int64) : (u.s_rd v).wa = u.wa := (e_rd u v).2.2.2.2.2.2.2.2.2.2.2.1
theorem e_rd_jc (u : XSt) (v : Int64) : (u.s_rd v).jc = u.jc := (e_rd u v).2.2.2.2.2.2.2.2.2.2.2.2.1
theorem e_rd_ja (u : XSt) (v : Int64) : (u.s_rd v).ja = u.ja := (e_rd u v).2.2.2.2.2.2.2.2.2.2.2.2.2.1
theorem e_rd_jb (u : XSt) (v : Int64) : (u.s_rd v).jb = u.jb := (e_rd u v).2.2.2.2.2.2.2.2.2.2.2.2.2.2.1
theorem e_rd_rd (u : XSt) (v : Int64) : (u.s_rd v).rd = v := (e_rd u v).2.2.2.2.2.2.2.2.2.2.2.2.2.2.2.1
theorem e_rd_bk (u : XSt) (v : Int64) : (u.s_rd v).bk = u.bk := (e_rd u v).2.2.2.2.2.2.2.2.2.2.2.2.2.2.2.2.1
theorem e_rd_r (u : XSt) (v : Int64) : (u.s_rd v).r = u.r := (e_rd u v).2.2.2.2.2.2.2.2.2.2.2.2.2.2.2.2.2
theorem e_bk_sc (u : XSt) (v : Bool) : (u.s_bk v).sc = u.sc := (e_bk u v).1
theorem e_bk_kd (u : XSt) (v : Bool) : (u.s_bk v).kd = u.kd := (e_bk u v).2.1
theorem e_bk_tg (u : XSt) (v : Bool) : (u.s_bk v).tg = u.tg := (e_bk u v).2.2.1
theorem e_bk_sy (u : XSt) (v : Bool) : (u.s_bk v).sy = u.sy := (e_bk u v).2.2.2.1
theorem e_bk_sz (u : XSt) (v : Bool) : (u.s_bk v).sz = u.sz := (e_bk u v).2.2.2.2.1
theorem e_bk_su (u : XSt) (v : Bool) : (u.s_bk v).su = u.su := (e_bk u v).2.2.2.2.2.1
theorem e_bk_wt (u : XSt) (v : Bool) : (u.s_bk v).wt = u.wt := (e_bk u v).2.2.2.2.2.2.1
theorem e_bk_st (u : XSt) (v : Bool) : (u.s_bk v).st = u.st := (e_bk u v).2.2.2.2.2.2.2.1
theorem e_bk_nu (u : XSt) (v : Bool) : (u.s_bk v).nu = u.nu := (e_bk u v).2.2.2.2.2.2.2.2.1
theorem e_bk_lf (u : XSt) (v : Bool) : (u.s_bk v).lf = u.lf := (e_bk u v).2.2.2.2.2.2.2.2.2.1
theorem e_bk_rt (u : XSt) (v : Bool) : (u.s_bk v).rt = u.rt := (e_bk u v).2.2.2.2.2.2.2.2.2.2.1
theorem e_bk_wa (u : XSt) (v : Bool) : (u.s_bk v).wa = u.wa := (e_bk u v).2.2.2.2.2.2.2.2.2.2.2.1
theorem e_bk_jc (u : XSt) (v : Bool) : (u.s_bk v).jc = u.jc := (e_bk u v).2.2.2.2.2.2.2.2.2.2.2.2.1
theorem e_bk_ja (u : XSt) (v : Bool) : (u.s_bk v).ja = u.ja := (e_bk u v).2.2.2.2.2.2.2.2.2.2.2.2.2.1
theorem e_bk_jb (u : XSt) (v : Bool) : (u.s_bk v).jb = u.jb := (e_bk u v).2.2.2.2.2.2.2.2.2.2.2.2.2.2.1
theorem e_bk_rd (u : XSt) (v : Bool) : (u.s_bk v).rd = u.rd := (e_bk u v).2.2.2.2.2.2.2.2.2.2.2.2.2.2.2.1
theorem e_bk_bk (u : XSt) (v : Bool) : (u.s_bk v).bk = v := (e_bk u v).2.2.2.2.2.2.2.2.2.2.2.2.2.2.2.2.1
theorem e_bk_r (u : XSt) (v : Bool) : (u.s_bk v).r = u.r := (e_bk u v).2.2.2.2.2.2.2.2.2.2.2.2.2.2.2.2.2
theorem e_r_sc (u : XSt) (v : Nat → Nat) : (u.s_r v).sc = u.sc := (e_r u v).1
theorem e_r_kd (u : XSt) (v : Nat → Nat) : (u.s_r v).kd = u.kd := (e_r u v).2.1
theorem e_r_tg (u : XSt) (v : Nat → Nat) : (u.s_r v).tg = u.tg := (e_r u v).2.2.1
theorem e_r_sy (u : XSt) (v : Nat → Nat) : (u.s_r v).sy = u.sy := (e_r u v).2.2.2.1
theorem e_r_sz (u : XSt) (v : Nat → Nat) : (u.s_r v).sz = u.sz := (e_r u v).2.2.2.2.1
theorem e_r_su (u : XSt) (v : Nat → Nat) : (u.s_r v).su = u.su := (e_r u v).2.2.2.2.2.1
theorem e_r_wt (u : XSt) (v : Nat → Nat) : (u.s_r v).wt = u.wt := (e_r u v).2.2.2.2.2.2.1
theorem e_r_st (u : XSt) (v : Nat → Nat) : (u.s_r v).st = u.st := (e_r u v).2.2.2.2.2.2.2.1
theorem e_r_nu (u : XSt) (v : Nat → Nat) : (u.s_r v).nu = u.nu := (e_r u v).2.2.2.2.2.2.2.2.1
theorem e_r_lf (u : XSt) (v : Nat → Nat) : (u.s_r v).lf = u.lf := (e_r u v).2.2.2.2.2.2.2.2.2.1
theorem e_r_rt (u : XSt) (v : Nat → Nat) : (u.s_r v).rt = u.rt := (e_r u v).2.2.2.2.2.2.2.2.2.2.1
theorem e_r_wa (u : XSt) (v : Nat → Nat) : (u.s_r v).wa = u.wa := (e_r u v).2.2.2.2.2.2.2.2.2.2.2.1
theorem e_r_jc (u : XSt) (v : Nat → Nat) : (u.s_r v).jc = u.jc := (e_r u v).2.2.2.2.2.2.2.2.2.2.2.2.1
theorem e_r_ja (u : XSt) (v : Nat → Nat) : (u.s_r v).ja = u.ja := (e_r u v).2.2.2.2.2.2.2.2.2.2.2.2.2.1
theorem e_r_jb (u : XSt) (v : Nat → Nat) : (u.s_r v).jb = u.jb := (e_r u v).2.2.2.2.2.2.2.2.2.2.2.2.2.2.1
theorem e_r_rd (u : XSt) (v : Nat → Nat) : (u.s_r v).rd = u.rd := (e_r u v).2.2.2.2.2.2.2.2.2.2.2.2.2.2.2.1
theorem e_r_bk (u : XSt) (v : Nat → Nat) : (u.s_r v).bk = u.bk := (e_r u v).2.2.2.2.2.2.2.2.2.2.2.2.2.2.2.2.1
theorem e_r_r (u : XSt) (v : Nat → Nat) : (u.s_r v).r = v := (e_r u v).2.2.2.2.2.2.2.2.2.2.2.2.2.2.2.2.2
theorem wake_sc (u : XSt) (h : Nat) : (xs_wake u h).sc = u.sc := (wake_e u h).1
theorem wake_kd (u : XSt) (h : Nat) : (xs_wake u h).kd = u.kd := (wake_e u h).2.1
theorem wake_tg (u : XSt) (h : Nat) : (xs_wake u h).tg = u.tg := (wake_e u h).2.2.1
theorem wake_sy (u : XSt) (h : Nat) : (xs_wake u h).sy = u.sy := (wake_e u h).2.2.2.1
theorem wake_sz (u : XSt) (h : Nat) : (xs_wake u h).sz = u.sz := (wake_e u h).2.2.2.2.1
theorem wake_su (u : XSt) (h : Nat) : (xs_wake u h).su = u.su := (wake_e u h).2.2.2.2.2.1
theorem wake_wt (u : XSt) (h : Nat) : (xs_wake u h).wt = u.wt := (wake_e u h).2.2.2.2.2.2.1
theorem wake_st (u : XSt) (h : Nat) : (xs_wake u h).st = u.st := (wake_e u h).2.2.2.2.2.2.2.1
theorem wake_nu (u : XSt) (h : Nat) : (xs_wake u h).nu = u.nu := (wake_e u h).2.2.2.2.2.2.2.2.1
theorem wake_lf (u : XSt) (h : Nat) : (xs_wake u h).lf = u.lf := (wake_e u h).2.2.2.2.2.2.2.2.2.1
theorem wake_rt (u : XSt) (h : Nat) : (xs_wake u h).rt = u.rt := (wake_e u h).2.2.2.2.2.2.2.2.2.2.1
theorem wake_wa (u : XSt) (h : Nat) : (xs_wake u h).wa = va_up u.wa h 0 := (wake_e u h).2.2.2.2.2.2.2.2.2.2.2.1
theorem wake_jc (u : XSt) (h : Nat) : (xs_wake u h).jc = u.jc := (wake_e u h).2.2.2.2.2.2.2.2.2.2.2.2.1
theorem wake_ja (u : XSt) (h : Nat) : (xs_wake u h).ja = u.ja := (wake_e u h).2.2.2.2.2.2.2.2.2.2.2.2.2.1
theorem wake_jb (u : XSt) (h : Nat) : (xs_wake u h).jb = u.jb := (wake_e u h).2.2.2.2.2.2.2.2.2.2.2.2.2.2.1
theorem wake_rd (u : XSt) (h : Nat) : (xs_wake u h).rd = u.rd ||| (u.wa h &&& u.su) := (wake_e u h).2.2.2.2.2.2.2.2.2.2.2.2.2.2.2.1
theorem wake_bk (u : XSt) (h : Nat) : (xs_wake u h).bk = u.bk := (wake_e u h).2.2.2.2.2.2.2.2.2.2.2.2.2.2.2.2.1
theorem wake_r (u : XSt) (h : Nat) : (xs_wake u h).r = u.r := (wake_e u h).2.2.2.2.2.2.2.2.2.2.2.2.2.2.2.2.2
theorem want_sc (u : XSt) (x y : Nat) : (xs_want u x y).sc = u.sc := (want_e u x y).1
theorem want_kd (u : XSt) (x y : Nat) : (xs_want u x y).kd = u.kd := (want_e u x y).2.1
theorem want_tg (u : XSt) (x y : Nat) : (xs_want u x y).tg = u.tg := (want_e u x y).2.2.1
theorem want_sy (u : XSt) (x y : Nat) : (xs_want u x y).sy = u.sy := (want_e u x y).2.2.2.1
theorem want_sz (u : XSt) (x y : Nat) : (xs_want u x y).sz = u.sz := (want_e u x y).2.2.2.2.1
theorem want_su (u : XSt) (x y : Nat) : (xs_want u x y).su = u.su := (want_e u x y).2.2.2.2.2.1
theorem want_wt (u : XSt) (x y : Nat) : (xs_want u x y).wt = u.wt := (want_e u x y).2.2.2.2.2.2.1
theorem want_st (u : XSt) (x y : Nat) : (xs_want u x y).st = u.st := (want_e u x y).2.2.2.2.2.2.2.1
theorem want_nu (u : XSt) (x y : Nat) : (xs_want u x y).nu = u.nu := (want_e u x y).2.2.2.2.2.2.2.2.1
theorem want_lf (u : XSt) (x y : Nat) : (xs_want u x y).lf = u.lf := (want_e u x y).2.2.2.2.2.2.2.2.2.1
theorem want_rt (u : XSt) (x y : Nat) : (xs_want u x y).rt = u.rt := (want_e u x y).2.2.2.2.2.2.2.2.2.2.1
theorem want_wa (u : XSt) (x y : Nat) : (xs_want u x y).wa = u.wa := (want_e u x y).2.2.2.2.2.2.2.2.2.2.2.1
theorem want_jc (u : XSt) (x y : Nat) : (xs_want u x y).jc = u.jc + 1 := (want_e u x y).2.2.2.2.2.2.2.2.2.2.2.2.1
theorem want_ja (u : XSt) (x y : Nat) : (xs_want u x y).ja = va_up u.ja u.jc x := (want_e u x y).2.2.2.2.2.2.2.2.2.2.2.2.2.1
theorem want_jb (u : XSt) (x y : Nat) : (xs_want u x y).jb = va_up u.jb u.jc y := (want_e u x y).2.2.2.2.2.2.2.2.2.2.2.2.2.2.1
theorem want_rd (u : XSt) (x y : Nat) : (xs_want u x y).rd = u.rd := (want_e u x y).2.2.2.2.2.2.2.2.2.2.2.2.2.2.2.1
theorem want_bk (u : XSt) (x y : Nat) : (xs_want u x y).bk = u.bk := (want_e u x y).2.2.2.2.2.2.2.2.2.2.2.2.2.2.2.2.1
theorem want_r (u : XSt) (x y : Nat) : (xs_want u x y).r = u.r := (want_e u x y).2.2.2.2.2.2.2.2.2.2.2.2.2.2.2.2.2
theorem setN_sc (u : XSt) (k : Nat) (n : Int32) : (xs_wake ((u.s_st (va_up u.st k 1)).s_nu (va_up u.nu k n)) k).sc = u.sc := (setN_e u k n).1
theorem setN_kd (u : XSt) (k : Nat) (n : Int32) : (xs_wake ((u.s_st (va_up u.st k 1)).s_nu (va_up u.nu k n)) k).kd = u.kd := (setN_e u k n).2.1
theorem setN_tg (u : XSt) (k : Nat) (n : Int32) : (xs_wake ((u.s_st (va_up u.st k 1)).s_nu (va_up u.nu k n)) k).tg = u.tg := (setN_e u k n).2.2.1
theorem setN_sy (u : XSt) (k : Nat) (n : Int32) : (xs_wake ((u.s_st (va_up u.st k 1)).s_nu (va_up u.nu k n)) k).sy = u.sy := (setN_e u k n).2.2.2.1
theorem setN_sz (u : XSt) (k : Nat) (n : Int32) : (xs_wake ((u.s_st (va_up u.st k 1)).s_nu (va_up u.nu k n)) k).sz = u.sz := (setN_e u k n).2.2.2.2.1
theorem setN_su (u : XSt) (k : Nat) (n : Int32) : (xs_wake ((u.s_st (va_up u.st k 1)).s_nu (va_up u.nu k n)) k).su = u.su := (setN_e u k n).2.2.2.2.2.1
theorem setN_wt (u : XSt) (k : Nat) (n : Int32) : (xs_wake ((u.s_st (va_up u.st k 1)).s_nu (va_up u.nu k n)) k).wt = u.wt := (setN_e u k n).2.2.2.2.2.2.1
theorem setN_st (u : XSt) (k : Nat) (n : Int32) : (xs_wake ((u.s_st (va_up u.st k 1)).s_nu (va_up u.nu k n)) k).st = va_up u.st k 1 := (setN_e u k n).2.2.2.2.2.2.2.1
theorem setN_nu (u : XSt) (k : Nat) (n : Int32) : (xs_wake ((u.s_st (va_up u.st k 1)).s_nu (va_up u.nu k n)) k).nu = va_up u.nu k n := (setN_e u k n).2.2.2.2.2.2.2.2.1
theorem setN_lf (u : XSt) (k : Nat) (n : Int32) : (xs_wake ((u.s_st (va_up u.st k 1)).s_nu (va_up u.nu k n)) k).lf = u.lf := (setN_e u k n).2.2.2.2.2.2.2.2.2.1
theorem setN_rt (u : XSt) (k : Nat) (n : Int32) : (xs_wake ((u.s_st (va_up u.st k 1)).s_nu (va_up u.nu k n)) k).rt = u.rt := (setN_e u k n).2.2.2.2.2.2.2.2.2.2.1
theorem setN_wa (u : XSt) (k : Nat) (n : Int32) : (xs_wake ((u.s_st (va_up u.st k 1)).s_nu (va_up u.nu k n)) k).wa = va_up u.wa k 0 := (setN_e u k n).2.2.2.2.2.2.2.2.2.2.2.1
theorem setN_jc (u : XSt) (k : Nat) (n : Int32) : (xs_wake ((u.s_st (va_up u.st k 1)).s_nu (va_up u.nu k n)) k).jc = u.jc := (setN_e u k n).2.2.2.2.2.2.2.2.2.2.2.2.1
theorem setN_ja (u : XSt) (k : Nat) (n : Int32) : (xs_wake ((u.s_st (va_up u.st k 1)).s_nu (va_up u.nu k n)) k).ja = u.ja := (setN_e u k n).2.2.2.2.2.2.2.2.2.2.2.2.2.1
theorem setN_jb (u : XSt) (k : Nat) (n : Int32) : (xs_wake ((u.s_st (va_up u.st k 1)).s_nu (va_up u.nu k n)) k).jb = u.jb := (setN_e u k n).2.2.2.2.2.2.2.2.2.2.2.2.2.2.1
theorem setN_rd (u : XSt) (k : Nat) (n : Int32) : (xs_wake ((u.s_st (va_up u.st k 1)).s_nu (va_up u.nu k n)) k).rd = u.rd ||| (u.wa k &&& u.su) := (setN_e u k n).2.2.2.2.2.2.2.2.2.2.2.2.2.2.2.1
theorem setN_bk (u : XSt) (k : Nat) (n : Int32) : (xs_wake ((u.s_st (va_up u.st k 1)).s_nu (va_up u.nu k n)) k).bk = u.bk := (setN_e u k n).2.2.2.2.2.2.2.2.2.2.2.2.2.2.2.2.1
theorem setN_r (u : XSt) (k : Nat) (n : Int32) : (xs_wake ((u.s_st (va_up u.st k 1)).s_nu (va_up u.nu k n)) k).r = u.r := (setN_e u k n).2.2.2.2.2.2.2.2.2.2.2.2.2.2.2.2.2
theorem setC_sc (u : XSt) (k a b : Nat) : (xs_wake (((u.s_st (va_up u.st k 2)).s_lf (va_up u.lf k a)).s_rt (va_up u.rt k b)) k).sc = u.sc := (setC_e u k a b).1
theorem setC_kd (u : XSt) (k a b : Nat) : (xs_wake (((u.s_st (va_up u.st k 2)).s_lf (va_up u.lf k a)).s_rt (va_up u.rt k b)) k).kd = u.kd := (setC_e u k a b).2.1
theorem setC_tg (u : XSt) (k a b : Nat) : (xs_wake (((u.s_st (va_up u.st k 2)).s_lf (va_up u.lf k a)).s_rt (va_up u.rt k b)) k).tg = u.tg := (setC_e u k a b).2.2.1
theorem setC_sy (u : XSt) (k a b : Nat) : (xs_wake (((u.s_st (va_up u.st k 2)).s_lf (va_up u.lf k a)).s_rt (va_up u.rt k b)) k).sy = u.sy := (setC_e u k a b).2.2.2.1
theorem setC_sz (u : XSt) (k a b : Nat) : (xs_wake (((u.s_st (va_up u.st k 2)).s_lf (va_up u.lf k a)).s_rt (va_up u.rt k b)) k).sz = u.sz := (setC_e u k a b).2.2.2.2.1
theorem setC_su (u : XSt) (k a b : Nat) : (xs_wake (((u.s_st (va_up u.st k 2)).s_lf (va_up u.lf k a)).s_rt (va_up u.rt k b)) k).su = u.su := (setC_e u k a b).2.2.2.2.2.1
theorem setC_wt (u : XSt) (k a b : Nat) : (xs_wake (((u.s_st (va_up u.st k 2)).s_lf (va_up u.lf k a)).s_rt (va_up u.rt k b)) k).wt = u.wt := (setC_e u k a b).2.2.2.2.2.2.1
theorem setC_st (u : XSt) (k a b : Nat) : (xs_wake (((u.s_st (va_up u.st k 2)).s_lf (va_up u.lf k a)).s_rt (va_up u.rt k b)) k).st = va_up u.st k 2 := (setC_e u k a b).2.2.2.2.2.2.2.1
theorem setC_nu (u : XSt) (k a b : Nat) : (xs_wake (((u.s_st (va_up u.st k 2)).s_lf (va_up u.lf k a)).s_rt (va_up u.rt k b)) k).nu = u.nu := (setC_e u k a b).2.2.2.2.2.2.2.2.1
theorem setC_lf (u : XSt) (k a b : Nat) : (xs_wake (((u.s_st (va_up u.st k 2)).s_lf (va_up u.lf k a)).s_rt (va_up u.rt k b)) k).lf = va_up u.lf k a := (setC_e u k a b).2.2.2.2.2.2.2.2.2.1
theorem setC_rt (u : XSt) (k a b : Nat) : (xs_wake (((u.s_st (va_up u.st k 2)).s_lf (va_up u.lf k a)).s_rt (va_up u.rt k b)) k).rt = va_up u.rt k b := (setC_e u k a b).2.2.2.2.2.2.2.2.2.2.1
theorem setC_wa (u : XSt) (k a b : Nat) : (xs_wake (((u.s_st (va_up u.st k 2)).s_lf (va_up u.lf k a)).s_rt (va_up u.rt k b)) k).wa = va_up u.wa k 0 := (setC_e u k a b).2.2.2.2.2.2.2.2.2.2.2.1
theorem setC_jc (u : XSt) (k a b : Nat) : (xs_wake (((u.s_st (va_up u.st k 2)).s_lf (va_up u.lf k a)).s_rt (va_up u.rt k b)) k).jc = u.jc := (setC_e u k a b).2.2.2.2.2.2.2.2.2.2.2.2.1
theorem setC_ja (u : XSt) (k a b : Nat) : (xs_wake (((u.s_st (va_up u.st k 2)).s_lf (va_up u.lf k a)).s_rt (va_up u.rt k b)) k).ja = u.ja := (setC_e u k a b).2.2.2.2.2.2.2.2.2.2.2.2.2.1
theorem setC_jb (u : XSt) (k a b : Nat) : (xs_wake (((u.s_st (va_up u.st k 2)).s_lf (va_up u.lf k a)).s_rt (va_up u.rt k b)) k).jb = u.jb := (setC_e u k a b).2.2.2.2.2.2.2.2.2.2.2.2.2.2.1
theorem setC_rd (u : XSt) (k a b : Nat) : (xs_wake (((u.s_st (va_up u.st k 2)).s_lf (va_up u.lf k a)).s_rt (va_up u.rt k b)) k).rd = u.rd ||| (u.wa k &&& u.su) := (setC_e u k a b).2.2.2.2.2.2.2.2.2.2.2.2.2.2.2.1
theorem setC_bk (u : XSt) (k a b : Nat) : (xs_wake (((u.s_st (va_up u.st k 2)).s_lf (va_up u.lf k a)).s_rt (va_up u.rt k b)) k).bk = u.bk := (setC_e u k a b).2.2.2.2.2.2.2.2.2.2.2.2.2.2.2.2.1
theorem setC_r (u : XSt) (k a b : Nat) : (xs_wake (((u.s_st (va_up u.st k 2)).s_lf (va_up u.lf k a)).s_rt (va_up u.rt k b)) k).r = u.r := (setC_e u k a b).2.2.2.2.2.2.2.2.2.2.2.2.2.2.2.2.2
theorem want2_sc (u : XSt) (a b c d : Nat) : (xs_want (xs_want u a b) c d).sc = u.sc := (want2_e u a b c d).1
theorem want2_kd (u : XSt) (a b c d : Nat) : (xs_want (xs_want u a b) c d).kd = u.kd := (want2_e u a b c d).2.1
theorem want2_tg (u : XSt) (a b c d : Nat) : (xs_want (xs_want u a b) c d).tg = u.tg := (want2_e u a b c d).2.2.1
theorem want2_sy (u : XSt) (a b c d : Nat) : (xs_want (xs_want u a b) c d).sy = u.sy := (want2_e u a b c d).2.2.2.1
theorem want2_sz (u : XSt) (a b c d : Nat) : (xs_want (xs_want u a b) c d).sz = u.sz := (want2_e u a b c d).2.2.2.2.1
theorem want2_su (u : XSt) (a b c d : Nat) : (xs_want (xs_want u a b) c d).su = u.su := (want2_e u a b c d).2.2.2.2.2.1
theorem want2_wt (u : XSt) (a b c d : Nat) : (xs_want (xs_want u a b) c d).wt = u.wt := (want2_e u a b c d).2.2.2.2.2.2.1
theorem want2_st (u : XSt) (a b c d : Nat) : (xs_want (xs_want u a b) c d).st = u.st := (want2_e u a b c d).2.2.2.2.2.2.2.1
theorem want2_nu (u : XSt) (a b c d : Nat) : (xs_want (xs_want u a b) c d).nu = u.nu := (want2_e u a b c d).2.2.2.2.2.2.2.2.1
theorem want2_lf (u : XSt) (a b c d : Nat) : (xs_want (xs_want u a b) c d).lf = u.lf := (want2_e u a b c d).2.2.2.2.2.2.2.2.2.1
theorem want2_rt (u : XSt) (a b c d : Nat) : (xs_want (xs_want u a b) c d).rt = u.rt := (want2_e u a b c d).2.2.2.2.2.2.2.2.2.2.1
theorem want2_wa (u : XSt) (a b c d : Nat) : (xs_want (xs_want u a b) c d).wa = u.wa := (want2_e u a b c d).2.2.2.2.2.2.2.2.2.2.2.1
theorem want2_jc (u : XSt) (a b c d : Nat) : (xs_want (xs_want u a b) c d).jc = u.jc + 1 + 1 := (want2_e u a b c d).2.2.2.2.2.2.2.2.2.2.2.2.1
theorem want2_ja (u : XSt) (a b c d : Nat) : (xs_want (xs_want u a b) c d).ja = va_up (va_up u.ja u.jc a) (u.jc + 1) c := (want2_e u a b c d).2.2.2.2.2.2.2.2.2.2.2.2.2.1
theorem want2_jb (u : XSt) (a b c d : Nat) : (xs_want (xs_want u a b) c d).jb = va_up (va_up u.jb u.jc b) (u.jc + 1) d := (want2_e u a b c d).2.2.2.2.2.2.2.2.2.2.2.2.2.2.1
theorem want2_rd (u : XSt) (a b c d : Nat) : (xs_want (xs_want u a b) c d).rd = u.rd := (want2_e u a b c d).2.2.2.2.2.2.2.2.2.2.2.2.2.2.2.1
theorem want2_bk (u : XSt) (a b c d : Nat) : (xs_want (xs_want u a b) c d).bk = u.bk := (want2_e u a b c d).2.2.2.2.2.2.2.2.2.2.2.2.2.2.2.2.1
theorem want2_r (u : XSt) (a b c d : Nat) : (xs_want (xs_want u a b) c d).r = u.r := (want2_e u a b c d).2.2.2.2.2.2.2.2.2.2.2.2.2.2.2.2.2
end
section
/-! X's steps: what a join keeps -/
section
variable {u v : XSt} {g : YSt}
theorem bindN_bk {k : Nat} {n : Int32} (h : (xs_bindN u k n).bk = false) : u.bk = false := by
  unfold xs_bindN at h
  split at h
  · rw [setN_bk] at h; exact h
  · split at h
    · rw [e_bk_bk] at h
      exact absurd h (by decide)
    · exact h
theorem bindC_bk {k a b : Nat} (h : (xs_bindC u k a b).bk = false) : u.bk = false := by
  unfold xs_bindC at h
  split at h
  · rw [setC_bk] at h; exact h
  · split at h
    · rw [want2_bk] at h; exact h
    · rw [e_bk_bk] at h
      exact absurd h (by decide)
theorem bindC_jc (u : XSt) (k a b : Nat) : (xs_bindC u k a b).jc ≤ u.jc + 2 := by
  unfold xs_bindC
  split
  · rw [setC_jc]; omega
  · split
    · rw [want2_jc]; omega
    · rw [e_bk_jc]; omega
theorem up_st0 {f : Nat → Nat} {k c x : Nat} (hc : c ≠ 0) (h : va_up f k c x = 0) : f x = 0 := by
  by_cases e : x = k
  · rw [e, up_at] at h; exact absurd h hc
  · rw [up_ne _ _ e] at h; exact h
theorem bindN_st {k x : Nat} {n : Int32} (h : (xs_bindN u k n).st x = 0) : u.st x = 0 := by
  unfold xs_bindN at h
  split at h
  · rw [setN_st] at h; exact up_st0 (by decide) h
  · split at h
    · rw [e_bk_st] at h; exact h
    · exact h
theorem bindC_st {k a b x : Nat} (h : (xs_bindC u k a b).st x = 0) : u.st x = 0 := by
  unfold xs_bindC at h
  split at h
  · rw [setC_st] at h; exact up_st0 (by decide) h
  · split at h
    · rw [want2_st] at h; exact h
    · rw [e_bk_st] at h; exact h
theorem j2_st {a b x : Nat} (h : (xs_j2 u a b).st x = 0) : u.st x = 0 := by
  unfold xs_j2 at h
  split at h
  · exact bindN_st h
  · exact h
theorem j3_st {a b x : Nat} (h : (xs_j3 u a b).st x = 0) : u.st x = 0 := by
  unfold xs_j3 at h
  split at h
  · exact bindC_st h
  · exact h
theorem j4_st {a x : Nat} (h : (xs_j4 u a).st x = 0) : u.st x = 0 := by
  unfold xs_j4 at h
  split at h
  · exact h
  · rw [wake_st] at h; exact h
theorem j3_jc (u : XSt) (a b : Nat) : (xs_j3 u a b).jc ≤ u.jc + 2 := by
  unfold xs_j3
  split
  · exact bindC_jc _ _ _ _
  · exact Nat.le_add_right _ _
theorem j4_f4 (u : XSt) (a : Nat) : (xs_j4 u a).jc = u.jc ∧ (xs_j4 u a).bk = u.bk ∧ (xs_j4 u a).r = u.r ∧ (xs_j4 u a).su = u.su := by
  unfold xs_j4
  split
  · exact ⟨rfl, rfl, rfl, rfl⟩
  · exact ⟨wake_jc u a, wake_bk u a, wake_r u a, wake_su u a⟩
theorem j4_rd {a : Nat} (h : u.st a ≠ 0) : (xs_j4 u a).rd = u.rd ||| (u.wa a &&& u.su) := by
  unfold xs_j4
  rw [if_neg h]
  exact wake_rd u a
theorem merge_r (u : XSt) (a b : Nat) : (xs_merge u a b).r = fun z => if u.r z = b then a else u.r z := (merge_e u a b).2.2.2.2.2.2.2.2.2.2.2.2.2.2.2.2.2
theorem merge_jc (u : XSt) (a b : Nat) : (xs_merge u a b).jc = u.jc := (merge_e u a b).2.2.2.2.2.2.2.2.2.2.2.2.1
theorem merge_st (u : XSt) (a b : Nat) : (xs_merge u a b).st = u.st := (merge_e u a b).2.2.2.2.2.2.2.1
theorem join2_r (u : XSt) (a b : Nat) : (xs_join2 u a b).r = fun z => if u.r z = b then a else u.r z := by
  unfold xs_join2
  rw [(j4_f4 _ _).2.2.1, j3_r, j2_r, merge_r]
theorem join2_jc (u : XSt) (a b : Nat) : (xs_join2 u a b).jc ≤ u.jc + 2 := by
  unfold xs_join2
  rw [(j4_f4 _ _).1]
  refine Nat.le_trans (j3_jc _ _ _) ?_
  rw [j2_jc, merge_jc]
  exact Nat.le_refl _
theorem join2_st {a b x : Nat} (h : (xs_join2 u a b).st x = 0) : u.st x = 0 := by
  unfold xs_join2 at h
  have h := j2_st (j3_st (j4_st h))
  rw [merge_st] at h
  exact h
/-- a bound class's waiters are woken -/
theorem ext_wake (hR : RootOk u.r) {k : Nat} (h0 : u.st k ≠ 0) : Ext u (xs_wake u k) := by
  have E := wake_e u k
  have hs := xsame_wake u k
  generalize xs_wake u k = v at E hs ⊢
  obtain ⟨-, -, -, -, -, Esu, -, Est, Enu, Elf, Ert, Ewa, Ejc, Eja, Ejb, Erd, Ebk, Er⟩ := E
  refine ⟨fun x hx => by rw [Er]; exact (hR x hx).2, fun f a b => ⟨by rw [Er] at a; exact a, by rw [Ejc, Eja, Ejb] at b; exact b⟩, fun h _ e q => ?_, fun h _ e q => ?_, fun h _ e q i b s => ?_, fun i q => ?_, hs⟩
  · rw [Est, Enu, Er, e]; exact ⟨q, rfl⟩
  · rw [Est, Elf, Ert, Er, e]; exact ⟨q, EqI.rf _ _, EqI.rf _ _⟩
  · have hk : h ≠ k := fun z => h0 (by rw [← z]; exact q)
    refine Or.inr ?_
    rw [Est, Ewa, Er, e, up_ne _ _ hk]
    exact ⟨q, b⟩
  · rw [Erd, bt_or, q]; rfl
theorem ext_j4 (hR : RootOk u.r) (k : Nat) : Ext u (xs_j4 u k) ∧ (∀ i, bt (xs_j4 u k).rd i = true → bt u.rd i = true ∨ bt u.su i = true) := by
  by_cases c : u.st k = 0
  · have e : xs_j4 u k = u := if_pos c
    rw [e]
    exact ⟨Ext.rf hR, fun i hi => Or.inl hi⟩
  · have e : xs_j4 u k = xs_wake u k := if_neg c
    rw [e]
    refine ⟨ext_wake hR c, fun i hi => ?_⟩
    rw [wake_rd] at hi
    exact rd_or hi
theorem bindN_st1 {k x : Nat} {n : Int32} (hx : x ≠ k) : (xs_bindN u k n).st x = u.st x := by
  unfold xs_bindN
  split
  · rw [setN_st, up_ne _ _ hx]
  · split
    · rw [e_bk_st]
    · rfl
/-- what the two classes were is told to the larger one -/
theorem ext_j23 (hR : RootOk u.r) (hS : XSr u) {big small : Nat} (hne : small ≠ big) (hv : v = xs_j3 (xs_j2 u big small) big small) (hb : v.bk = false) : Ext u v ∧ v.su = u.su ∧ (∀ i, bt v.rd i = true → bt u.rd i = true ∨ bt u.su i = true) ∧ (u.st small = 1 → v.st big = 1 ∧ v.nu big = u.nu small) ∧ (u.st small = 2 → v.st big = 2 ∧ EqI v (v.lf big) (u.lf small) ∧ EqI v (v.rt big) (u.rt small)) ∧ (u.st small = 0 → v = u) := by
  by_cases c1 : u.st small = 1
  · have e2 : xs_j2 u big small = xs_bindN u big (u.nu small) := if_pos c1
    have s1 : (xs_bindN u big (u.nu small)).st small = 1 := by rw [bindN_st1 hne]; exact c1
    have e3 : v = xs_bindN u big (u.nu small) := by
      rw [hv, e2]
      exact if_neg (by rw [s1]; decide)
    rw [e3] at hb
    obtain ⟨a1, a2, a3, a4, a5⟩ := ext_bindN hR hS (u.nu small) hb
    rw [← e3] at a1 a2 a3 a4 a5
    exact ⟨a1, a4, a5, fun _ => ⟨a2, a3⟩, fun z => by omega, fun z => by omega⟩
  · have e2 : xs_j2 u big small = u := if_neg c1
    rw [e2] at hv
    by_cases c2 : u.st small = 2
    · have e3 : v = xs_bindC u big (u.lf small) (u.rt small) := hv.trans (if_pos c2)
      rw [e3] at hb
      obtain ⟨a1, a2, a3, a4, a5, a6, -⟩ := ext_bindC hR (u.lf small) (u.rt small) hb
      rw [← e3] at a1 a2 a3 a4 a5 a6
      exact ⟨a1, a5, a6, fun z => by omega, fun _ => ⟨a2, a3, a4⟩, fun z => by omega⟩
    · have e3 : v = u := hv.trans (if_neg c2)
      rw [e3]
      exact ⟨Ext.rf hR, rfl, fun i hi => Or.inl hi, fun z => absurd z c1, fun z => absurd z c2, fun _ => rfl⟩
theorem merge_root {r : Nat → Nat} (hR : RootOk r) {big small : Nat} (hb : big < 12) (rb : r big = big) (hne : big ≠ small) : RootOk (fun z => if r z = small then big else r z) := by
  intro x hx
  by_cases c : r x = small
  · simp only [c, if_true, rb, if_neg hne]
    exact ⟨hb, trivial⟩
  · simp only [if_neg c, (hR x hx).2]
    exact ⟨(hR x hx).1, trivial⟩
theorem ext_join2 (hR : RootOk u.r) (hS : XSr u) {big small : Nat} (hbg : big < 12) (hsm : small < 12) (rb : u.r big = big) (rs : u.r small = small) (hne : big ≠ small) (hb : (xs_join2 u big small).bk = false) : Ext u (xs_join2 u big small) ∧ (xs_join2 u big small).su = u.su ∧ (∀ i, bt (xs_join2 u big small).rd i = true → bt u.rd i = true ∨ bt u.su i = true) := by
  have hsame := xsame_join2 u big small
  have hSm := hS.merge big small
  have E := merge_e u big small
  unfold xs_join2 at hb hsame ⊢
  generalize xs_merge u big small = m at hSm E hb hsame ⊢
  obtain ⟨-, -, -, -, -, Esu, -, Est, Enu, Elf, Ert, Ewa, Ejc, Eja, Ejb, Erd, Ebk, Er⟩ := E
  have mr1 : ∀ x, u.r x = small → m.r x = big := fun x c => by rw [Er]; exact if_pos c
  have mr2 : ∀ x, u.r x ≠ small → m.r x = u.r x := fun x c => by rw [Er]; exact if_neg c
  have mrb : m.r big = big := by rw [mr2 big (by rw [rb]; exact hne)]; exact rb
  have mrs : m.r small = big := mr1 small rs
  have hRm : RootOk m.r := by rw [Er]; exact merge_root hR hbg rb hne
  have hwab : ∀ i, bt (u.wa big) i = true ∨ bt (u.wa small) i = true → bt (m.wa big) i = true := fun i q => by
    rw [Ewa, up_at, bt_or, Bool.or_eq_true]; exact q
  have hwah : ∀ h, h ≠ big → m.wa h = u.wa h := fun h q => by rw [Ewa, up_ne _ _ q]
  obtain ⟨v1, hv1⟩ : ∃ v1, v1 = xs_j3 (xs_j2 m big small) big small := ⟨_, rfl⟩
  have hr1 : v1.r = m.r := by rw [hv1, j3_r, j2_r]
  rw [← hv1] at hb hsame ⊢
  obtain ⟨d1, d2, d3, d4⟩ := j4_f4 v1 big
  rw [d2] at hb
  obtain ⟨a1, a2, a3, a4, a5, a6⟩ := ext_j23 hRm hSm (Ne.symm hne) hv1 hb
  have hR1 : RootOk v1.r := by rw [hr1]; exact hRm
  obtain ⟨b1, b2⟩ := ext_j4 hR1 big
  have hwk := fun h => j4_rd (u := v1) (a := big) h
  clear hv1
  generalize xs_j4 v1 big = v at d1 d2 d3 d4 b1 b2 hwk hsame ⊢
  have hE : Ext m v := Ext.tr hRm hR1 a1 b1 (fun i q => by rw [d4] at q; exact q)
  have hsu : v.su = u.su := (d4.trans a2).trans Esu
  have hrd : ∀ i, bt v.rd i = true → bt u.rd i = true ∨ bt u.su i = true := fun i q => by
    rw [← Erd, ← Esu]
    rcases b2 i q with q | q
    · exact a3 i q
    · rw [a2] at q; exact Or.inr q
  have hvr : v.r = m.r := d3.trans hr1
  have vrb : v.r big = big := by rw [hvr]; exact mrb
  have vrs : v.r small = big := by rw [hvr]; exact mrs
  have hroot : ∀ h, u.r h = h → h ≠ small → m.r h = h := fun h e q => by
    rw [mr2 h (by rw [e]; exact q)]; exact e
  refine ⟨⟨fun x hx => ?_, fun f a b => ?_, fun h hh e k => ?_, fun h hh e k => ?_, fun h hh e k i b s => ?_, fun i q => hE.2.2.2.2.2.1 i (by rw [Erd]; exact q), hsame⟩, hsu, hrd⟩
  · rw [hvr]
    by_cases c : u.r x = small
    · rw [mr1 x c, c, mrs]
    · rw [mr2 x c, mr2 _ (by rw [(hR x hx).2]; exact c), (hR x hx).2]
  · obtain ⟨c, d⟩ := hE.2.1 f a b
    rw [Ejc, Eja, Ejb] at d
    refine ⟨fun z hz => ?_, d⟩
    have c1 := c z hz
    by_cases q : u.r z = small
    · rw [mr1 z q] at c1
      have c2 := c small hsm
      rw [mrs] at c2
      rw [q, ← c2, c1]
    · rw [mr2 z q] at c1
      exact c1
  · by_cases q : h = small
    · rw [q] at k ⊢
      obtain ⟨k1, k2⟩ := a4 (by rw [Est]; exact k)
      have := b1.2.2.1 big hbg (by rw [hr1]; exact mrb) k1
      rw [vrb] at this
      rw [vrs]
      exact ⟨this.1, (this.2.trans k2).trans (by rw [Enu])⟩
    · have := hE.2.2.1 h hh (hroot h e q) (by rw [Est]; exact k)
      rw [Enu] at this
      exact this
  · by_cases q : h = small
    · rw [q] at k ⊢
      obtain ⟨k1, k2, k3⟩ := a5 (by rw [Est]; exact k)
      rw [Elf] at k2
      rw [Ert] at k3
      have := b1.2.2.2.1 big hbg (by rw [hr1]; exact mrb) k1
      rw [vrb] at this
      rw [vrs]
      exact ⟨this.1, this.2.1.tr (k2.ext b1), this.2.2.tr (k3.ext b1)⟩
    · have := hE.2.2.2.1 h hh (hroot h e q) (by rw [Est]; exact k)
      rw [Elf, Ert] at this
      exact this
  · by_cases q : h = small
    · rw [q] at k b ⊢
      have hj : v1 = m := a6 (by rw [Est]; exact k)
      by_cases c : m.st big = 0
      · have := hE.2.2.2.2.1 big hbg mrb c i (hwab i (Or.inr b)) s
        rw [vrb] at this
        rw [vrs]
        exact this
      · refine Or.inl ?_
        rw [hwk (by rw [hj]; exact c), hj, bt_or, bt_and, hwab i (Or.inr b), Esu, ← hsu, s]
        simp
    · by_cases q2 : h = big
      · rw [q2] at k b ⊢
        exact hE.2.2.2.2.1 big hbg mrb (by rw [Est]; exact k) i (hwab i (Or.inl b)) s
      · exact hE.2.2.2.2.1 h hh (hroot h e q) (by rw [Est]; exact k) i (by rw [hwah h q2]; exact b) s
/-- a couple is taken off the pending ones, and joined -/
theorem ext_pop {j : Nat} {t : XSt} (hj : u.jc = j + 1) (h1 : t.r = u.r) (h2 : t.st = u.st) (h3 : t.nu = u.nu) (h4 : t.lf = u.lf) (h5 : t.rt = u.rt) (h6 : t.wa = u.wa) (h7 : t.rd = u.rd) (h8 : t.jc = j) (h9 : t.ja = u.ja ∧ t.jb = u.jb) (hs : XSame u v) (h : Ext t v) (hq : ∀ f : Nat → Nat, (∀ z, z < 12 → f (v.r z) = f z) → f (u.ja j) = f (u.jb j)) : Ext u v := by
  obtain ⟨k1, k2, k3, k4, k5, k6, -⟩ := h
  rw [h1] at k1 k2 k3 k4 k5
  rw [h2] at k3 k4 k5
  rw [h3] at k3
  rw [h4, h5] at k4
  rw [h6] at k5
  rw [h7] at k6
  rw [h8, h9.1, h9.2] at k2
  refine ⟨k1, fun f a b => ?_, k3, k4, k5, k6, hs⟩
  obtain ⟨c, d⟩ := k2 f a b
  refine ⟨c, fun k hk => ?_⟩
  by_cases e : k = j
  · rw [e]; exact hq f a
  · exact d k (show k < j by omega)
def ncl (u : XSt) : Nat := cntB 12 (fun x => decide (u.r x = x))
def nun (u : XSt) : Nat := cntB 12 (fun x => decide (u.r x = x) && decide (u.st x = 0))
def nsu (u : XSt) : Nat := cntB 64 (fun i => bt u.su i)
def nrd (u : XSt) : Nat := cntB 64 (fun i => bt u.rd i)
def xmu (u : XSt) : Nat := 200 * (ncl u + nun u + nsu u) + (u.jc + nrd u)
theorem xmu_lt (h : ncl v + nun v + nsu v < ncl u + nun u + nsu u) (hj : v.jc ≤ 100) : xmu v < xmu u := by
  have := cntB_le 64 (fun i => bt v.rd i)
  have : nrd v ≤ 64 := this
  unfold xmu
  omega
theorem nun_le (h1 : ∀ x, x < 12 → v.r x = x → u.r x = x) (h2 : ∀ x, v.st x = 0 → u.st x = 0) : nun v ≤ nun u := cnt_le 12 (fun i hi e => by
  simp only [Bool.and_eq_true, decide_eq_true_eq] at e ⊢
  exact ⟨h1 i hi e.1, h2 i e.2⟩)
theorem ncl_eq (h : v.r = u.r) : ncl v = ncl u := by unfold ncl; rw [h]
theorem nun_eq (h : v.r = u.r) (h2 : v.st = u.st) : nun v = nun u := by unfold nun; rw [h, h2]
theorem nsu_eq (h : v.su = u.su) : nsu v = nsu u := by unfold nsu; rw [h]
theorem nrd_eq (h : v.rd = u.rd) : nrd v = nrd u := by unfold nrd; rw [h]
/-- the statements of X's arrays are those of g -/
def XCor (u : XSt) (g : YSt) : Prop := u.sc = g.n ∧ ∀ i, i < g.n → 3 ≤ g.kd i → u.kd i = g.kd i ∧ u.tg i = g.ax i ∧ u.sy i = vN (g.ay i) ∧ u.sz i = (if g.kd i = 5 ∨ g.kd i = 6 then vN (g.ay i) else vN (g.az i))
def XFl (u : XSt) (g : YSt) : Prop := (∀ i, bt u.su i = true → i < g.n ∧ 3 ≤ g.kd i) ∧ (∀ i, bt u.rd i = true → bt u.su i = true) ∧ (∀ i, i < g.n → Comp u g i) ∧ u.jc + 2 * ncl u ≤ 26
def XInv (u : XSt) (g : YSt) : Prop := XSr u ∧ XCor u g ∧ (u.bk = false → XFl u g) ∧ ∀ (r : Nat → Nat) (val : VT), Mod g r val → XSnd u r val
theorem XCor.same (h : XCor u g) (hs : XSame u v) : XCor v g := by
  obtain ⟨h0, h1⟩ := h
  refine ⟨by rw [hs.1]; exact h0, fun i hi hk => ?_⟩
  rw [hs.2.1, hs.2.2.1, hs.2.2.2.1, hs.2.2.2.2]
  exact h1 i hi hk
theorem XSr.of (h : XSr u) (hs : XSame u v) (h2 : v.st = u.st) (h4 : v.lf = u.lf) (h5 : v.rt = u.rt) (h9 : v.ja = u.ja ∧ v.jb = u.jb) : XSr v := by
  unfold XSr
  rw [hs.1, hs.2.1, hs.2.2.1, hs.2.2.2.1, hs.2.2.2.2, h2, h4, h5, h9.1, h9.2]
  exact h
theorem join_cases (hF : RootOk u.r) {x y : Nat} (hx : x < 12) (hy : y < 12) : (u.r x = u.r y ∧ xs_join u x y = u) ∨ (∃ big small, big < 12 ∧ small < 12 ∧ u.r big = big ∧ u.r small = small ∧ big ≠ small ∧ (u.r x = big ∧ u.r y = small ∨ u.r y = big ∧ u.r x = small) ∧ xs_join u x y = xs_join2 u big small) := by
  by_cases c : u.r x = u.r y
  · exact Or.inl ⟨c, if_pos c⟩
  · refine Or.inr ?_
    by_cases d : u.wt (u.r y) ≤ u.wt (u.r x)
    · exact ⟨u.r x, u.r y, (hF x hx).1, (hF y hy).1, (hF x hx).2, (hF y hy).2, c, Or.inl ⟨rfl, rfl⟩, (if_neg c).trans (if_pos d)⟩
    · exact ⟨u.r y, u.r x, (hF y hy).1, (hF x hx).1, (hF y hy).2, (hF x hx).2, Ne.symm c, Or.inr ⟨rfl, rfl⟩, (if_neg c).trans (if_neg d)⟩
theorem XInv.joinStep0 {t : XSt} {j : Nat} (h1 : t.r = u.r) (h2 : t.st = u.st) (h3 : t.nu = u.nu) (h4 : t.lf = u.lf) (h5 : t.rt = u.rt) (h6 : t.wa = u.wa) (h7 : t.rd = u.rd) (h8 : t.jc = j) (h9 : t.ja = u.ja ∧ t.jb = u.jb) (h10 : t.su = u.su) (h11 : t.bk = u.bk) (hs : XSame u t) (hI : XInv u g) {L : Nat → Nat} (hF : Forest L u.r) (hg : YSr g) (hb : u.bk = false) (hj : u.jc = j + 1) : XInv (xs_join t (u.ja j) (u.jb j)) g ∧ ((xs_join t (u.ja j) (u.jb j)).bk = false → xmu (xs_join t (u.ja j) (u.jb j)) < xmu u) := by
  obtain ⟨hS, hC, hFl, hM⟩ := hI
  have hR := hF.ok
  have hS1 : XSr t := hS.of hs h2 h4 h5 h9
  have hF1 : Forest L t.r := by rw [h1]; exact hF
  have hR1 := hF1.ok
  have hsame : XSame u (xs_join t (u.ja j) (u.jb j)) := hs.tr (xsame_join _ _ _)
  have hsnd : ∀ (r : Nat → Nat) (val : VT), Mod g r val → XSnd (xs_join t (u.ja j) (u.jb j)) r val := fun r val q => by
    obtain ⟨k0, k1, k2, k3, k4⟩ := hM r val q
    have k5 : XSnd t r val := by
      unfold XSnd
      rw [h11, h1, h2, h3, h4, h5, h8, h9.1, h9.2]
      exact ⟨k0, k1, k2, k3, fun i hi => k4 i (by omega)⟩
    exact k5.join hS1 hF1 (hS.ja j) (hS.jb j) (k4 j (by omega))
  obtain ⟨f1, f2, f3, f4⟩ := hFl hb
  rcases join_cases hR1 (hS.ja j) (hS.jb j) with ⟨e, ej⟩ | ⟨big, small, hbg, hsm, rb, rs, hne, hxy, ej⟩
  · rw [ej] at hsame hsnd ⊢
    have hE : Ext u t := ext_pop hj h1 h2 h3 h4 h5 h6 h7 h8 h9 hs (Ext.rf hR1) (fun f a => by
      have a1 := a _ (hS.ja j)
      have a2 := a _ (hS.jb j)
      rw [e] at a1
      exact a1.symm.trans a2)
    have n1 := ncl_eq h1
    have n2 := nun_eq h1 h2
    have n3 := nsu_eq h10
    have n4 := nrd_eq h7
    refine ⟨⟨hS1, hC.same hsame, fun _ => ⟨fun i q => f1 i (by rw [← h10]; exact q), fun i q => by rw [h10]; exact f2 i (by rw [← h7]; exact q), fun i hi => (f3 i hi).ext hE hR hS hg (by rw [h10]), by omega⟩, hsnd⟩, fun _ => ?_⟩
    unfold xmu
    omega
  · rw [ej] at hsame hsnd ⊢
    have hS2 : XSr (xs_join2 t big small) := hS1.join2 big small
    have hr2 := join2_r t big small
    have hjc := join2_jc t big small
    have hst2 : ∀ x, (xs_join2 t big small).st x = 0 → u.st x = 0 := fun x q => by
      have := join2_st q
      rw [h2] at this
      exact this
    have hx2 := fun hb2 => ext_join2 hR1 hS1 hbg hsm rb rs hne hb2
    rw [h1] at rb rs hxy hr2
    generalize xs_join2 t big small = v at *
    have k0 : ∀ x, v.r x = if u.r x = small then big else u.r x := fun x => by rw [hr2]
    have k1 : ∀ x, x < 12 → v.r x = x → u.r x = x := fun x hx q => by
      rw [k0] at q
      by_cases c : u.r x = small
      · rw [if_pos c] at q
        rw [← q, rb] at c
        exact absurd c hne
      · rw [if_neg c] at q
        exact q
    have n1 : ncl v < ncl u := cnt_lt 12 small (fun i hi q => decide_eq_true (k1 i hi (of_decide_eq_true q))) hsm (decide_eq_true rs) (by
      apply decide_eq_false
      rw [k0, if_pos rs]
      exact hne)
    have n2 : nun v ≤ nun u := nun_le k1 hst2
    refine ⟨⟨hS2, hC.same hsame, fun hb2 => ?_, hsnd⟩, fun hb2 => ?_⟩
    · obtain ⟨g1, g2, g3⟩ := hx2 hb2
      rw [h10] at g2
      have hE : Ext u v := ext_pop hj h1 h2 h3 h4 h5 h6 h7 h8 h9 hsame g1 (fun f a => by
        have a1 := a _ (hS.ja j)
        have a2 := a _ (hS.jb j)
        rw [k0] at a1 a2
        rcases hxy with ⟨p, q⟩ | ⟨p, q⟩
        · rw [p, if_neg hne] at a1
          rw [if_pos q] at a2
          exact a1.symm.trans a2
        · rw [p, if_neg hne] at a2
          rw [if_pos q] at a1
          exact a1.symm.trans a2)
      refine ⟨fun i q => f1 i (by rw [← g2]; exact q), fun i q => ?_, fun i hi => (f3 i hi).ext hE hR hS hg (by rw [g2]), by omega⟩
      rw [g2]
      rcases g3 i q with z | z
      · exact f2 i (by rw [← h7]; exact z)
      · rw [h10] at z; exact z
    · obtain ⟨g1, g2, g3⟩ := hx2 hb2
      have := nsu_eq (g2.trans h10)
      exact xmu_lt (by omega) (by omega)
theorem XInv.joinStep (hI : XInv u g) {L : Nat → Nat} (hF : Forest L u.r) (hg : YSr g) (hb : u.bk = false) {j : Nat} (hj : u.jc = j + 1) : XInv (xs_join (u.s_jc j) (u.ja j) (u.jb j)) g ∧ ((xs_join (u.s_jc j) (u.ja j) (u.jb j)).bk = false → xmu (xs_join (u.s_jc j) (u.ja j) (u.jb j)) < xmu u) :=
  XInv.joinStep0 (e_jc_r u j) (e_jc_st u j) (e_jc_nu u j) (e_jc_lf u j) (e_jc_rt u j) (e_jc_wa u j) (e_jc_rd u j) (e_jc_jc u j) ⟨e_jc_ja u j, e_jc_jb u j⟩ (e_jc_su u j) (e_jc_bk u j) (xsame_jc u j) hI hF hg hb hj
end
end
section
/-! X's steps: a statement is looked at -/
section
variable {u v : XSt} {g : YSt}
theorem satX_of (hC : XCor u g) {k : Nat} (hk : k < g.n) (h3 : 3 ≤ g.kd k) (h8 : g.kd k < 8) {r : Nat → Nat} {val : VT} (hM : Mod g r val) : SatX r val u k := by
  obtain ⟨e1, e2, e3, e4⟩ := hC.2 k hk h3
  have hs := hM k hk
  unfold SatX
  rw [e1, e2, e3, e4]
  refine ⟨fun c a b q => hs.2.2.2.2 c a b q, fun c p q h1 h2 => ?_⟩
  rw [if_neg c] at h2
  exact hs.2.2.2.1 (by omega) p q h1 h2
theorem ext_park (hR : RootOk u.r) (k s : Nat) : Ext u (xs_park u k s) := by
  have E := park_e u k s
  have hs := xsame_park u k s
  generalize xs_park u k s = v at E hs ⊢
  obtain ⟨-, -, -, -, -, Esu, -, Est, Enu, Elf, Ert, Ewa, Ejc, Eja, Ejb, Erd, Ebk, Er⟩ := E
  refine ⟨fun x hx => by rw [Er]; exact (hR x hx).2, fun f a b => ⟨by rw [Er] at a; exact a, by rw [Ejc, Eja, Ejb] at b; exact b⟩, fun h _ e q => ?_, fun h _ e q => ?_, fun h _ e q i b s => Or.inr ?_, fun i q => by rw [Erd]; exact q, hs⟩
  · rw [Est, Enu, Er, e]; exact ⟨q, rfl⟩
  · rw [Est, Elf, Ert, Er, e]; exact ⟨q, EqI.rf _ _, EqI.rf _ _⟩
  · rw [Est, Ewa, Er, e]
    refine ⟨q, ?_⟩
    by_cases c : h = k
    · rw [c, up_at, bt_or, ← c, b]; rfl
    · rw [up_ne _ _ c]; exact b
theorem ext_su (hR : RootOk u.r) (b : Int64) : Ext u (u.s_su b) := by
  have E := e_su u b
  have hs := xsame_su u b
  generalize u.s_su b = v at E hs ⊢
  obtain ⟨-, -, -, -, -, Esu, -, Est, Enu, Elf, Ert, Ewa, Ejc, Eja, Ejb, Erd, Ebk, Er⟩ := E
  refine ⟨fun x hx => by rw [Er]; exact (hR x hx).2, fun f a b => ⟨by rw [Er] at a; exact a, by rw [Ejc, Eja, Ejb] at b; exact b⟩, fun h _ e q => ?_, fun h _ e q => ?_, fun h _ e q i b s => Or.inr ?_, fun i q => by rw [Erd]; exact q, hs⟩
  · rw [Est, Enu, Er, e]; exact ⟨q, rfl⟩
  · rw [Est, Elf, Ert, Er, e]; exact ⟨q, EqI.rf _ _, EqI.rf _ _⟩
  · rw [Est, Ewa, Er, e]; exact ⟨q, b⟩
theorem Comp.cong {u v : XSt} {g g' : YSt} {i : Nat} (h1 : v.r = u.r) (h2 : v.st = u.st) (h3 : v.nu = u.nu) (h4 : v.lf = u.lf) (h5 : v.rt = u.rt) (h6 : v.wa = u.wa) (h7 : v.jc = u.jc) (h8 : v.ja = u.ja) (h9 : v.jb = u.jb) (k1 : v.kd i = u.kd i) (k2 : v.tg i = u.tg i) (k3 : v.sy i = u.sy i) (k4 : v.sz i = u.sz i) (k5 : bt v.su i = bt u.su i) (k6 : bt v.rd i = bt u.rd i) (g1 : g'.kd i = g.kd i) (g2 : g'.ax i = g.ax i) (g3 : g'.ay i = g.ay i) (g4 : g'.az i = g.az i) (h : Comp u g i) : Comp v g' i := by
  unfold Comp Fired Parked Stuck EqI at h ⊢
  rw [h1, h2, h3, h4, h5, h6, h7, h8, h9, k1, k2, k3, k4, k5, k6, g1, g2, g3, g4]
  exact h
theorem park_f (u : XSt) (k s : Nat) : (xs_park u k s).su = u.su ∧ (xs_park u k s).rd = u.rd ∧ (xs_park u k s).jc = u.jc ∧ (xs_park u k s).r = u.r ∧ (xs_park u k s).st = u.st ∧ (xs_park u k s).wa = va_up u.wa k (u.wa k ||| xs_bit s) ∧ XSame u (xs_park u k s) := by
  have E := park_e u k s
  have hs := xsame_park u k s
  generalize xs_park u k s = v at E hs ⊢
  obtain ⟨-, -, -, -, -, Esu, -, Est, Enu, Elf, Ert, Ewa, Ejc, Eja, Ejb, Erd, Ebk, Er⟩ := E
  exact ⟨Esu, Erd, Ejc, Er, Est, Ewa, hs⟩
/-- t: u with bit k of 'ready' taken off -/
theorem XInv.tryStep0 {t : XSt} {k : Nat} (h1 : t.r = u.r) (h2 : t.st = u.st) (h3 : t.nu = u.nu) (h4 : t.lf = u.lf) (h5 : t.rt = u.rt) (h6 : t.wa = u.wa) (h7 : t.rd = u.rd &&& (xs_bit k ^^^ (-1))) (h8 : t.jc = u.jc) (h9 : t.ja = u.ja ∧ t.jb = u.jb) (h10 : t.su = u.su) (h11 : t.bk = u.bk) (hs : XSame u t) (hI : XInv u g) {L : Nat → Nat} (hF : Forest L u.r) (hg : YSr g) (hb : u.bk = false) (hj : u.jc = 0) (hk : bt u.rd k = true) : XInv (xs_try t k) g ∧ ((xs_try t k).bk = false → xmu (xs_try t k) < xmu u) := by
  obtain ⟨hS, hC, hFl, hM⟩ := hI
  obtain ⟨f1, f2, f3, f4⟩ := hFl hb
  have hks := f2 k hk
  obtain ⟨hkn, hk3⟩ := f1 k hks
  have hk64 : k < 64 := by have := hg.1; omega
  have hk8 := hg.2.2.2.2.1 k
  have hncl : ncl u ≤ 12 := cntB_le 12 _
  have hS1 : XSr t := hS.of hs h2 h4 h5 h9
  have hF1 : Forest L t.r := by rw [h1]; exact hF
  have hR1 := hF1.ok
  have hC1 := hC.same hs
  have hrd1 : ∀ i, bt t.rd i = (bt u.rd i && !(decide (i = k))) := fun i => by rw [h7]; exact bt_clr u.rd hk64 i
  have hcomp1 : ∀ i, i < g.n → i ≠ k → Comp t g i := fun i hi hik => Comp.cong h1 h2 h3 h4 h5 h6 h8 h9.1 h9.2 (by rw [hs.2.1]) (by rw [hs.2.2.1]) (by rw [hs.2.2.2.1]) (by rw [hs.2.2.2.2]) (by rw [h10]) (by rw [hrd1]; simp [hik]) rfl rfl rfl rfl (f3 i hi)
  have hrd2 : ∀ i, bt t.rd i = true → bt u.rd i = true ∧ i ≠ k := fun i q => by
    rw [hrd1] at q
    simpa using q
  have hnrd : nrd t < nrd u := cnt_lt 64 k (fun i _ q => (hrd2 i q).1) hk64 hk (by rw [hrd1]; simp)
  have hM1 : ∀ (r : Nat → Nat) (val : VT), Mod g r val → XSnd t r val := fun r val q => by
    unfold XSnd
    rw [h11, h1, h2, h3, h4, h5, h8, h9.1, h9.2]
    exact hM r val q
  have n1 := ncl_eq h1
  have n2 := nun_eq h1 h2
  have n3 := nsu_eq h10
  have hsnd : ∀ (r : Nat → Nat) (val : VT), Mod g r val → XSnd (xs_try t k) r val := fun r val q => (hM1 r val q).tryS hS1 hF1 (satX_of hC1 hkn hk3 hk8 q)
  have hsame := xsame_try t k
  have hsut : bt t.su k = true := by rw [h10]; exact hks
  -- a statement that is parked or stuck stays suspended
  have same : ∀ v : XSt, Ext t v → v.su = t.su → v.rd = t.rd → v.jc = t.jc → v.r = t.r → v.st = t.st → (Parked v k ∨ Stuck v k) → XSr v → (∀ (r : Nat → Nat) (val : VT), Mod g r val → XSnd v r val) → XInv v g ∧ (v.bk = false → xmu v < xmu u) := by
    intro v hE hsu hrd hjc hr hst hps hSv hsn
    have m1 := ncl_eq hr
    have m2 := nun_eq hr hst
    have m3 := nsu_eq hsu
    have m4 := nrd_eq hrd
    refine ⟨⟨hSv, hC1.same hE.2.2.2.2.2.2, fun _ => ⟨fun i q => ?_, fun i q => ?_, fun i hi => ?_, by omega⟩, hsn⟩, fun _ => ?_⟩
    · rw [hsu, h10] at q; exact f1 i q
    · rw [hrd] at q
      rw [hsu, h10]; exact f2 i (hrd2 i q).1
    · by_cases c : i = k
      · rw [c]
        refine ⟨fun z => by omega, fun z => by omega, fun z => by omega, fun _ => ⟨fun z => ?_, fun _ => Or.inr hps⟩⟩
        rw [hsu, hsut] at z
        exact absurd z (by decide)
      · exact (hcomp1 i hi c).ext hE hR1 hS1 hg (by rw [hsu])
    · unfold xmu
      omega
  by_cases c1 : t.st (t.r (t.sy k)) = 0
  · have et : xs_try t k = xs_park t (t.r (t.sy k)) k := if_pos c1
    have hS2 : XSr (xs_park t (t.r (t.sy k)) k) := hS1.park _ _
    rw [et] at hsnd ⊢
    obtain ⟨p1, p2, p3, p4, p5, p6, p7⟩ := park_f t (t.r (t.sy k)) k
    have hE := ext_park hR1 (t.r (t.sy k)) k
    generalize xs_park t (t.r (t.sy k)) k = v at *
    refine same v hE p1 p2 p3 p4 p5 (Or.inl (Or.inl ?_)) hS2 hsnd
    rw [p4, p5, p6, p7.2.2.2.1, up_at, bt_or, bt_bit hk64]
    exact ⟨c1, by simp⟩
  by_cases c2 : t.st (t.r (t.sz k)) = 0
  · have et : xs_try t k = xs_park t (t.r (t.sz k)) k := (if_neg c1).trans (if_pos c2)
    have hS2 : XSr (xs_park t (t.r (t.sz k)) k) := hS1.park _ _
    rw [et] at hsnd ⊢
    obtain ⟨p1, p2, p3, p4, p5, p6, p7⟩ := park_f t (t.r (t.sz k)) k
    have hE := ext_park hR1 (t.r (t.sz k)) k
    generalize xs_park t (t.r (t.sz k)) k = v at *
    refine same v hE p1 p2 p3 p4 p5 (Or.inl (Or.inr ?_)) hS2 hsnd
    rw [p4, p5, p6, p7.2.2.2.2, up_at, bt_or, bt_bit hk64]
    exact ⟨c2, by simp⟩
  by_cases c3 : t.st (t.r (t.sy k)) ≠ xs_wanted (t.kd k) ∨ t.st (t.r (t.sz k)) ≠ xs_wanted (t.kd k)
  · have et : xs_try t k = t := (if_neg c1).trans ((if_neg c2).trans (if_pos c3))
    rw [et] at hsnd ⊢
    exact same t (Ext.rf hR1) rfl rfl rfl rfl rfl (Or.inr ⟨c1, c2, c3⟩) hS1 hsnd
  -- it fires
  have et : xs_try t k = xs_fire (t.s_su (t.su &&& (xs_bit k ^^^ (-1)))) k := (if_neg c1).trans ((if_neg c2).trans (if_neg c3))
  have w1 : t.st (t.r (t.sy k)) = xs_wanted (t.kd k) := Classical.byContradiction (fun z => c3 (Or.inl z))
  have w2 : t.st (t.r (t.sz k)) = xs_wanted (t.kd k) := Classical.byContradiction (fun z => c3 (Or.inr z))
  rw [et] at hsnd hsame ⊢
  have E2 := e_su t (t.su &&& (xs_bit k ^^^ (-1)))
  have hE1 : Ext t (t.s_su (t.su &&& (xs_bit k ^^^ (-1)))) := ext_su hR1 _
  have hs2 : XSame t (t.s_su (t.su &&& (xs_bit k ^^^ (-1)))) := xsame_su t _
  generalize t.s_su (t.su &&& (xs_bit k ^^^ (-1))) = t2 at hsnd hsame E2 hE1 hs2 ⊢
  obtain ⟨-, Ekd, Etg, Esy, Esz, Esu2, -, Est, Enu, Elf, Ert, Ewa, Ejc, Eja, Ejb, Erd, Ebk, Er⟩ := E2
  have hS2 : XSr t2 := hS1.of hs2 Est Elf Ert ⟨Eja, Ejb⟩
  have hR2 : RootOk t2.r := by rw [Er]; exact hR1
  have hsu2 : ∀ i, bt t2.su i = (bt t.su i && !(decide (i = k))) := fun i => by rw [Esu2]; exact bt_clr t.su hk64 i
  have hnsu : nsu t2 < nsu t := cnt_lt 64 k (fun i _ q => by rw [hsu2] at q; simp at q; exact q.1) hk64 hsut (by rw [hsu2]; simp)
  have v1 : t2.st (t2.r (t2.sy k)) = xs_wanted (t2.kd k) := by rw [Est, Er, Esy, Ekd]; exact w1
  have v2 : t2.st (t2.r (t2.sz k)) = xs_wanted (t2.kd k) := by rw [Est, Er, Esz, Ekd]; exact w2
  have hS3 : XSr (xs_fire t2 k) := hS2.fire k
  have m0 := nun_eq Er Est
  have key : ∀ v : XSt, Ext t2 v → v.su = t2.su → (∀ i, bt v.rd i = true → bt t2.rd i = true ∨ bt t2.su i = true) → v.jc ≤ 1 → v.r = t2.r → Fired v k → XFl v g := by
    intro v hE hsu hrd hjc hr hfi
    have hEt : Ext t v := Ext.tr hR1 hR2 hE1 hE (fun i q => by rw [hsu] at q; exact q)
    have m1 := ncl_eq (hr.trans Er)
    refine ⟨fun i q => ?_, fun i q => ?_, fun i hi => ?_, by omega⟩
    · rw [hsu, hsu2] at q
      simp at q
      exact f1 i (by rw [← h10]; exact q.1)
    · rw [hsu]
      rcases hrd i q with z | z
      · rw [Erd] at z
        obtain ⟨z1, z2⟩ := hrd2 i z
        rw [hsu2, h10, f2 i z1]
        simp [z2]
      · exact z
    · by_cases c : i = k
      · rw [c]
        refine ⟨fun z => by omega, fun z => by omega, fun z => by omega, fun _ => ⟨fun _ => hfi, fun z => ?_⟩⟩
        rw [hsu, hsu2] at z
        simp at z
      · exact (hcomp1 i hi c).ext hEt hR1 hS1 hg (by rw [hsu, hsu2]; simp [c])
  have mu : ∀ v : XSt, v.su = t2.su → v.jc ≤ 1 → v.r = t2.r → (∀ x, v.st x = 0 → t2.st x = 0) → xmu v < xmu u := by
    intro v hsu hjc hr hst
    have m1 := ncl_eq (hr.trans Er)
    have m2 : nun v ≤ nun t2 := nun_le (fun x _ q => by rw [hr] at q; exact q) hst
    have m3 := nsu_eq hsu
    exact xmu_lt (by omega) (by omega)
  have hC2 := hC1.same hsame
  clear hsame
  by_cases c5 : t2.kd k = 5 ∨ t2.kd k = 6
  · have ef : xs_fire t2 k = xs_want t2 (t2.tg k) (if t2.kd k = 5 then t2.lf (t2.r (t2.sy k)) else t2.rt (t2.r (t2.sy k))) := if_pos c5
    have hE := ext_want hR2 (t2.tg k) (if t2.kd k = 5 then t2.lf (t2.r (t2.sy k)) else t2.rt (t2.r (t2.sy k)))
    have E := want_e t2 (t2.tg k) (if t2.kd k = 5 then t2.lf (t2.r (t2.sy k)) else t2.rt (t2.r (t2.sy k)))
    rw [ef] at hsnd hS3 hC2 ⊢
    generalize xs_want t2 (t2.tg k) (if t2.kd k = 5 then t2.lf (t2.r (t2.sy k)) else t2.rt (t2.r (t2.sy k))) = v at *
    obtain ⟨-, Gkd, Gtg, Gsy, Gsz, Gsu, -, Gst, Gnu, Glf, Grt, Gwa, Gjc, Gja, Gjb, Grd, Gbk, Gr⟩ := E
    have hjc : v.jc ≤ 1 := by omega
    refine ⟨⟨hS3, hC2, fun _ => key v hE Gsu (fun i q => Or.inl (by rw [← Grd]; exact q)) hjc Gr ?_, hsnd⟩, fun _ => mu v Gsu hjc Gr (fun x q => by rw [Gst] at q; exact q)⟩
    unfold Fired
    rw [Gkd, Gtg, Gsy, Gsz, Gst, Gnu, Glf, Grt, Gr]
    refine ⟨v1, v2, fun _ f a b => ?_, fun z => absurd c5 z⟩
    have := b t2.jc (by omega)
    rw [Gja, Gjb, up_at, up_at] at this
    exact this
  · have ef : xs_fire t2 k = xs_bindN t2 (t2.r (t2.tg k)) (xs_comp (t2.kd k) (t2.nu (t2.r (t2.sy k))) (t2.nu (t2.r (t2.sz k)))) := if_neg c5
    have hw : xs_wanted (t2.kd k) = 1 := if_neg c5
    have hx := fun hb2 => ext_bindN (u := t2) (k := t2.r (t2.tg k)) hR2 hS2 (xs_comp (t2.kd k) (t2.nu (t2.r (t2.sy k))) (t2.nu (t2.r (t2.sz k)))) hb2
    have hst := fun x => bindN_st (u := t2) (k := t2.r (t2.tg k)) (x := x) (n := xs_comp (t2.kd k) (t2.nu (t2.r (t2.sy k))) (t2.nu (t2.r (t2.sz k))))
    have hr2 := bindN_r t2 (t2.r (t2.tg k)) (xs_comp (t2.kd k) (t2.nu (t2.r (t2.sy k))) (t2.nu (t2.r (t2.sz k))))
    have hjc2 := bindN_jc t2 (t2.r (t2.tg k)) (xs_comp (t2.kd k) (t2.nu (t2.r (t2.sy k))) (t2.nu (t2.r (t2.sz k))))
    rw [ef] at hsnd hS3 hC2 ⊢
    generalize xs_bindN t2 (t2.r (t2.tg k)) (xs_comp (t2.kd k) (t2.nu (t2.r (t2.sy k))) (t2.nu (t2.r (t2.sz k)))) = v at *
    have hjc : v.jc ≤ 1 := by omega
    refine ⟨⟨hS3, hC2, fun hb2 => ?_, hsnd⟩, fun hb2 => ?_⟩
    · obtain ⟨a1, a2, a3, a4, a5⟩ := hx hb2
      refine key v a1 a4 a5 hjc hr2 ?_
      have y1 := a1.n1 hR2 (hS2.sy k) (v1.trans hw)
      have z1 := a1.n1 hR2 (hS2.sz k) (v2.trans hw)
      have s2 := a1.2.2.2.2.2.2.2
      unfold Fired
      rw [s2.1, s2.2.1, s2.2.2.1, s2.2.2.2, hw]
      refine ⟨y1.1, z1.1, fun z => absurd z c5, fun _ => ?_⟩
      rw [y1.2, z1.2, hr2]
      exact ⟨a2, a3⟩
    · obtain ⟨a1, a2, a3, a4, a5⟩ := hx hb2
      exact mu v a4 hjc hr2 (fun x q => hst x q)
theorem XInv.tryStep (hI : XInv u g) {L : Nat → Nat} (hF : Forest L u.r) (hg : YSr g) (hb : u.bk = false) (hj : u.jc = 0) {k : Nat} (hk : bt u.rd k = true) : XInv (xs_try (u.s_rd (u.rd &&& (xs_bit k ^^^ (-1)))) k) g ∧ ((xs_try (u.s_rd (u.rd &&& (xs_bit k ^^^ (-1)))) k).bk = false → xmu (xs_try (u.s_rd (u.rd &&& (xs_bit k ^^^ (-1)))) k) < xmu u) :=
  XInv.tryStep0 (e_rd_r u _) (e_rd_st u _) (e_rd_nu u _) (e_rd_lf u _) (e_rd_rt u _) (e_rd_wa u _) (e_rd_rd u _) (e_rd_jc u _) ⟨e_rd_ja u _, e_rd_jb u _⟩ (e_rd_su u _) (e_rd_bk u _) (xsame_rd u _) hI hF hg hb hj hk
end
end
section
/-! X at rest, a telling, and the two held against each other -/
def XRest (u : XSt) (g : YSt) : Prop := XInv u g ∧ (u.bk = false → u.jc = 0 ∧ u.rd = 0)
def xs_add (u : XSt) (k x : Nat) : XSt := ((u.s_sc (u.sc + 1)).s_kd (va_up u.kd u.sc k)).s_tg (va_up u.tg u.sc x)
def xs_add2 (u : XSt) (k x y z : Nat) : XSt := ((((xs_add u k x).s_sy (va_up u.sy u.sc y)).s_sz (va_up u.sz u.sc z)).s_su (u.su ||| xs_bit u.sc)).s_rd (u.rd ||| xs_bit u.sc)
def xs_tell (u : XSt) (k x : Nat) (y z : Int32) : XSt :=
  if k = 1 then xs_bindN (xs_add u k x) (u.r x) y
  else if k = 0 then xs_want (xs_add u k x) x (vN y)
  else if k = 2 then xs_bindC (xs_add u k x) (u.r x) (vN y) (vN z)
  else xs_add2 u k x (vN y) (if k = 5 ∨ k = 6 then vN y else vN z)
theorem add_e (u : XSt) (k x : Nat) : (xs_add u k x).sc = u.sc + 1 ∧ (xs_add u k x).kd = va_up u.kd u.sc k ∧ (xs_add u k x).tg = va_up u.tg u.sc x ∧ (xs_add u k x).sy = u.sy ∧ (xs_add u k x).sz = u.sz ∧ (xs_add u k x).su = u.su ∧ (xs_add u k x).wt = u.wt ∧ (xs_add u k x).st = u.st ∧ (xs_add u k x).nu = u.nu ∧ (xs_add u k x).lf = u.lf ∧ (xs_add u k x).rt = u.rt ∧ (xs_add u k x).wa = u.wa ∧ (xs_add u k x).jc = u.jc ∧ (xs_add u k x).ja = u.ja ∧ (xs_add u k x).jb = u.jb ∧ (xs_add u k x).rd = u.rd ∧ (xs_add u k x).bk = u.bk ∧ (xs_add u k x).r = u.r := by
  unfold xs_add
  simp only [e_sc, e_kd, e_tg]
  simp only [and_self]
theorem add2_e (u : XSt) (k x y z : Nat) : (xs_add2 u k x y z).sc = u.sc + 1 ∧ (xs_add2 u k x y z).kd = va_up u.kd u.sc k ∧ (xs_add2 u k x y z).tg = va_up u.tg u.sc x ∧ (xs_add2 u k x y z).sy = va_up u.sy u.sc y ∧ (xs_add2 u k x y z).sz = va_up u.sz u.sc z ∧ (xs_add2 u k x y z).su = u.su ||| xs_bit u.sc ∧ (xs_add2 u k x y z).wt = u.wt ∧ (xs_add2 u k x y z).st = u.st ∧ (xs_add2 u k x y z).nu = u.nu ∧ (xs_add2 u k x y z).lf = u.lf ∧ (xs_add2 u k x y z).rt = u.rt ∧ (xs_add2 u k x y z).wa = u.wa ∧ (xs_add2 u k x y z).jc = u.jc ∧ (xs_add2 u k x y z).ja = u.ja ∧ (xs_add2 u k x y z).jb = u.jb ∧ (xs_add2 u k x y z).rd = u.rd ||| xs_bit u.sc ∧ (xs_add2 u k x y z).bk = u.bk ∧ (xs_add2 u k x y z).r = u.r := by
  unfold xs_add2
  simp only [e_sy, e_sz, e_su, e_rd, add_e]
  simp only [and_self]
theorem XInv.ysame {u : XSt} {g g' : YSt} (hs : YSame g g') (h : XInv u g) : XInv u g' := by
  obtain ⟨e1, e2, e3, e4, e5⟩ := hs
  obtain ⟨h1, h2, h3, h4⟩ := h
  refine ⟨h1, ?_, fun hb => ?_, fun r val q => h4 r val ((Mod.same ⟨e1, e2, e3, e4, e5⟩).mp q)⟩
  · unfold XCor at h2 ⊢
    rw [e1, e2, e3, e4, e5]; exact h2
  · obtain ⟨f1, f2, f3, f4⟩ := h3 hb
    refine ⟨by rw [e1, e2]; exact f1, f2, fun i hi => ?_, f4⟩
    rw [e1] at hi
    exact Comp.cong (u := u) (v := u) rfl rfl rfl rfl rfl rfl rfl rfl rfl rfl rfl rfl rfl rfl rfl (by rw [e2]) (by rw [e3]) (by rw [e4]) (by rw [e5]) (f3 i hi)
theorem XRest.ysame {u : XSt} {g g' : YSt} (hs : YSame g g') (h : XRest u g) : XRest u g' := ⟨h.1.ysame hs, h.2⟩
theorem XSr.add {u : XSt} (h : XSr u) (hn : u.sc < 40) {k x : Nat} (hk : k < 8) (hx : x < 12) : XSr (xs_add u k x) := by
  have E := add_e u k x
  generalize xs_add u k x = v at E ⊢
  obtain ⟨Esc, Ekd, Etg, Esy, Esz, Esu, -, Est, Enu, Elf, Ert, Ewa, Ejc, Eja, Ejb, Erd, Ebk, Er⟩ := E
  obtain ⟨h0, h1, h2, h3, h4, h5, h6, h7, h8, h9⟩ := h
  unfold XSr
  rw [Esc, Ekd, Etg, Esy, Esz, Est, Elf, Ert, Eja, Ejb]
  exact ⟨by omega, h1, h2, h3, h4, h5, up_lt h6 hk, up_lt h7 hx, h8, h9⟩
theorem XSr.add2 {u : XSt} (h : XSr u) (hn : u.sc < 40) {k x y z : Nat} (hk : k < 8) (hx : x < 12) (hy : y < 12) (hz : z < 12) : XSr (xs_add2 u k x y z) := by
  have E := add2_e u k x y z
  generalize xs_add2 u k x y z = v at E ⊢
  obtain ⟨Esc, Ekd, Etg, Esy, Esz, Esu, -, Est, Enu, Elf, Ert, Ewa, Ejc, Eja, Ejb, Erd, Ebk, Er⟩ := E
  obtain ⟨h0, h1, h2, h3, h4, h5, h6, h7, h8, h9⟩ := h
  unfold XSr
  rw [Esc, Ekd, Etg, Esy, Esz, Est, Elf, Ert, Eja, Ejb]
  exact ⟨by omega, h1, h2, h3, h4, h5, up_lt h6 hk, up_lt h7 hx, up_lt h8 hy, up_lt h9 hz⟩
/-- what a telling adds to the statements -/
def YAdd (g g' : YSt) (k x : Nat) (y z : Int32) : Prop := g'.n = g.n + 1 ∧ g'.kd = va_up g.kd g.n k ∧ g'.ax = va_up g.ax g.n x ∧ g'.ay = va_up g.ay g.n y ∧ g'.az = va_up g.az g.n z
theorem yadd (g : YSt) (k x : Nat) (y z : Int32) : YAdd g (ys_add g k x y z) k x y z := ⟨rfl, rfl, rfl, rfl, rfl⟩
theorem mod_add {g g' : YSt} {k x : Nat} {y z : Int32} (hA : YAdd g g' k x y z) {r : Nat → Nat} {val : VT} (h : Mod g' r val) : Mod g r val ∧ Sat r val k x y (vN y) (vN z) := by
  obtain ⟨e0, e1, e2, e3, e4⟩ := hA
  unfold Mod at h
  rw [e0, e1, e2, e3, e4] at h
  refine ⟨fun i hi => ?_, ?_⟩
  · have h1 := h i (by omega)
    have ne : i ≠ g.n := by omega
    rw [up_ne _ _ ne, up_ne _ _ ne, up_ne _ _ ne, up_ne _ _ ne] at h1
    exact h1
  · have h1 := h g.n (by omega)
    rw [up_at, up_at, up_at, up_at] at h1
    exact h1
/-- after a telling, ahead of the work -/
theorem XInv.tell0 {u : XSt} {g g' : YSt} (hI : XRest u g) {L : Nat → Nat} (hF : Forest L u.r) (hg : YSr g) (hb : u.bk = false) (hn : g.n ≠ 40) {k x : Nat} {y z : Int32} (hA : YAdd g g' k x y z) (hk : k < 8) (hx : x < 12) (hy : k ≠ 1 → vN y < 12) (hz : k = 2 ∨ k = 3 ∨ k = 4 ∨ k = 7 → vN z < 12) (hg' : YSr g') : XInv (xs_tell u k x y z) g' ∧ (xs_tell u k x y z).r = u.r := by
  obtain ⟨⟨hS, hC, hFl, hM⟩, hrest⟩ := hI
  obtain ⟨hj, hr0⟩ := hrest hb
  have hR := hF.ok
  obtain ⟨f1, f2, f3, f4⟩ := hFl hb
  have hsc : u.sc = g.n := hC.1
  have hn40 : g.n < 40 := by have := hg.1; omega
  have hncl : ncl u ≤ 12 := cntB_le 12 _
  have hmod := fun {r : Nat → Nat} {val : VT} (q : Mod g' r val) => mod_add hA q
  obtain ⟨gn, gkd, gax, gay, gaz⟩ := hA
  have gk : g'.kd g.n = k := by rw [gkd, up_at]
  have gx : g'.ax g.n = x := by rw [gax, up_at]
  have gy : g'.ay g.n = y := by rw [gay, up_at]
  have gz : g'.az g.n = z := by rw [gaz, up_at]
  have gko : ∀ i, i < g.n → g'.kd i = g.kd i := fun i hi => by rw [gkd, up_ne _ _ (by omega)]
  -- the old statements
  have old : ∀ v : XSt, v.r = u.r → v.st = u.st → v.nu = u.nu → v.lf = u.lf → v.rt = u.rt → v.wa = u.wa → v.jc = u.jc → v.ja = u.ja → v.jb = u.jb → (∀ i, i ≠ g.n → v.kd i = u.kd i ∧ v.tg i = u.tg i ∧ v.sy i = u.sy i ∧ v.sz i = u.sz i ∧ bt v.su i = bt u.su i ∧ bt v.rd i = bt u.rd i) → ∀ i, i < g.n → Comp v g' i := by
    intro v h1 h2 h3 h4 h5 h6 h7 h8 h9 hh i hi
    have ne : i ≠ g.n := by omega
    obtain ⟨k1, k2, k3, k4, k5, k6⟩ := hh i ne
    exact Comp.cong h1 h2 h3 h4 h5 h6 h7 h8 h9 k1 k2 k3 k4 k5 k6 (by rw [gkd, up_ne _ _ ne]) (by rw [gax, up_ne _ _ ne]) (by rw [gay, up_ne _ _ ne]) (by rw [gaz, up_ne _ _ ne]) (f3 i hi)
  by_cases c3 : k < 3
  · -- kinds 0, 1, 2: nothing is suspended
    have hS1 : XSr (xs_add u k x) := hS.add (by omega) hk hx
    have E := add_e u k x
    have et : xs_tell u k x y z = if k = 1 then xs_bindN (xs_add u k x) (u.r x) y else if k = 0 then xs_want (xs_add u k x) x (vN y) else xs_bindC (xs_add u k x) (u.r x) (vN y) (vN z) := by
      unfold xs_tell
      by_cases c1 : k = 1
      · rw [if_pos c1, if_pos c1]
      · by_cases c0 : k = 0
        · rw [if_neg c1, if_neg c1, if_pos c0, if_pos c0]
        · rw [if_neg c1, if_neg c1, if_neg c0, if_neg c0, if_pos (by omega)]
    rw [et]
    generalize xs_add u k x = t at hS1 E ⊢
    obtain ⟨Esc, Ekd, Etg, Esy, Esz, Esu, -, Est, Enu, Elf, Ert, Ewa, Ejc, Eja, Ejb, Erd, Ebk, Er⟩ := E
    have old1 := old t Er Est Enu Elf Ert Ewa Ejc Eja Ejb (fun i ne => ⟨by rw [Ekd, up_ne _ _ (by omega)], by rw [Etg, up_ne _ _ (by omega)], by rw [Esy], by rw [Esz], by rw [Esu], by rw [Erd]⟩)
    have snd1 : ∀ (r : Nat → Nat) (val : VT), Mod g' r val → XSnd t r val := fun r val q => by
      unfold XSnd
      rw [Ebk, Er, Est, Enu, Elf, Ert, Ejc, Eja, Ejb]
      exact hM r val (hmod q).1
    have hR1 : RootOk t.r := by rw [Er]; exact hR
    have low : ∀ v : XSt, Ext t v → v.su = t.su → (∀ i, bt v.rd i = true → bt t.rd i = true ∨ bt t.su i = true) → v.jc ≤ 2 → v.r = t.r → Comp v g' g.n → XFl v g' := by
      intro v hE hsu hrd hjc hr hc
      have n1 := ncl_eq (hr.trans Er)
      refine ⟨fun i q => ?_, fun i q => ?_, fun i hi => ?_, by omega⟩
      · rw [hsu, Esu] at q
        obtain ⟨q1, q2⟩ := f1 i q
        rw [gko i q1]
        exact ⟨by omega, q2⟩
      · rw [hsu]
        rcases hrd i q with q | q
        · rw [Erd] at q
          rw [Esu]
          exact f2 i q
        · exact q
      · by_cases c : i = g.n
        · rw [c]; exact hc
        · exact (old1 i (by omega)).ext hE hR1 hS1 hg' (by rw [hsu])
    have cort : XCor t g' := by
      refine ⟨by omega, fun i hi h3 => ?_⟩
      by_cases c : i = g.n
      · rw [c, gk] at h3; omega
      · have hi : i < g.n := by omega
        rw [gko i hi] at h3
        rw [gko i hi, gax, gay, gaz, up_ne _ _ c, up_ne _ _ c, up_ne _ _ c, Ekd, Etg, Esy, Esz, up_ne _ _ (by omega), up_ne _ _ (by omega)]
        exact hC.2 i hi h3
    by_cases c1 : k = 1
    · rw [if_pos c1]
      have hs := xsame_bindN t (u.r x) y
      refine ⟨⟨hS1.bindN _ _, cort.same hs, fun hb2 => ?_, fun r val q => ?_⟩, (bindN_r _ _ _).trans Er⟩
      · obtain ⟨a1, a2, a3, a4, a5⟩ := ext_bindN (u := t) hR1 hS1 _ hb2
        refine low _ a1 a4 a5 (by rw [bindN_jc]; omega) (bindN_r _ _ _) ⟨fun q => by omega, fun _ => ?_, fun q => by omega, fun q => by omega⟩
        rw [bindN_r, gx, gy, Er]
        exact ⟨a2, a3⟩
      · have hsat := (hmod q).2
        have h1 := snd1 r val q
        have h2 := h1.2.1 x hx
        rw [Er] at h2
        exact h1.bindN hS1 (hF.lt hx) (by rw [h2]; exact hsat.2.1 c1)
    rw [if_neg c1]
    by_cases c0 : k = 0
    · rw [if_pos c0]
      have hs := xsame_want t x (vN y)
      have hSw := hS1.want hx (hy c1)
      have hEw := ext_want hR1 x (vN y)
      have hsw : ∀ (r : Nat → Nat) (val : VT), Mod g' r val → XSnd (xs_want t x (vN y)) r val := fun r val q => (snd1 r val q).want ((hmod q).2.1 c0)
      have W := want_e t x (vN y)
      generalize xs_want t x (vN y) = v at hs hSw hEw hsw W ⊢
      obtain ⟨-, Gkd, Gtg, Gsy, Gsz, Gsu, -, Gst, Gnu, Glf, Grt, Gwa, Gjc, Gja, Gjb, Grd, Gbk, Gr⟩ := W
      refine ⟨⟨hSw, cort.same hs, fun hb2 => ?_, hsw⟩, Gr.trans Er⟩
      refine low _ hEw Gsu (fun i q => Or.inl (by rw [← Grd]; exact q)) (by omega) Gr ⟨fun _ f a b => ?_, fun q => by omega, fun q => by omega, fun q => by omega⟩
      rw [gx, gy]
      have := b t.jc (by omega)
      rw [Gja, Gjb, up_at, up_at] at this
      exact this
    · rw [if_neg c0]
      have c2 : k = 2 := by omega
      have hs := xsame_bindC t (u.r x) (vN y) (vN z)
      have hy := hy c1
      have hz := hz (Or.inl c2)
      refine ⟨⟨hS1.bindC _ hy hz, cort.same hs, fun hb2 => ?_, fun r val q => ?_⟩, (bindC_r _ _ _ _).trans Er⟩
      · obtain ⟨a1, a2, a3, a4, a5, a6, a7⟩ := ext_bindC (u := t) hR1 (vN y) (vN z) hb2
        refine low _ a1 a5 a6 (by omega) (bindC_r _ _ _ _) ⟨fun q => by omega, fun q => by omega, fun _ => ?_, fun q => by omega⟩
        rw [bindC_r, gx, gy, gz, Er]
        exact ⟨a2, a3, a4⟩
      · obtain ⟨a, b, s1, s2, s3⟩ := (hmod q).2.2.2.1 c2
        have h1 := snd1 r val q
        have h2 := h1.2.1 x hx
        rw [Er] at h2
        exact h1.bindC hS1 (hF.lt hx) (by rw [h2]; exact s1) s2 s3
  · have et : xs_tell u k x y z = xs_add2 u k x (vN y) (if k = 5 ∨ k = 6 then vN y else vN z) := (if_neg (by omega)).trans ((if_neg (by omega)).trans (if_neg (by omega)))
    rw [et]
    have hy := hy (by omega)
    have hzz : (if k = 5 ∨ k = 6 then vN y else vN z) < 12 := by
      split
      · exact hy
      · exact hz (by omega)
    have hS1 : XSr (xs_add2 u k x (vN y) (if k = 5 ∨ k = 6 then vN y else vN z)) := hS.add2 (by omega) hk hx hy hzz
    have E := add2_e u k x (vN y) (if k = 5 ∨ k = 6 then vN y else vN z)
    generalize xs_add2 u k x (vN y) (if k = 5 ∨ k = 6 then vN y else vN z) = t at hS1 E ⊢
    obtain ⟨Esc, Ekd, Etg, Esy, Esz, Esu, -, Est, Enu, Elf, Ert, Ewa, Ejc, Eja, Ejb, Erd, Ebk, Er⟩ := E
    have hsu : ∀ i, bt t.su i = (bt u.su i || decide (i = g.n)) := fun i => by rw [Esu, bt_or, bt_bit (show u.sc < 64 by omega), hsc]
    have hrd : ∀ i, bt t.rd i = (bt u.rd i || decide (i = g.n)) := fun i => by rw [Erd, bt_or, bt_bit (show u.sc < 64 by omega), hsc]
    have n1 := ncl_eq Er
    rw [hsc] at Ekd Etg Esy Esz
    refine ⟨⟨hS1, ⟨by omega, fun i hi h3 => ?_⟩, fun _ => ⟨fun i q => ?_, fun i q => ?_, fun i hi => ?_, by omega⟩, fun r val q => ?_⟩, Er⟩
    · by_cases c : i = g.n
      · rw [c, gk, gx, gy, gz, Ekd, Etg, Esy, Esz, up_at, up_at, up_at, up_at]
        exact ⟨rfl, rfl, rfl, rfl⟩
      · have hi : i < g.n := by omega
        rw [gko i hi] at h3
        rw [gko i hi, gax, gay, gaz, up_ne _ _ c, up_ne _ _ c, up_ne _ _ c, Ekd, Etg, Esy, Esz, up_ne _ _ c, up_ne _ _ c, up_ne _ _ c, up_ne _ _ c]
        exact hC.2 i hi h3
    · rw [hsu] at q
      by_cases c : i = g.n
      · rw [c, gk]
        exact ⟨by omega, by omega⟩
      · simp [c] at q
        obtain ⟨q1, q2⟩ := f1 i q
        rw [gko i q1]
        exact ⟨by omega, q2⟩
    · rw [hrd] at q
      rw [hsu]
      by_cases c : i = g.n
      · simp [c]
      · simp [c] at q
        rw [f2 i q]; rfl
    · by_cases c : i = g.n
      · rw [c]
        refine ⟨fun q => by omega, fun q => by omega, fun q => by omega, fun _ => ⟨fun q => ?_, fun _ => Or.inl ?_⟩⟩
        · rw [hsu] at q
          simp at q
        · rw [hrd]; simp
      · exact old t Er Est Enu Elf Ert Ewa Ejc Eja Ejb (fun j ne => ⟨by rw [Ekd, up_ne _ _ ne], by rw [Etg, up_ne _ _ ne], by rw [Esy, up_ne _ _ ne], by rw [Esz, up_ne _ _ ne], by rw [hsu]; simp [ne], by rw [hrd]; simp [ne]⟩) i (by omega)
    · unfold XSnd
      rw [Ebk, Er, Est, Enu, Elf, Ert, Ejc, Eja, Ejb]
      exact hM r val (hmod q).1
theorem XInv.tell {u : XSt} {g : YSt} (hI : XRest u g) {L : Nat → Nat} (hF : Forest L u.r) (hg : YSr g) (hb : u.bk = false) (hn : g.n ≠ 40) {k x : Nat} {y z : Int32} (hk : k < 8) (hx : x < 12) (hy : k ≠ 1 → vN y < 12) (hz : k = 2 ∨ k = 3 ∨ k = 4 ∨ k = 7 → vN z < 12) (hg' : YSr (ys_add g k x y z)) : XInv (xs_tell u k x y z) (ys_add g k x y z) ∧ (xs_tell u k x y z).r = u.r := XInv.tell0 hI hF hg hb hn (yadd g k x y z) hk hx hy hz hg'
/-! X at rest is itself an interpretation that holds all statements -/
def valX (u : XSt) : VT := fun h => if u.st h = 1 then some (.inl (u.nu h)) else if u.st h = 2 then some (.inr (u.lf h, u.rt h)) else none
theorem valX_1 {u : XSt} {h : Nat} (e : u.st h = 1) : valX u h = some (.inl (u.nu h)) := if_pos e
theorem valX_2 {u : XSt} {h : Nat} (e : u.st h = 2) : valX u h = some (.inr (u.lf h, u.rt h)) := (if_neg (by rw [e]; decide)).trans (if_pos e)
theorem valX_1I {u : XSt} {h : Nat} {v : Int32} (e : valX u h = some (.inl v)) : u.st h = 1 ∧ u.nu h = v := by
  unfold valX at e
  split at e
  · rename_i c
    injection e with e; injection e with e
    exact ⟨c, e⟩
  · split at e
    · cases e
    · cases e
theorem valX_2I {u : XSt} {h a b : Nat} (e : valX u h = some (.inr (a, b))) : u.st h = 2 ∧ u.lf h = a ∧ u.rt h = b := by
  unfold valX at e
  split at e
  · cases e
  · split at e
    · rename_i d
      injection e with e; injection e with e; injection e with h1 h2
      exact ⟨d, h1, h2⟩
    · cases e
/-- at rest a statement of kind 3 to 7 is suspended just if its sources are not both what it wants -/
theorem rest_su {u : XSt} {g : YSt} (hI : XRest u g) (hb : u.bk = false) {i : Nat} (hi : i < g.n) (h3 : 3 ≤ g.kd i) : (bt u.su i = false → Fired u i) ∧ (bt u.su i = true → ¬ (u.st (u.r (u.sy i)) = xs_wanted (u.kd i) ∧ u.st (u.r (u.sz i)) = xs_wanted (u.kd i))) := by
  have hc := ((hI.1.2.2.1 hb).2.2.1 i hi).2.2.2 h3
  refine ⟨hc.1, fun q z => ?_⟩
  rcases hc.2 q with c | c | c
  · rw [(hI.2 hb).2, bt_0] at c
    exact absurd c (by decide)
  · rcases wanted_12 (u.kd i) with w | w <;> rw [w] at z <;> rcases c with c | c <;> omega
  · exact c.2.2.elim (fun k => k z.1) (fun k => k z.2)
theorem XRest.mod {u : XSt} {g : YSt} (hI : XRest u g) {L : Nat → Nat} (hF : Forest L u.r) (hg : YSr g) (hb : u.bk = false) : Mod g u.r (valX u) := by
  intro i hi
  have hR := hF.ok
  have hj := (hI.2 hb).1
  obtain ⟨c0, c1, c2, -⟩ := (hI.1.2.2.1 hb).2.2.1 i hi
  refine ⟨fun q => (c0 q).rest hR hj, fun q => ?_, fun q => ?_, fun q p p2 h1 h2 => ?_, fun q a b h1 => ?_⟩
  · obtain ⟨d1, d2⟩ := c1 q
    rw [valX_1 d1, d2]
  · obtain ⟨d1, d2, d3⟩ := c2 q
    exact ⟨_, _, valX_2 d1, d2.rest hR hj, d3.rest hR hj⟩
  · obtain ⟨e1, e2, e3, e4⟩ := hI.1.2.1.2 i hi (by omega)
    obtain ⟨s1, s2⟩ := rest_su hI hb hi (by omega)
    have hn : ¬ (g.kd i = 5 ∨ g.kd i = 6) := by omega
    rw [if_neg hn] at e4
    obtain ⟨y1, y2⟩ := valX_1I h1
    obtain ⟨z1, z2⟩ := valX_1I h2
    have hw : xs_wanted (u.kd i) = 1 := by rw [e1]; exact if_neg hn
    have hsu : bt u.su i = false := bnot_t (fun z => s2 z (by rw [hw, e3, e4]; exact ⟨y1, z1⟩))
    obtain ⟨-, -, -, t4⟩ := s1 hsu
    have t4 := t4 (by rw [e1]; exact hn)
    rw [e1, e2, e3, e4, y2, z2] at t4
    rw [valX_1 t4.1, t4.2]
  · obtain ⟨e1, e2, e3, e4⟩ := hI.1.2.1.2 i hi (by omega)
    obtain ⟨s1, s2⟩ := rest_su hI hb hi (by omega)
    rw [if_pos q] at e4
    obtain ⟨y1, y2, y3⟩ := valX_2I h1
    have hw : xs_wanted (u.kd i) = 2 := by rw [e1]; exact if_pos q
    have hsu : bt u.su i = false := bnot_t (fun z => s2 z (by rw [hw, e3, e4]; exact ⟨y1, y1⟩))
    obtain ⟨-, -, t3, -⟩ := s1 hsu
    have t3 := (t3 (by rw [e1]; exact q)).rest hR hj
    rw [e1, e2, e3, y2, y3] at t3
    exact t3
end
section
/-! the two at rest answer alike -/
def Agree (L : Nat → Nat) (u : XSt) (w : YSt) : Prop := Forest L u.r ∧ XRest u w ∧ YOk w
section
variable {L : Nat → Nat} {u : XSt} {w : YSt}
theorem Agree.bk (h : Agree L u w) : u.bk = w.bk := by
  obtain ⟨hF, hX, hY⟩ := h
  by_cases c : u.bk = false
  · rw [c]; exact (hY.2.2 _ _ (hX.mod hF hY.1 c)).1.symm
  · have c : u.bk = true := bnot_f c
    by_cases d : w.bk = false
    · have := (hX.1.2.2.2 _ _ (hY.2.1 d).2.2).1
      rw [this] at c
      exact absurd c (by decide)
    · rw [c, bnot_f d]
theorem Agree.ys (h : Agree L u w) (hb : w.bk = false) : YSnd w u.r (valX u) := h.2.2.2.2 _ _ (h.2.1.mod h.1 h.2.2.1 (h.bk.trans hb))
theorem Agree.xs (h : Agree L u w) (hb : w.bk = false) : XSnd u w.le (valY w) := h.2.1.1.2.2.2 _ _ (h.2.2.2.1 hb).2.2
theorem Agree.eq (h : Agree L u w) (hb : w.bk = false) {x y : Nat} (hx : x < 12) (hy : y < 12) : u.r x = u.r y ↔ w.le x = w.le y := by
  have h1 := (h.ys hb).2.1
  have h2 := (h.xs hb).2.1
  constructor
  · intro e
    rw [← h2 x hx, e, h2 y hy]
  · intro e
    rw [← h1 x hx, e, h1 y hy]
theorem Agree.st1 (h : Agree L u w) (hb : w.bk = false) {x : Nat} (hx : x < 12) (e : u.st (u.r x) = 1) : w.ii (w.le x) = true ∧ w.iv (w.le x) = u.nu (u.r x) := by
  have := (h.xs hb).2.2.1 (u.r x) (h.1.lt hx) e
  rw [(h.xs hb).2.1 x hx] at this
  exact valY_iI this
theorem Agree.st2 (h : Agree L u w) (hb : w.bk = false) {x : Nat} (hx : x < 12) (e : u.st (u.r x) = 2) : w.ii (w.le x) = false ∧ w.ip (w.le x) = true ∧ w.le (w.pa (w.le x)) = w.le (u.lf (u.r x)) ∧ w.le (w.pb (w.le x)) = w.le (u.rt (u.r x)) := by
  obtain ⟨a, b, k1, k2, k3⟩ := (h.xs hb).2.2.2.1 (u.r x) (h.1.lt hx) e
  rw [(h.xs hb).2.1 x hx] at k1
  obtain ⟨j1, j2, j3, j4⟩ := valY_pI k1
  rw [← j3] at k2
  rw [← j4] at k3
  exact ⟨j1, j2, k2, k3⟩
theorem Agree.ii (h : Agree L u w) (hb : w.bk = false) {x : Nat} (hx : x < 12) (e : w.ii (w.le x) = true) : u.st (u.r x) = 1 := by
  have := (h.ys hb).2.2.1 (w.le x) (h.2.2.1.le x) e
  rw [(h.ys hb).2.1 x hx] at this
  exact (valX_1I this).1
theorem Agree.ip (h : Agree L u w) (hb : w.bk = false) {x : Nat} (hx : x < 12) (e : w.ip (w.le x) = true) : u.st (u.r x) = 2 := by
  obtain ⟨a, b, k, -⟩ := (h.ys hb).2.2.2 (w.le x) (h.2.2.1.le x) e
  rw [(h.ys hb).2.1 x hx] at k
  exact (valX_2I k).1
theorem Agree.state (h : Agree L u w) (x : Int32) : xq_state u x = yq_state w x := by
  unfold xq_state yq_state
  rw [h.bk]
  split
  · rfl
  · rename_i hb
    have hb := bnot_t hb
    split
    · rename_i hv
      have hx := (isV_eq hv).2
      have h2 := h.2.1.1.1.2.1 (u.r (vN x))
      by_cases c1 : u.st (u.r (vN x)) = 1
      · rw [(h.st1 hb hx c1).1, c1]; rfl
      · have i0 : w.ii (w.le (vN x)) = false := bnot_t (fun z => c1 (h.ii hb hx z))
        by_cases c2 : u.st (u.r (vN x)) = 2
        · rw [i0, (h.st2 hb hx c2).2.1, c2]; rfl
        · have p0 : w.ip (w.le (vN x)) = false := bnot_t (fun z => c2 (h.ip hb hx z))
          have c0 : u.st (u.r (vN x)) = 0 := by omega
          rw [i0, p0, c0]; rfl
    · rfl
theorem Agree.value (h : Agree L u w) (x : Int32) : xq_value u x = yq_value w x := by
  unfold xq_value yq_value
  rw [h.bk]
  by_cases hb : w.bk = false
  · by_cases hv : isV x = true
    · have hx := (isV_eq hv).2
      by_cases c1 : u.st (u.r (vN x)) = 1
      · rw [if_pos ⟨hv, hb, c1⟩, if_pos ⟨hb, hv, (h.st1 hb hx c1).1⟩, (h.st1 hb hx c1).2]
      · rw [if_neg (fun z => c1 z.2.2), if_neg (fun z => c1 (h.ii hb hx z.2.2))]
    · rw [if_neg (fun z => hv z.1), if_neg (fun z => hv z.2.1)]
  · rw [if_neg (fun z => hb z.2.1), if_neg (fun z => hb z.1)]
theorem Agree.linked (h : Agree L u w) (x y : Int32) : xq_linked u x y = yq_linked w x y := by
  unfold xq_linked yq_linked
  rw [h.bk]
  cases hb : w.bk with
  | true => simp
  | false =>
    cases hx : isV x with
    | false => simp
    | true =>
      cases hy : isV y with
      | false => simp
      | true =>
        have := h.eq hb (isV_eq hx).2 (isV_eq hy).2
        simp [this]
theorem Agree.least (h : Agree L u w) (hb : w.bk = false) {v G : Nat} (hv : v < 12) (hG : G < 12) (h1 : u.r v = u.r G) (h2 : ∀ j, j < v → u.r j ≠ u.r G) : v = w.le G := by
  have hc := (h.2.2.2.1 hb).1
  have e := (h.eq hb hv hG).mp h1
  have hle : w.le G ≤ v := by rw [← e]; exact (hc v hv).2
  rcases Nat.lt_or_ge (w.le G) v with q | q
  · exact absurd ((h.ys hb).2.1 G hG) (h2 _ q)
  · omega
theorem Agree.part (h : Agree L u w) {x pl r : Int32} (hr : xq_part u x pl r) : r = yq_part w x pl := by
  have hu : xq_partOk u x pl ↔ (w.bk = false ∧ isV x = true ∧ w.ip (w.le (vN x)) = true ∧ ¬ pl < 0 ∧ pl ≤ 1) := by
    unfold xq_partOk
    rw [h.bk]
    constructor
    · intro z
      exact ⟨z.2.1, z.1, (h.st2 z.2.1 (isV_eq z.1).2 z.2.2.2.2).2.1, z.2.2.1, z.2.2.2.1⟩
    · intro z
      exact ⟨z.2.1, z.1, z.2.2.2.1, z.2.2.2.2, h.ip z.1 (isV_eq z.2.1).2 z.2.2.1⟩
  unfold yq_part
  by_cases c : xq_partOk u x pl
  · have c' := hu.mp c
    rw [if_pos c']
    obtain ⟨v, hv, e, h1, h2⟩ := hr.2 c
    have hx := (isV_eq c.1).2
    have hS := h.2.1.1.1
    have hG : xq_partG u x pl < 12 := by
      unfold xq_partG
      split
      · exact hS.lf _
      · exact hS.rt _
    have hl := h.least c'.1 hv hG h1 h2
    obtain ⟨-, -, k1, k2⟩ := h.st2 c'.1 hx c.2.2.2.2
    rw [e, hl]
    unfold xq_partG
    by_cases z : pl = 0
    · rw [if_pos z, if_pos z, k1]
    · rw [if_neg z, if_neg z, k2]
  · rw [if_neg (fun z => c (hu.mpr z))]
    exact hr.1 c
theorem Agree.waiting (h : Agree L u w) : xq_waiting u = yq_waiting w := by
  unfold xq_waiting yq_waiting
  rw [h.bk]
  split
  · rfl
  · rename_i hb
    have hb := bnot_t hb
    have hbu : u.bk = false := h.bk.trans hb
    obtain ⟨hF, hX, hY⟩ := id h
    have hS := hY.1
    rw [hX.1.2.1.1]
    congr 1
    refine cnt_eq _ (fun i hi => ?_)
    by_cases h3 : w.kd i < 3
    · have e1 : ys_ready w i = true := if_pos h3
      have e2 : bt u.su i = false := bnot_t (fun z => by have := ((hX.1.2.2.1 hbu).1 i z).2; omega)
      rw [e1, e2]; rfl
    · obtain ⟨s1, s2⟩ := rest_su hX hbu hi (by omega)
      obtain ⟨e1, e2, e3, e4⟩ := hX.1.2.1.2 i hi (by omega)
      have hay := (hS.ay hi (by omega)).2
      have key : ys_ready w i = true ↔ (u.st (u.r (u.sy i)) = xs_wanted (u.kd i) ∧ u.st (u.r (u.sz i)) = xs_wanted (u.kd i)) := by
        rw [e1, e3, e4]
        unfold ys_ready xs_wanted
        rw [if_neg h3]
        by_cases c : w.kd i = 5 ∨ w.kd i = 6
        · rw [if_pos c, if_pos c, if_pos c]
          constructor
          · intro z
            have := h.ip hb hay z
            exact ⟨this, this⟩
          · intro z
            exact (h.st2 hb hay z.1).2.1
        · have haz := (hS.az hi (by have := hS.2.2.2.2.1 i; omega)).2
          rw [if_neg c, if_neg c, if_neg c, Bool.and_eq_true]
          constructor
          · intro z
            exact ⟨h.ii hb hay z.1, h.ii hb haz z.2⟩
          · intro z
            exact ⟨(h.st1 hb hay z.1).1, (h.st1 hb haz z.2).1⟩
      cases q : bt u.su i with
      | true =>
        have : ys_ready w i = false := bnot_t (fun z => s2 q (key.mp z))
        rw [this]; rfl
      | false =>
        have f := s1 q
        rw [key.mpr ⟨f.1, f.2.1⟩]; rfl
theorem cnt_rem {m k : Nat} (hk : k < m) {Q : Nat → Bool} (hQ : Q k = true) : cntB m Q = cntB m (fun i => Q i && !(decide (i = k))) + 1 := by
  induction m with
  | zero => omega
  | succ m ih =>
    show cntB m Q + (if Q m then 1 else 0) = cntB m (fun i => Q i && !(decide (i = k))) + (if Q m && !(decide (m = k)) then 1 else 0) + 1
    by_cases c : m = k
    · subst c
      have : cntB m (fun i => Q i && !(decide (i = m))) = cntB m Q := cnt_eq m (fun i hi => by simp [Nat.ne_of_lt hi])
      rw [this, hQ]
      simp
    · rw [ih (by omega)]
      cases Q m <;> simp [c]
theorem cnt_inj {m : Nat} : ∀ (n : Nat) (P Q : Nat → Bool) (f : Nat → Nat), (∀ i, i < n → P i = true → f i < m ∧ Q (f i) = true) → (∀ i j, i < n → j < n → P i = true → P j = true → f i = f j → i = j) → cntB n P ≤ cntB m Q
  | 0, _, _, _, _, _ => Nat.zero_le _
  | n + 1, P, Q, f, h1, h2 => by
    show cntB n P + (if P n then 1 else 0) ≤ cntB m Q
    cases c : P n with
    | false =>
      have := cnt_inj n P Q f (fun i hi => h1 i (by omega)) (fun i j hi hj => h2 i j (by omega) (by omega))
      simpa using this
    | true =>
      obtain ⟨a, b⟩ := h1 n (by omega) c
      have e := cnt_rem a b
      have := cnt_inj n P (fun i => Q i && !(decide (i = f n))) f (fun i hi q => by
        obtain ⟨a1, a2⟩ := h1 i (by omega) q
        refine ⟨a1, ?_⟩
        have hne : f i ≠ f n := fun z => by have := h2 i n (by omega) (by omega) q c z; omega
        simp [a2, hne]) (fun i j hi hj => h2 i j (by omega) (by omega))
      rw [e]
      simp
      exact this
theorem Agree.classes (h : Agree L u w) : xq_classes u = yq_classes w := by
  unfold xq_classes yq_classes
  rw [h.bk]
  split
  · rfl
  · rename_i hb
    have hb := bnot_t hb
    have hR := h.1.ok
    have hC := (h.2.2.2.1 hb).1
    have hle := h.2.2.1.le
    congr 1
    refine Nat.le_antisymm (cnt_inj 12 _ _ w.le (fun i hi q => ?_) (fun i j hi hj p q e => ?_)) (cnt_inj 12 _ _ u.r (fun i hi q => ?_) (fun i j hi hj p q e => ?_))
    · exact ⟨hle i, decide_eq_true (hC i hi).1⟩
    · have e := (h.eq hb hi hj).mpr e
      rw [of_decide_eq_true p, of_decide_eq_true q] at e
      exact e
    · exact ⟨(hR i hi).1, decide_eq_true (hR i hi).2⟩
    · have e := (h.eq hb hi hj).mp e
      rw [of_decide_eq_true p, of_decide_eq_true q] at e
      exact e
end
/-- after a telling -/
def xg_tell (u : XSt) (g : YSt) (k x y z : Int32) : YSt := if u.bk = true then g else if g.n = 40 then g else if yf k x y z = true then ys_add g (vN k) (vN x) y z else g
def xr_tell (u u' : XSt) (g : YSt) (k x y z : Int32) : Int32 := if u.bk = true then -3 else if g.n = 40 then -2 else if yf k x y z = true then (if u'.bk = true then -3 else nI (g.n + 1)) else -1
theorem same_follow (w : YSt) : YSame w (ys_follow w) := YSame.tr (b := (ys_init w 12).s_fr true) ⟨rfl, rfl, rfl, rfl, rfl⟩ (same_rounds _ 40)
theorem agree_tell {L L' : Nat → Nat} {u u' : XSt} {w : YSt} {k x y z : Int32} (h : Agree L u w) (hF : Forest L' u'.r) (hR : XRest u' (xg_tell u w k x y z)) : Agree L' u' (ys_tell w k x y z) ∧ xr_tell u u' w k x y z = yr_tell w k x y z := by
  have hbk := h.bk
  unfold xg_tell at hR
  unfold xr_tell yr_tell
  by_cases c1 : w.bk = true
  · have e : ys_tell w k x y z = w := if_pos c1
    rw [e, hbk, if_pos c1, if_pos c1]
    rw [hbk, if_pos c1] at hR
    exact ⟨⟨hF, hR, h.2.2⟩, rfl⟩
  · rw [hbk, if_neg c1] at hR
    rw [hbk, if_neg c1, if_neg c1]
    by_cases c2 : w.n = 40
    · have e : ys_tell w k x y z = w := (if_neg c1).trans (if_pos c2)
      rw [e, if_pos c2, if_pos c2]
      rw [if_pos c2] at hR
      exact ⟨⟨hF, hR, h.2.2⟩, rfl⟩
    · rw [if_neg c2] at hR
      rw [if_neg c2, if_neg c2]
      by_cases c3 : yf k x y z = true
      · have e : ys_tell w k x y z = ys_follow (ys_add w (vN k) (vN x) y z) := (if_neg c1).trans ((if_neg c2).trans (if_pos c3))
        rw [if_pos c3] at hR
        rw [if_pos c3, if_pos c3, e]
        obtain ⟨k1, k2, k3, k4⟩ := yf_of c3
        have hS : YSr (ys_add w (vN k) (vN x) y z) := h.2.2.1.add c2 k1.2 k2.2 k3 k4
        have hs := same_follow (ys_add w (vN k) (vN x) y z)
        have hA : Agree L' u' (ys_follow (ys_add w (vN k) (vN x) y z)) := ⟨hF, hR.ysame hs, YOk.follow hS (bnot_t c1)⟩
        refine ⟨hA, ?_⟩
        rw [hA.bk, hs.1]
        rfl
      · have e : ys_tell w k x y z = w := (if_neg c1).trans ((if_neg c2).trans (if_neg c3))
        rw [if_neg c3] at hR
        rw [if_neg c3, if_neg c3, e]
        exact ⟨⟨hF, hR, h.2.2⟩, rfl⟩
theorem agree_init {L : Nat → Nat} {u : XSt} {w : YSt} (hF : Forest L u.r) (h : XInit u) (hY : YOk w) (hn : w.n = 0) (hb : w.bk = false) : Agree L u w := by
  obtain ⟨h1, h2, h3, h4, h5, h6, h7, h8⟩ := h
  have hncl : ncl u ≤ 12 := cntB_le 12 _
  refine ⟨hF, ⟨⟨h8, ⟨by rw [h1, hn], fun i hi => by omega⟩, fun _ => ⟨fun i q => ?_, fun i q => ?_, fun i hi => by omega, by omega⟩, fun r val _ => ⟨h3, fun x hx => by rw [h7], fun h hh e => ?_, fun h hh e => ?_, fun j hj => by omega⟩⟩, fun _ => ⟨h5, h4⟩⟩, hY⟩
  · rw [h2, bt_0] at q; exact absurd q (by decide)
  · rw [h4, bt_0] at q; exact absurd q (by decide)
  · rw [(h6 h hh).1] at e; exact absurd e (by decide)
  · rw [(h6 h hh).1] at e; exact absurd e (by decide)
theorem follow_n0 {w : YSt} (hn : w.n = 0) (hb : w.bk = false) : (ys_follow w).n = 0 ∧ (ys_follow w).bk = false := by
  refine ⟨(same_follow w).1.trans hn, ?_⟩
  have h : ∀ k, (ys_rounds ((ys_init w 12).s_fr true) k).bk = false ∧ (ys_rounds ((ys_init w 12).s_fr true) k).n = 0 := by
    intro k
    induction k with
    | zero => exact ⟨hb, hn⟩
    | succ k ih =>
      have e : ys_rounds ((ys_init w 12).s_fr true) (k + 1) = ys_go (ys_rounds ((ys_init w 12).s_fr true) k) := rfl
      rw [e]
      unfold ys_go
      split
      · rw [ih.2]
        exact ih
      · exact ih
  exact (h 40).1
theorem agree_clear {L L' : Nat → Nat} {u u' : XSt} {w : YSt} (h : Agree L u w) (hF : Forest L' u'.r) (hI : XInit u') : Agree L' u' (ys_clear w) ∧ nI u.sc = nI w.n := by
  have hY : YOk (ys_clear w) := YOk.follow h.2.2.1.cleared rfl
  obtain ⟨e1, e2⟩ := follow_n0 (w := (w.s_n 0).s_bk false) rfl rfl
  exact ⟨agree_init hF hI hY e1 e2, by rw [h.2.1.1.2.1.1]⟩
end
section
set_option maxRecDepth 100000
section
variable {p : Program} {l : Launch} {e : Env} {R : Room} {s : State} {m : MethodId} {args : Array Value} {below : List Frame} {meth : Method} {c : Code} {H : Heap} {locs : List Loc} {cells slots : Nat} {Q : State → Prop} {cc : ByteArray} {pc : Nat} {ls : Array Slot} {rest : List Value}
theorem n_if_gt (hx : p.tables.exec = Jvm.exec) (hb : c.code = cc) {a : Nat} {off : Int} {tgt : Nat} (ha : a < 2 ^ 31) (hdg : decode cc pc = .ok (.ifCond .gt off, 3)) (ht : (pc : Int) + off = (tgt : Int)) (kt : ¬ a = 0 → W p l e R s m args below meth c H locs cells slots Q (F0 m tgt ls rest)) (kf : a = 0 → W p l e R s m args below meth c H locs cells slots Q (F0 m (pc + 3) ls rest)) : W p l e R s m args below meth c H locs cells slots Q (F0 m pc ls (.int (nI a) :: rest)) :=
  lv_if_gt hx hb hdg ht (fun q => kt (fun z => by rw [z] at q; exact absurd q (by decide))) (fun q => kf (Classical.byContradiction (fun z => q (by rw [← nI_0]; exact nI_lt (by omega) ha))))
end
theorem lcmp_0 {x : Int64} (h : lg_cmp x 0 = 0) : x = 0 := by
  unfold lg_cmp at h
  split at h
  · exact absurd h (by decide)
  · split at h
    · assumption
    · exact absurd h (by decide)
theorem lcmp_n0 {x : Int64} (h : ¬ lg_cmp x 0 = 0) : x ≠ 0 := fun z => h (by rw [z]; decide)
theorem low_bit {u : XSt} {g : YSt} (hf : XFl u g) (hg : YSr g) {k : Nat} (h1 : k ≤ 39) (h2 : k < 39 → bt u.rd k = true) (h3 : ∀ j, j < k → bt u.rd j = false) (h0 : u.rd ≠ 0) : bt u.rd k = true := by
  obtain ⟨i, hi, hb⟩ := bt_ne0 h0
  have hin := (hf.1 i (hf.2.1 i hb)).1
  have := hg.1
  by_cases c : k < 39
  · exact h2 c
  · have hk : k = 39 := by omega
    rcases Nat.lt_or_ge i k with q | q
    · rw [h3 i q] at hb; exact absurd hb (by decide)
    · have : i = k := by omega
      rw [← this]; exact hb
def xmb (u : XSt) : Nat := if u.bk = true then 0 else xmu u + 1
theorem xmb_lt {u v : XSt} (hb : u.bk = false) (h : v.bk = false → xmu v < xmu u) : xmb v < xmb u := by
  have e : xmb u = xmu u + 1 := if_neg (by rw [hb]; decide)
  rw [e]
  unfold xmb
  split
  · omega
  · rename_i c
    have := h (bnot_t c)
    omega
set_option maxHeartbeats 4000000 in
set_option maxRecDepth 100000 in
/-- work() -/
theorem mX_work (l : Launch) (D : va_G) (h : Nat → Nat) (dA : Nat → ClassId) (L : Nat → Nat) (u : XSt) (g : YSt) (hg : YSr g) (hI : XInv u g) (hF : Forest L u.r) : Met l yX0_work (ws_ yX0_work cX0_work 2 none) (rmN 3) (XPc D h dA L u []) (XQv D h dA (fun L' u' => Forest L' u'.r ∧ XRest u' g)) 0 0 (AX h) := by
  refine x_met rfl (Nat.le_of_ble_eq_true rfl) ?_
  intro p e s m below meth c ls C hr hlocks hW hl
  have hx := C.1
  have hb := C.2.1
  have hl : lv_has ls 2 [(0, .ref (h 0))] := hl
  have loop : ∀ (n : Nat) (u : XSt) (L : Nat → Nat) (H : Heap) (locs : List Loc) (ls : Array Slot), xmb u < n → XInv u g → Forest L u.r → XW D h dA L u s.heap H locs → lv_has ls 2 [(0, .ref (h 0))] → W p l e (rmN 3) s m (.ref (h 0) :: []).toArray below meth c H locs 0 0 (MQ below (XQv D h dA (fun L' u' => Forest L' u'.r ∧ XRest u' g)) (.ref (h 0) :: []).toArray s 0 0 (AX h)) (F0 m 0 ls []) := by
    intro n
    induction n with
    | zero => intro u L H locs ls hn; exact absurd hn (Nat.not_lt_zero _)
    | succ n ih =>
      intro u L H locs ls hn hI hF hW hl
      have hF0 := hF
      have hS := hI.1
      refine lv_aload_n hx hb dX0_work_0 rfl (lv_at hl 0 rfl) ?_
      refine x_get C hW 17 (by decide) q52 rfl rfl dX0_work_1 ?_
      refine b_if_ne (tgt := 94) hx hb dX0_work_4 (by decide) (fun c4 => ?_) (fun c4 => ?_)
      · exact x_vret C hW hr hlocks ⟨hF, hI, fun z => absurd (c4.symm.trans z) (by decide)⟩ dX0_work_94
      · have hfl := hI.2.2.1 c4
        have hjb := hfl.2.2.2
        refine lv_aload_n hx hb dX0_work_7 rfl (lv_at hl 0 rfl) ?_
        refine x_get C hW 13 (by decide) q48 rfl rfl dX0_work_8 ?_
        refine n_if_gt (tgt := 23) hx hb (by omega) dX0_work_11 (by decide) (fun c11 => ?_) (fun c11 => ?_)
        · refine lv_aload_n hx hb dX0_work_23 rfl (lv_at hl 0 rfl) ?_
          refine x_get C hW 13 (by decide) q48 rfl rfl dX0_work_24 ?_
          refine n_if_le (tgt := 65) hx hb (by omega) dX0_work_27 (by decide) (fun c27 => ?_) (fun c27 => ?_)
          · exact absurd c27 c11
          · refine lv_aload_n hx hb dX0_work_30 rfl (lv_at hl 0 rfl) ?_
            refine lv_dup hx hb dX0_work_31 rfl ?_
            refine x_get C hW 13 (by decide) q48 rfl rfl dX0_work_32 ?_
            refine lv_iconst (v := nI 1) hx hb dX0_work_35 (by decide) ?_
            refine n_isub hx hb (by omega) dX0_work_36 ?_
            refine x_put_jc C hW q48 dX0_work_37 (fun H locs hW => ?_)
            refine lv_aload_n hx hb dX0_work_40 rfl (lv_at hl 0 rfl) ?_
            refine lv_aload_n hx hb dX0_work_41 rfl (lv_at hl 0 rfl) ?_
            refine x_get C hW 14 (by decide) q49 rfl rfl dX0_work_42 ?_
            refine lv_aload_n hx hb dX0_work_45 rfl (lv_at hl 0 rfl) ?_
            refine x_get C hW 13 (by decide) q48 rfl rfl dX0_work_46 ?_
            refine x_ld_ja C hW (show u.jc - 1 < 40 by omega) dX0_work_49 ?_
            refine lv_aload_n hx hb dX0_work_50 rfl (lv_at hl 0 rfl) ?_
            refine x_get C hW 15 (by decide) q50 rfl rfl dX0_work_51 ?_
            refine lv_aload_n hx hb dX0_work_54 rfl (lv_at hl 0 rfl) ?_
            refine x_get C hW 13 (by decide) q48 rfl rfl dX0_work_55 ?_
            refine x_ld_jb C hW (show u.jc - 1 < 40 by omega) dX0_work_58 ?_
            refine x_callv C hW (As := [_, _]) (rest := []) (mX_join l D h dA L (u.s_jc (u.jc - 1)) (u.ja (u.jc - 1)) (u.jb (u.jc - 1)) (hS.ja _) (hS.jb _) (show u.jc - 1 + 2 ≤ 40 by omega) hS hF) cbX_join ⟨by decide, by decide⟩ ⟨rfl, rfl⟩ ⟨Nat.zero_le _, Nat.zero_le _⟩ rfl hl.1 rfl (Nat.le_of_ble_eq_true rfl) dX0_work_59 (fun L u' H locs hp hW => ?_)
            obtain ⟨hF, hu⟩ := hp
            subst hu
            refine lv_goto (tgt := 0) hx hb dX0_work_62 (by decide) ?_
            obtain ⟨k1, k2⟩ := hI.joinStep hF0 hg c4 (j := u.jc - 1) (by omega)
            exact ih _ L H locs ls (Nat.lt_of_lt_of_le (xmb_lt c4 k2) (Nat.le_of_lt_succ hn)) k1 hF hW hl
        · refine lv_aload_n hx hb dX0_work_14 rfl (lv_at hl 0 rfl) ?_
          refine x_get C hW 16 (by decide) q51 rfl rfl dX0_work_15 ?_
          refine lv_lconst (v := 0) hx hb dX0_work_18 (by decide) ?_
          refine W.lcmp hx hb dX0_work_19 ?_
          refine lv_if_eq (tgt := 94) hx hb dX0_work_20 (by decide) (fun c20 => ?_) (fun c20 => ?_)
          · exact x_vret C hW hr hlocks ⟨hF, hI, fun _ => ⟨c11, lcmp_0 c20⟩⟩ dX0_work_94
          · refine lv_aload_n hx hb dX0_work_23 rfl (lv_at hl 0 rfl) ?_
            refine x_get C hW 13 (by decide) q48 rfl rfl dX0_work_24 ?_
            refine n_if_le (tgt := 65) hx hb (by omega) dX0_work_27 (by decide) (fun c27 => ?_) (fun c27 => ?_)
            · refine lv_aload_n hx hb dX0_work_65 rfl (lv_at hl 0 rfl) ?_
              refine x_calli C hW (As := []) (rest := []) (mX_lowestReady l D h dA L u) cbX_lowestReady ⟨by decide, by decide⟩ ⟨rfl, rfl⟩ ⟨Nat.zero_le _, Nat.zero_le _⟩ rfl hl.1 rfl (Nat.le_of_ble_eq_true rfl) dX0_work_66 (fun r L u' H locs hp hW => ?_)
              obtain ⟨⟨k, hk, hk39, hk1, hk2⟩, hLe, hu⟩ := hp
              rw [hu] at hW
              rw [← hLe] at hF
              clear hu hLe
              subst hk
              have hkb : bt u.rd k = true := low_bit hfl hg hk39 hk1 hk2 (lcmp_n0 c20)
              refine lv_istore_n (lv' := [(1, _), (0, _)]) hx hb dX0_work_69 rfl hl (by decide) rfl (fun ls hl => ?_)
              refine lv_aload_n hx hb dX0_work_70 rfl (lv_at hl 1 rfl) ?_
              refine lv_dup hx hb dX0_work_71 rfl ?_
              refine x_get C hW 16 (by decide) q51 rfl rfl dX0_work_72 ?_
              refine lv_lconst (v := 1) hx hb dX0_work_75 (by decide) ?_
              refine lv_iload_n hx hb dX0_work_76 rfl (lv_at hl 0 rfl) ?_
              refine lv_lshl hx hb dX0_work_77 rfl ?_
              refine lv_ldc2 (v := -1) hx hb C.2.2.2.1 (C.2.2.2.2.1 _ q133) dX0_work_78 ?_
              refine lv_lxor hx hb dX0_work_81 ?_
              refine lv_land hx hb dX0_work_82 ?_
              refine x_put_rd C hW q51 dX0_work_83 (fun H locs hW => ?_)
              refine lv_aload_n hx hb dX0_work_86 rfl (lv_at hl 1 rfl) ?_
              refine lv_iload_n hx hb dX0_work_87 rfl (lv_at hl 0 rfl) ?_
              refine x_callv C hW (As := [_]) (rest := []) (mX_tryStatement l D h dA L (u.s_rd (u.rd &&& (xs_bit k ^^^ (-1)))) k (by omega) (show u.jc < 40 by omega) hS hF) cbX_tryStatement ⟨by decide, by decide⟩ ⟨rfl, rfl⟩ ⟨Nat.zero_le _, Nat.zero_le _⟩ rfl hl.1 rfl (Nat.le_of_ble_eq_true rfl) dX0_work_88 (fun L u' H locs hp hW => ?_)
              obtain ⟨hF, hu⟩ := hp
              subst hu
              refine lv_goto (tgt := 0) hx hb dX0_work_91 (by decide) ?_
              obtain ⟨k1, k2⟩ := hI.tryStep hF0 hg c4 c11 hkb
              exact ih _ L H locs ls (Nat.lt_of_lt_of_le (xmb_lt c4 k2) (Nat.le_of_lt_succ hn)) k1 hF hW (lv_sub hl [1] rfl)
            · exact absurd c11 c27
  exact loop (xmb u + 1) u L s.heap [] ls (Nat.lt_succ_self _) hI hF hW hl
end
section
set_option maxRecDepth 100000
theorem add2_r (u : XSt) (k x y z : Nat) : (xs_add2 u k x y z).r = u.r := (add2_e u k x y z).2.2.2.2.2.2.2.2.2.2.2.2.2.2.2.2.2
theorem k8_of {k : Int32} (h1 : ¬ k < 0) (h2 : ¬ 7 < k) : ∃ K : Nat, K < 8 ∧ k = nI K := by
  obtain ⟨j, hj, e⟩ := nI_of2 (M := 7) (n := 7) (by decide) h1 (Int32.not_lt.mp h2)
  exact ⟨j, by omega, e⟩
theorem cl8 {k : Nat} (h : k < 8) : (nI k).toNatClampNeg = k := nI_clamp (by omega)
theorem yf_yes {K X : Nat} {y z : Int32} (hK : K < 8) (hX : X < 12) (hy : K = 1 ∨ isV y = true) (hz : K = 2 ∨ K = 3 ∨ K = 4 ∨ K = 7 → isV z = true) : yf (nI K) (nI X) y z = true := by
  have key : ∀ (K : Fin 8) (a b : Bool), (K.val = 1 ∨ a = true) → (K.val = 2 ∨ K.val = 3 ∨ K.val = 4 ∨ K.val = 7 → b = true) → (!(decide (nI K.val < 0)) && (decide (nI K.val ≤ 7) && (true && ((decide (nI K.val = 1) || a) && (decide (nI K.val = 0) || (decide (nI K.val = 1) || (decide (nI K.val = 5) || (decide (nI K.val = 6) || b)))))))) = true := by decide +kernel
  unfold yf
  rw [isV_nI hX]
  exact key ⟨K, hK⟩ (isV y) (isV z) hy hz
theorem yf_noz {K : Nat} {x y z : Int32} (hK : K = 2 ∨ K = 3 ∨ K = 4 ∨ K = 7) (hz : isV z = false) : yf (nI K) x y z = false := by
  have key : ∀ (K : Fin 8) (a b : Bool), (K.val = 2 ∨ K.val = 3 ∨ K.val = 4 ∨ K.val = 7) → (!(decide (nI K.val < 0)) && (decide (nI K.val ≤ 7) && (b && ((decide (nI K.val = 1) || a) && (decide (nI K.val = 0) || (decide (nI K.val = 1) || (decide (nI K.val = 5) || (decide (nI K.val = 6) || false)))))))) = false := by decide +kernel
  unfold yf
  rw [hz]
  exact key ⟨K, by omega⟩ (isV y) (isV x) hK
theorem tell_bad {u : XSt} {g : YSt} {k x y z : Int32} (hb : u.bk = false) (hn : g.n ≠ 40) (hy : yf k x y z = false) : xr_tell u u g k x y z = -1 ∧ xg_tell u g k x y z = g := by
  have h1 : ¬ u.bk = true := by rw [hb]; decide
  have h2 : ¬ yf k x y z = true := by rw [hy]; decide
  exact ⟨(if_neg h1).trans ((if_neg hn).trans (if_neg h2)), (if_neg h1).trans ((if_neg hn).trans (if_neg h2))⟩
theorem tell_ok {u u' : XSt} {g : YSt} {k x y z : Int32} (hb : u.bk = false) (hn : g.n ≠ 40) (hy : yf k x y z = true) : xr_tell u u' g k x y z = (if u'.bk = true then -3 else nI (g.n + 1)) ∧ xg_tell u g k x y z = ys_add g (vN k) (vN x) y z := by
  have h1 : ¬ u.bk = true := by rw [hb]; decide
  exact ⟨(if_neg h1).trans ((if_neg hn).trans (if_pos hy)), (if_neg h1).trans ((if_neg hn).trans (if_pos hy))⟩
set_option maxHeartbeats 4000000 in
set_option maxRecDepth 100000 in
/-- tell(k, x, y, z) -/
theorem mX_tell (l : Launch) (D : va_G) (h : Nat → Nat) (dA : Nat → ClassId) (L : Nat → Nat) (u : XSt) (g : YSt) (k x y z : Int32) (hg : YSr g) (hI : XRest u g) (hF : Forest L u.r) : Met l yX0_tell (ws_ yX0_tell cX0_tell 7 (some .int)) (rmN 4) (XPc D h dA L u [.int k, .int x, .int y, .int z]) (XQi D h dA (fun r L' u' => r = xr_tell u u' g k x y z ∧ Forest L' u'.r ∧ XRest u' (xg_tell u g k x y z))) 0 0 (AX h) := by
  refine x_met rfl (Nat.le_of_ble_eq_true rfl) ?_
  intro p e s m below meth c ls C hr hlocks hW hl
  have hx := C.1
  have hb := C.2.1
  have hl : lv_has ls 7 [(0, .ref (h 0)), (1, .int k), (2, .int x), (3, .int y), (4, .int z)] := hl
  have hS := hI.1.1
  have hsc : u.sc = g.n := hI.1.2.1.1
  have hsc40 := hS.1
  have k57 : ∀ (K X : Nat) (L : Nat → Nat) (H : Heap) (locs : List Loc) (ls : Array Slot), u.bk = false → g.n ≠ 40 → u.sc < 40 → K < 8 → X < 12 → k = nI K → x = nI X → (K = 1 ∨ isV y = true) → Forest L u.r → XW D h dA L u s.heap H locs → lv_has ls 7 [(0, .ref (h 0)), (1, .int (nI K)), (2, .int (nI X)), (3, .int y), (4, .int z)] → W p l e (rmN 4) s m (.ref (h 0) :: [.int k, .int x, .int y, .int z]).toArray below meth c H locs 0 0 (MQ below (XQi D h dA (fun r L' u' => r = xr_tell u u' g k x y z ∧ Forest L' u'.r ∧ XRest u' (xg_tell u g k x y z))) (.ref (h 0) :: [.int k, .int x, .int y, .int z]).toArray s 0 0 (AX h)) (F0 m 57 ls []) := by
    intro K X L H locs ls hbk hn40 hs40 hK hX ek ex hy hF hW hl
    have k101 : ∀ (th : Bool) (L : Nat → Nat) (H : Heap) (locs : List Loc) (ls : Array Slot), (th = true ↔ K = 2 ∨ K = 3 ∨ K = 4 ∨ K = 7) → (th = true → isV z = true) → Forest L u.r → XW D h dA L u s.heap H locs → lv_has ls 7 [(5, .int (bI th)), (0, .ref (h 0)), (1, .int (nI K)), (2, .int (nI X)), (3, .int y), (4, .int z)] → W p l e (rmN 4) s m (.ref (h 0) :: [.int k, .int x, .int y, .int z]).toArray below meth c H locs 0 0 (MQ below (XQi D h dA (fun r L' u' => r = xr_tell u u' g k x y z ∧ Forest L' u'.r ∧ XRest u' (xg_tell u g k x y z))) (.ref (h 0) :: [.int k, .int x, .int y, .int z]).toArray s 0 0 (AX h)) (F0 m 101 ls []) := by
      intro th L H locs ls hth hz hF hW hl
      have hyf : yf k x y z = true := by
        rw [ek, ex]
        exact yf_yes hK hX hy (fun q => hz (hth.mpr q))
      have evk : vN k = K := by rw [ek, vN, cl8 hK]
      have evx : vN x = X := by rw [ex, vN, cl12 hX]
      have hyv : K ≠ 1 → isV y = true := fun q => hy.resolve_left q
      have hzv : K = 2 ∨ K = 3 ∨ K = 4 ∨ K = 7 → isV z = true := fun q => hz (hth.mpr q)
      have hg' : YSr (ys_add g K X y z) := hg.add hn40 hK hX hyv hzv
      have hS1 : XSr (xs_add u K X) := hS.add hs40 hK hX
      have hF9 := hF
      have k232 : ∀ (v : XSt) (L : Nat → Nat) (H : Heap) (locs : List Loc) (ls : Array Slot), v = xs_tell u K X y z → Forest L v.r → XW D h dA L v s.heap H locs → lv_has ls 7 [(0, .ref (h 0))] → W p l e (rmN 4) s m (.ref (h 0) :: [.int k, .int x, .int y, .int z]).toArray below meth c H locs 0 0 (MQ below (XQi D h dA (fun r L' u' => r = xr_tell u u' g k x y z ∧ Forest L' u'.r ∧ XRest u' (xg_tell u g k x y z))) (.ref (h 0) :: [.int k, .int x, .int y, .int z]).toArray s 0 0 (AX h)) (F0 m 232 ls []) := by
        intro v L H locs ls hv hF hW hl
        obtain ⟨hI2, hr2⟩ := XInv.tell hI hF9 hg hbk hn40 hK hX (fun q => (isV_eq (hyv q)).2) (fun q => (isV_eq (hzv q)).2) hg'
        rw [← hv] at hI2 hr2
        refine lv_aload_n hx hb dX0_tell_232 rfl (lv_at hl 0 rfl) ?_
        refine x_callv C hW (As := []) (rest := []) (mX_work l D h dA L v (ys_add g K X y z) hg' hI2 hF) cbX_work ⟨by decide, by decide⟩ ⟨rfl, rfl⟩ ⟨Nat.zero_le _, Nat.zero_le _⟩ rfl hl.1 rfl (Nat.le_of_ble_eq_true rfl) dX0_tell_233 (fun L u' H locs hp hW => ?_)
        obtain ⟨hF, hI3⟩ := hp
        obtain ⟨t1, t2⟩ := tell_ok (u' := u') hbk hn40 hyf
        rw [evk, evx] at t2
        refine lv_aload_n hx hb dX0_tell_236 rfl (lv_at hl 0 rfl) ?_
        refine x_get C hW 17 (by decide) q52 rfl rfl dX0_tell_237 ?_
        refine b_if_eq (tgt := 248) hx hb dX0_tell_240 (by decide) (fun c240 => ?_) (fun c240 => ?_)
        · refine lv_aload_n hx hb dX0_tell_248 rfl (lv_at hl 0 rfl) ?_
          refine x_get C hW 0 (by decide) q35 rfl rfl dX0_tell_249 ?_
          exact x_iret C hW hr hlocks ⟨by rw [t1, if_neg (by rw [c240]; decide), show u'.sc = g.n + 1 from hI3.1.2.1.1], hF, by rw [t2]; exact hI3⟩ dX0_tell_252
        · refine lv_bipush (v := -3) hx hb dX0_tell_243 (by decide) ?_
          refine lv_goto (tgt := 252) hx hb dX0_tell_245 (by decide) ?_
          exact x_iret C hW hr hlocks ⟨by rw [t1, if_pos c240], hF, by rw [t2]; exact hI3⟩ dX0_tell_252
      refine lv_aload_n hx hb dX0_tell_101 rfl (lv_at hl 1 rfl) ?_
      refine x_get C hW 0 (by decide) q35 rfl rfl dX0_tell_102 ?_
      refine lv_istore (lv' := [(6, _), (5, _), (0, _), (1, _), (2, _), (3, _), (4, _)]) hx hb dX0_tell_105 hl (by decide) rfl (fun ls hl => ?_)
      refine lv_aload_n hx hb dX0_tell_107 rfl (lv_at hl 2 rfl) ?_
      refine lv_dup hx hb dX0_tell_108 rfl ?_
      refine x_get C hW 0 (by decide) q35 rfl rfl dX0_tell_109 ?_
      refine lv_iconst (v := nI 1) hx hb dX0_tell_112 (by decide) ?_
      refine n_iadd hx hb dX0_tell_113 ?_
      refine x_put_sc C hW q35 dX0_tell_114 (fun H locs hW => ?_)
      refine lv_aload_n hx hb dX0_tell_117 rfl (lv_at hl 2 rfl) ?_
      refine x_get C hW 1 (by decide) q36 rfl rfl dX0_tell_118 ?_
      refine lv_iload hx hb dX0_tell_121 (lv_at hl 0 rfl) ?_
      refine lv_iload_n hx hb dX0_tell_123 rfl (lv_at hl 3 rfl) ?_
      refine n_i2b hx hb (by omega) dX0_tell_124 ?_
      refine x_st_kd C hW hs40 (by omega) dX0_tell_125 (fun H locs hW => ?_)
      refine lv_aload_n hx hb dX0_tell_126 rfl (lv_at hl 2 rfl) ?_
      refine x_get C hW 2 (by decide) q37 rfl rfl dX0_tell_127 ?_
      refine lv_iload hx hb dX0_tell_130 (lv_at hl 0 rfl) ?_
      refine lv_iload_n hx hb dX0_tell_132 rfl (lv_at hl 4 rfl) ?_
      refine n_i2b hx hb (by omega) dX0_tell_133 ?_
      refine x_st_tg C hW hs40 (by omega) dX0_tell_134 (fun H locs hW => ?_)
      have hW : XW D h dA L (xs_add u K X) s.heap H locs := hW
      refine lv_iload_n hx hb dX0_tell_135 rfl (lv_at hl 3 rfl) ?_
      refine lv_iconst (v := nI 1) hx hb dX0_tell_136 (by decide) ?_
      refine n_icmp_ne (tgt := 149) hx hb (by omega) (by omega) dX0_tell_137 (by decide) (fun c137 => ?_) (fun c137 => ?_)
      · obtain ⟨Y, hY, rfl⟩ := isV_of (hyv c137)
        refine lv_iload_n hx hb dX0_tell_149 rfl (lv_at hl 3 rfl) ?_
        refine n_if_ne (tgt := 162) hx hb (by omega) dX0_tell_150 (by decide) (fun c150 => ?_) (fun c150 => ?_)
        · refine lv_iload_n hx hb dX0_tell_162 rfl (lv_at hl 3 rfl) ?_
          refine lv_iconst (v := nI 2) hx hb dX0_tell_163 (by decide) ?_
          refine n_icmp_ne (tgt := 178) hx hb (by omega) (by omega) dX0_tell_164 (by decide) (fun c164 => ?_) (fun c164 => ?_)
          · refine lv_aload_n hx hb dX0_tell_178 rfl (lv_at hl 2 rfl) ?_
            refine x_get C hW 3 (by decide) q38 rfl rfl dX0_tell_179 ?_
            refine lv_iload hx hb dX0_tell_182 (lv_at hl 0 rfl) ?_
            refine lv_iload_n hx hb dX0_tell_184 rfl (lv_at hl 5 rfl) ?_
            refine n_i2b hx hb (by omega) dX0_tell_185 ?_
            refine x_st_sy C hW hs40 (by omega) dX0_tell_186 (fun H locs hW => ?_)
            refine lv_aload_n hx hb dX0_tell_187 rfl (lv_at hl 2 rfl) ?_
            refine x_get C hW 4 (by decide) q39 rfl rfl dX0_tell_188 ?_
            refine lv_iload hx hb dX0_tell_191 (lv_at hl 0 rfl) ?_
            refine lv_iload hx hb dX0_tell_193 (lv_at hl 1 rfl) ?_
            refine b_if_eq (tgt := 203) hx hb dX0_tell_195 (by decide) (fun c195 => ?_) (fun c195 => ?_)
            · refine lv_iload_n hx hb dX0_tell_203 rfl (lv_at hl 5 rfl) ?_
              refine n_i2b hx hb (by omega) dX0_tell_204 ?_
              refine x_st_sz C hW hs40 (by omega) dX0_tell_205 (fun H locs hW => ?_)
              refine lv_aload_n hx hb dX0_tell_206 rfl (lv_at hl 2 rfl) ?_
              refine lv_dup hx hb dX0_tell_207 rfl ?_
              refine x_get C hW 5 (by decide) q40 rfl rfl dX0_tell_208 ?_
              refine lv_lconst (v := 1) hx hb dX0_tell_211 (by decide) ?_
              refine lv_iload hx hb dX0_tell_212 (lv_at hl 0 rfl) ?_
              refine lv_lshl hx hb dX0_tell_214 rfl ?_
              refine lv_lor hx hb dX0_tell_215 ?_
              refine x_put_su C hW q40 dX0_tell_216 (fun H locs hW => ?_)
              refine lv_aload_n hx hb dX0_tell_219 rfl (lv_at hl 2 rfl) ?_
              refine lv_dup hx hb dX0_tell_220 rfl ?_
              refine x_get C hW 16 (by decide) q51 rfl rfl dX0_tell_221 ?_
              refine lv_lconst (v := 1) hx hb dX0_tell_224 (by decide) ?_
              refine lv_iload hx hb dX0_tell_225 (lv_at hl 0 rfl) ?_
              refine lv_lshl hx hb dX0_tell_227 rfl ?_
              refine lv_lor hx hb dX0_tell_228 ?_
              refine x_put_rd C hW q51 dX0_tell_229 (fun H locs hW => ?_)
              simp only [e_sy, e_sz, e_su, add_e] at hW
              have hW : XW D h dA L (xs_add2 u K X Y Y) s.heap H locs := hW
              exact k232 (xs_add2 u K X Y Y) L H locs ls (by unfold xs_tell; rw [if_neg c137, if_neg c150, if_neg c164, if_pos (show K = 5 ∨ K = 6 from Classical.byContradiction (fun q => absurd (hth.mpr (by omega)) (by rw [c195]; decide)))]; simp only [vN, cl12 hY]) (by rw [add2_r]; exact hF) hW (lv_sub hl [2] rfl)
            · obtain ⟨Z, hZ, rfl⟩ := isV_of (hz c195)
              refine lv_iload hx hb dX0_tell_198 (lv_at hl 6 rfl) ?_
              refine lv_goto (tgt := 204) hx hb dX0_tell_200 (by decide) ?_
              refine n_i2b hx hb (by omega) dX0_tell_204 ?_
              refine x_st_sz C hW hs40 (by omega) dX0_tell_205 (fun H locs hW => ?_)
              refine lv_aload_n hx hb dX0_tell_206 rfl (lv_at hl 2 rfl) ?_
              refine lv_dup hx hb dX0_tell_207 rfl ?_
              refine x_get C hW 5 (by decide) q40 rfl rfl dX0_tell_208 ?_
              refine lv_lconst (v := 1) hx hb dX0_tell_211 (by decide) ?_
              refine lv_iload hx hb dX0_tell_212 (lv_at hl 0 rfl) ?_
              refine lv_lshl hx hb dX0_tell_214 rfl ?_
              refine lv_lor hx hb dX0_tell_215 ?_
              refine x_put_su C hW q40 dX0_tell_216 (fun H locs hW => ?_)
              refine lv_aload_n hx hb dX0_tell_219 rfl (lv_at hl 2 rfl) ?_
              refine lv_dup hx hb dX0_tell_220 rfl ?_
              refine x_get C hW 16 (by decide) q51 rfl rfl dX0_tell_221 ?_
              refine lv_lconst (v := 1) hx hb dX0_tell_224 (by decide) ?_
              refine lv_iload hx hb dX0_tell_225 (lv_at hl 0 rfl) ?_
              refine lv_lshl hx hb dX0_tell_227 rfl ?_
              refine lv_lor hx hb dX0_tell_228 ?_
              refine x_put_rd C hW q51 dX0_tell_229 (fun H locs hW => ?_)
              simp only [e_sy, e_sz, e_su, add_e] at hW
              have hW : XW D h dA L (xs_add2 u K X Y Z) s.heap H locs := hW
              exact k232 (xs_add2 u K X Y Z) L H locs ls (by unfold xs_tell; rw [if_neg c137, if_neg c150, if_neg c164, if_neg (show ¬ (K = 5 ∨ K = 6) from fun q => by have := hth.mp c195; omega)]; simp only [vN, cl12 hY, cl12 hZ]) (by rw [add2_r]; exact hF) hW (lv_sub hl [2] rfl)
          · obtain ⟨Z, hZ, rfl⟩ := isV_of (hzv (Or.inl c164))
            have hjc : u.jc + 2 ≤ 40 := by have := (hI.2 hbk).1; omega
            refine lv_aload_n hx hb dX0_tell_167 rfl (lv_at hl 2 rfl) ?_
            refine lv_iload_n hx hb dX0_tell_168 rfl (lv_at hl 4 rfl) ?_
            refine lv_iload_n hx hb dX0_tell_169 rfl (lv_at hl 5 rfl) ?_
            refine lv_iload hx hb dX0_tell_170 (lv_at hl 6 rfl) ?_
            refine x_callv C hW (As := [_, _, _]) (rest := []) (mX_bindCouple l D h dA L (xs_add u K X) X Y Z hX hY hZ hjc hS1 hF) cbX_bindCouple ⟨by decide, by decide⟩ ⟨rfl, rfl⟩ ⟨Nat.zero_le _, Nat.zero_le _⟩ rfl hl.1 rfl (Nat.le_of_ble_eq_true rfl) dX0_tell_172 (fun L u' H locs hp hW => ?_)
            obtain ⟨hF, hu⟩ := hp
            subst hu
            refine lv_goto (tgt := 232) hx hb dX0_tell_175 (by decide) ?_
            exact k232 _ L H locs ls (by unfold xs_tell; rw [if_neg c137, if_neg c150, if_pos c164]; simp only [vN, cl12 hY, cl12 hZ]; rfl) hF hW (lv_sub hl [2] rfl)
        · have hjc : u.jc < 40 := by have := (hI.2 hbk).1; omega
          refine lv_aload_n hx hb dX0_tell_153 rfl (lv_at hl 2 rfl) ?_
          refine lv_iload_n hx hb dX0_tell_154 rfl (lv_at hl 4 rfl) ?_
          refine lv_iload_n hx hb dX0_tell_155 rfl (lv_at hl 5 rfl) ?_
          refine x_callv C hW (As := [_, _]) (rest := []) (mX_want l D h dA L (xs_add u K X) X Y hX hY hjc hF) cbX_want ⟨by decide, by decide⟩ ⟨rfl, rfl⟩ ⟨Nat.zero_le _, Nat.zero_le _⟩ rfl hl.1 rfl (Nat.le_of_ble_eq_true rfl) dX0_tell_156 (fun L u' H locs hp hW => ?_)
          obtain ⟨hF, hu⟩ := hp
          subst hu
          refine lv_goto (tgt := 232) hx hb dX0_tell_159 (by decide) ?_
          exact k232 _ L H locs ls (by unfold xs_tell; rw [if_neg c137, if_pos c150, vN, cl12 hY]) hF hW (lv_sub hl [2] rfl)
      · refine lv_aload_n hx hb dX0_tell_140 rfl (lv_at hl 2 rfl) ?_
        refine lv_iload_n hx hb dX0_tell_141 rfl (lv_at hl 4 rfl) ?_
        refine lv_iload_n hx hb dX0_tell_142 rfl (lv_at hl 5 rfl) ?_
        refine x_callv C hW (As := [_, _]) (rest := []) (mX_bindNumber l D h dA L (xs_add u K X) X hX y hS1 hF) cbX_bindNumber ⟨by decide, by decide⟩ ⟨rfl, rfl⟩ ⟨Nat.zero_le _, Nat.zero_le _⟩ rfl hl.1 rfl (Nat.le_of_ble_eq_true rfl) dX0_tell_143 (fun L u' H locs hp hW => ?_)
        obtain ⟨hF, hu⟩ := hp
        subst hu
        refine lv_goto (tgt := 232) hx hb dX0_tell_146 (by decide) ?_
        exact k232 _ L H locs ls ((if_pos c137).symm) hF hW (lv_sub hl [2] rfl)
    have k83 : ∀ (th : Bool) (L : Nat → Nat) (H : Heap) (locs : List Loc) (ls : Array Slot), (th = true ↔ K = 2 ∨ K = 3 ∨ K = 4 ∨ K = 7) → Forest L u.r → XW D h dA L u s.heap H locs → lv_has ls 7 [(0, .ref (h 0)), (1, .int (nI K)), (2, .int (nI X)), (3, .int y), (4, .int z)] → W p l e (rmN 4) s m (.ref (h 0) :: [.int k, .int x, .int y, .int z]).toArray below meth c H locs 0 0 (MQ below (XQi D h dA (fun r L' u' => r = xr_tell u u' g k x y z ∧ Forest L' u'.r ∧ XRest u' (xg_tell u g k x y z))) (.ref (h 0) :: [.int k, .int x, .int y, .int z]).toArray s 0 0 (AX h)) (F0 m 83 ls [.int (bI th)]) := by
      intro th L H locs ls hth hF hW hl
      refine lv_istore (lv' := [(5, _), (0, _), (1, _), (2, _), (3, _), (4, _)]) hx hb dX0_tell_83 hl (by decide) rfl (fun ls hl => ?_)
      refine lv_iload hx hb dX0_tell_85 (lv_at hl 0 rfl) ?_
      refine b_if_eq (tgt := 101) hx hb dX0_tell_87 (by decide) (fun c87 => ?_) (fun c87 => ?_)
      · exact k101 th L H locs ls hth (fun q => absurd q (by rw [c87]; decide)) hF hW hl
      · refine lv_aload_n hx hb dX0_tell_90 rfl (lv_at hl 1 rfl) ?_
        refine lv_iload hx hb dX0_tell_91 (lv_at hl 5 rfl) ?_
        refine x_callz C hW (As := [_]) (rest := []) (mX_isVariable l D h dA L _ z) cbX_isVariable ⟨by decide, by decide⟩ ⟨rfl, rfl⟩ ⟨Nat.zero_le _, Nat.zero_le _⟩ rfl hl.1 rfl (Nat.le_of_ble_eq_true rfl) dX0_tell_93 (fun r L u' H locs hp hW => ?_)
        obtain ⟨hre, hLe, hu⟩ := hp
        rw [hu] at hW
        rw [← hLe] at hF
        clear hu hLe
        subst hre
        refine b_if_ne (tgt := 101) hx hb dX0_tell_96 (by decide) (fun c96 => ?_) (fun c96 => ?_)
        · exact k101 th L H locs ls hth (fun _ => c96) hF hW hl
        · refine lv_iconst (v := -1) hx hb dX0_tell_99 (by decide) ?_
          exact x_iret C hW hr hlocks ⟨(tell_bad hbk hn40 (by rw [ek]; exact yf_noz (hth.mp c87) c96)).1.symm, hF, by rw [(tell_bad hbk hn40 (by rw [ek]; exact yf_noz (hth.mp c87) c96)).2]; exact hI⟩ dX0_tell_100
    refine lv_iload_n hx hb dX0_tell_57 rfl (lv_at hl 1 rfl) ?_
    refine lv_iconst (v := nI 2) hx hb dX0_tell_58 (by decide) ?_
    refine n_icmp_eq (tgt := 78) hx hb (by omega) (by omega) dX0_tell_59 (by decide) (fun c59 => ?_) (fun c59 => ?_)
    · refine lv_iconst (v := bI true) hx hb dX0_tell_78 (by decide) ?_
      refine lv_goto (tgt := 83) hx hb dX0_tell_79 (by decide) ?_
      exact k83 true L H locs ls (⟨fun _ => Or.inl c59, fun _ => rfl⟩) hF hW hl
    · refine lv_iload_n hx hb dX0_tell_62 rfl (lv_at hl 1 rfl) ?_
      refine lv_iconst (v := nI 3) hx hb dX0_tell_63 (by decide) ?_
      refine n_icmp_eq (tgt := 78) hx hb (by omega) (by omega) dX0_tell_64 (by decide) (fun c64 => ?_) (fun c64 => ?_)
      · refine lv_iconst (v := bI true) hx hb dX0_tell_78 (by decide) ?_
        refine lv_goto (tgt := 83) hx hb dX0_tell_79 (by decide) ?_
        exact k83 true L H locs ls (⟨fun _ => Or.inr (Or.inl c64), fun _ => rfl⟩) hF hW hl
      · refine lv_iload_n hx hb dX0_tell_67 rfl (lv_at hl 1 rfl) ?_
        refine lv_iconst (v := nI 4) hx hb dX0_tell_68 (by decide) ?_
        refine n_icmp_eq (tgt := 78) hx hb (by omega) (by omega) dX0_tell_69 (by decide) (fun c69 => ?_) (fun c69 => ?_)
        · refine lv_iconst (v := bI true) hx hb dX0_tell_78 (by decide) ?_
          refine lv_goto (tgt := 83) hx hb dX0_tell_79 (by decide) ?_
          exact k83 true L H locs ls (⟨fun _ => Or.inr (Or.inr (Or.inl c69)), fun _ => rfl⟩) hF hW hl
        · refine lv_iload_n hx hb dX0_tell_72 rfl (lv_at hl 1 rfl) ?_
          refine lv_bipush (v := nI 7) hx hb dX0_tell_73 (by decide) ?_
          refine n_icmp_ne (tgt := 82) hx hb (by omega) (by omega) dX0_tell_75 (by decide) (fun c75 => ?_) (fun c75 => ?_)
          · refine lv_iconst (v := bI false) hx hb dX0_tell_82 (by decide) ?_
            exact k83 false L H locs ls (⟨fun q => absurd q (by decide), fun q => by omega⟩) hF hW hl
          · refine lv_iconst (v := bI true) hx hb dX0_tell_78 (by decide) ?_
            refine lv_goto (tgt := 83) hx hb dX0_tell_79 (by decide) ?_
            exact k83 true L H locs ls (⟨fun _ => Or.inr (Or.inr (Or.inr c75)), fun _ => rfl⟩) hF hW hl
  refine lv_aload_n hx hb dX0_tell_0 rfl (lv_at hl 0 rfl) ?_
  refine x_get C hW 17 (by decide) q52 rfl rfl dX0_tell_1 ?_
  refine b_if_eq (tgt := 10) hx hb dX0_tell_4 (by decide) (fun c4 => ?_) (fun c4 => ?_)
  · have hbk : u.bk = false := c4
    refine lv_aload_n hx hb dX0_tell_10 rfl (lv_at hl 0 rfl) ?_
    refine x_get C hW 0 (by decide) q35 rfl rfl dX0_tell_11 ?_
    refine lv_bipush (v := nI 40) hx hb dX0_tell_14 (by decide) ?_
    refine n_icmp_lt (tgt := 22) hx hb (by omega) (by omega) dX0_tell_16 (by decide) (fun c16 => ?_) (fun c16 => ?_)
    · have hn40 : g.n ≠ 40 := by omega
      refine lv_iload_n hx hb dX0_tell_22 rfl (lv_at hl 1 rfl) ?_
      refine lv_if_lt (tgt := 40) hx hb dX0_tell_23 (by decide) (fun c23 => ?_) (fun c23 => ?_)
      · refine lv_iconst (v := -1) hx hb dX0_tell_40 (by decide) ?_
        exact x_iret C hW hr hlocks ⟨(tell_bad hbk hn40 (by simp [yf, c23])).1.symm, hF, by rw [(tell_bad hbk hn40 (by simp [yf, c23])).2]; exact hI⟩ dX0_tell_41
      · refine lv_iload_n hx hb dX0_tell_26 rfl (lv_at hl 1 rfl) ?_
        refine lv_bipush (v := 7) hx hb dX0_tell_27 (by decide) ?_
        refine lv_icmp_gt (tgt := 40) hx hb dX0_tell_29 (by decide) (fun c29 => ?_) (fun c29 => ?_)
        · refine lv_iconst (v := -1) hx hb dX0_tell_40 (by decide) ?_
          exact x_iret C hW hr hlocks ⟨(tell_bad hbk hn40 (by have q : ¬ k ≤ 7 := Int32.not_le.mpr c29; simp [yf, q])).1.symm, hF, by rw [(tell_bad hbk hn40 (by have q : ¬ k ≤ 7 := Int32.not_le.mpr c29; simp [yf, q])).2]; exact hI⟩ dX0_tell_41
        · refine lv_aload_n hx hb dX0_tell_32 rfl (lv_at hl 0 rfl) ?_
          refine lv_iload_n hx hb dX0_tell_33 rfl (lv_at hl 2 rfl) ?_
          refine x_callz C hW (As := [_]) (rest := []) (mX_isVariable l D h dA L _ x) cbX_isVariable ⟨by decide, by decide⟩ ⟨rfl, rfl⟩ ⟨Nat.zero_le _, Nat.zero_le _⟩ rfl hl.1 rfl (Nat.le_of_ble_eq_true rfl) dX0_tell_34 (fun r L u' H locs hp hW => ?_)
          obtain ⟨hre, hLe, hu⟩ := hp
          rw [hu] at hW
          rw [← hLe] at hF
          clear hu hLe
          subst hre
          refine b_if_ne (tgt := 42) hx hb dX0_tell_37 (by decide) (fun c37 => ?_) (fun c37 => ?_)
          · refine lv_iload_n hx hb dX0_tell_42 rfl (lv_at hl 1 rfl) ?_
            refine lv_iconst (v := 1) hx hb dX0_tell_43 (by decide) ?_
            refine lv_icmp_eq (tgt := 57) hx hb dX0_tell_44 (by decide) (fun c44 => ?_) (fun c44 => ?_)
            · obtain ⟨K, hK, ek⟩ := k8_of c23 c29
              obtain ⟨X, hX, ex⟩ := isV_of c37
              exact k57 K X L H locs ls hbk hn40 c16 hK hX ek ex (Or.inl ((nI_eq (by omega) (by decide)).mp (ek.symm.trans c44))) hF hW (by rw [← ek, ← ex]; exact hl)
            · refine lv_aload_n hx hb dX0_tell_47 rfl (lv_at hl 0 rfl) ?_
              refine lv_iload_n hx hb dX0_tell_48 rfl (lv_at hl 3 rfl) ?_
              refine x_callz C hW (As := [_]) (rest := []) (mX_isVariable l D h dA L _ y) cbX_isVariable ⟨by decide, by decide⟩ ⟨rfl, rfl⟩ ⟨Nat.zero_le _, Nat.zero_le _⟩ rfl hl.1 rfl (Nat.le_of_ble_eq_true rfl) dX0_tell_49 (fun r L u' H locs hp hW => ?_)
              obtain ⟨hre, hLe, hu⟩ := hp
              rw [hu] at hW
              rw [← hLe] at hF
              clear hu hLe
              subst hre
              refine b_if_ne (tgt := 57) hx hb dX0_tell_52 (by decide) (fun c52 => ?_) (fun c52 => ?_)
              · obtain ⟨K, hK, ek⟩ := k8_of c23 c29
                obtain ⟨X, hX, ex⟩ := isV_of c37
                exact k57 K X L H locs ls hbk hn40 c16 hK hX ek ex (Or.inr c52) hF hW (by rw [← ek, ← ex]; exact hl)
              · refine lv_iconst (v := -1) hx hb dX0_tell_55 (by decide) ?_
                exact x_iret C hW hr hlocks ⟨(tell_bad hbk hn40 (by simp [yf, c44, c52])).1.symm, hF, by rw [(tell_bad hbk hn40 (by simp [yf, c44, c52])).2]; exact hI⟩ dX0_tell_56
          · refine lv_iconst (v := -1) hx hb dX0_tell_40 (by decide) ?_
            exact x_iret C hW hr hlocks ⟨(tell_bad hbk hn40 (by simp [yf, c37])).1.symm, hF, by rw [(tell_bad hbk hn40 (by simp [yf, c37])).2]; exact hI⟩ dX0_tell_41
    · have hn40 : g.n = 40 := by omega
      have hbt : ¬ u.bk = true := by rw [hbk]; decide
      refine lv_bipush (v := -2) hx hb dX0_tell_19 (by decide) ?_
      exact x_iret C hW hr hlocks ⟨((if_neg hbt).trans (if_pos hn40)).symm, hF, by rw [show xg_tell u g k x y z = g from (if_neg hbt).trans (if_pos hn40)]; exact hI⟩ dX0_tell_21
  · refine lv_bipush (v := -3) hx hb dX0_tell_7 (by decide) ?_
    exact x_iret C hW hr hlocks ⟨(if_pos c4).symm, hF, by rw [show xg_tell u g k x y z = g from if_pos c4]; exact hI⟩ dX0_tell_9
end
section
set_option maxRecDepth 100000
theorem z12 : 0 < 12 := by decide
theorem z8 : 0 < 8 := by decide
/-- the object itself, and what is made behind sz -/
def AI (h0 sz : Nat) : Nat → Prop := fun q => q = h0 ∨ sz ≤ q
theorem va_D_one {A : Nat → Prop} {q : Nat} {e : va_E} (h : A q) : va_D A [(q, e)] := by
  refine ⟨fun i j p r hi hj _ => ?_, fun k r hk => ?_⟩
  · have h1 : i < 1 := (List.getElem?_eq_some_iff.mp hi).1
    have h2 : j < 1 := (List.getElem?_eq_some_iff.mp hj).1
    omega
  · have h1 : k < 1 := (List.getElem?_eq_some_iff.mp hk).1
    rw [show k = 0 by omega] at hk
    cases hk
    exact h
theorem wX_in {h : Nat → Nat} {dA : Nat → ClassId} {L : Nat → Nat} {u : XSt} : ∀ (k : Nat) (q : Nat × va_E), (wX h dA L u)[k]? = some q → AX h q.1 := by
  intro k q hq
  have hm := List.mem_of_getElem? hq
  unfold wX at hm
  simp only [List.mem_cons, List.not_mem_nil, or_false] at hm
  rcases hm with e | e | e | e | e | e | e | e | e | e | e | e | e | e
  · rw [e]; exact ⟨0, by decide, rfl⟩
  · rw [e]; exact ⟨1, by decide, rfl⟩
  · rw [e]; exact ⟨2, by decide, rfl⟩
  · rw [e]; exact ⟨3, by decide, rfl⟩
  · rw [e]; exact ⟨4, by decide, rfl⟩
  · rw [e]; exact ⟨6, by decide, rfl⟩
  · rw [e]; exact ⟨7, by decide, rfl⟩
  · rw [e]; exact ⟨8, by decide, rfl⟩
  · rw [e]; exact ⟨9, by decide, rfl⟩
  · rw [e]; exact ⟨10, by decide, rfl⟩
  · rw [e]; exact ⟨11, by decide, rfl⟩
  · rw [e]; exact ⟨12, by decide, rfl⟩
  · rw [e]; exact ⟨14, by decide, rfl⟩
  · rw [e]; exact ⟨15, by decide, rfl⟩
def fX00 : List Value := [.int (nI 0), .null, .null, .null, .null, .long 0, .null, .null, .null, .null, .null, .null, .null, .int (nI 0), .null, .null, .long 0, .int (bI false)]
def x00 : XSt := ((0), (fun _ => 0), (fun _ => 0), (fun _ => 0), (fun _ => 0), (0), (fun _ => 0), (fun _ => 0), (fun _ => 0), (fun _ => 0), (fun _ => 0), (fun _ => 0), (0), (fun _ => 0), (fun _ => 0), (0), (false), (fun x => x))
theorem x00_r : XSr x00 := ⟨Nat.zero_le _, fun _ => Nat.zero_le _, fun _ => z12, fun _ => z12, fun _ => z12, fun _ => z12, fun _ => z8, fun _ => z12, fun _ => z12, fun _ => z12⟩
def rmXI : Room := { frames := 1, cells := 13, slots := 324, locals := 60 }
def IX : Type := (Nat → Nat) × (Nat → ClassId) × (Nat → Nat) × XSt
def IXp (h0 sz : Nat) (q : IX) : Prop := q.1 0 = h0 ∧ (∀ k, k < 18 → AI h0 sz (q.1 k)) ∧ Forest q.2.2.1 q.2.2.2.r ∧ XInit q.2.2.2
def IXb (D : va_G) (q : IX) (t : State) : Prop := XB D q.1 q.2.1 q.2.2.1 q.2.2.2 t ∧ ∀ k : Nat, k < 18 → ∃ (j : Nat) (e : va_E), (wX q.1 q.2.1 q.2.2.1 q.2.2.2)[j]? = some (q.1 k, e)
set_option maxHeartbeats 4000000 in
set_option maxRecDepth 100000 in
/-- the constructor of X0 -/
theorem mX_init (l : Launch) (D : va_G) (h0 sz : Nat) : Met l yX0_init (ws_ yX0_init cX0_init 1 none) rmXI (va_Pc [.ref h0] (fun U => U.heap.size = sz ∧ va_P D vwCl [(h0, .inr (0, fX00))] U.heap ∧ va_K D vwCl [] U)) (va_Qv (IXp h0 sz) (IXb D) (AI h0 sz)) 13 324 (AI h0 sz) := by
  refine Met.ofW (cc := cX0_init) (maxL := 1) (ret := none) (by decide) rfl ?_
  intro p e s m args below meth c s₁ B hml hv
  obtain ⟨rfl, hsz, hP, hK⟩ := hv
  have hx := B.exec
  have hb := B.bytes
  have hr := B.returns
  have hts := atoms_spec (ws := ws_ yX0_init cX0_init 1 none) B.pre
  have hts : ∀ w ∈ lw_all, w.before _ s = true := fun w h => hts w (List.mem_cons_of_mem _ h)
  have hown : s.vm.findClass RX0 = some m.cls := findClass_of_methodNamed B.named
  have hlocks := B.notSynchronized
  have hin : meth.name = "<init>" := (name_of_methodNamed B.named B.method).1
  subst hsz
  have hh0 : h0 < s.heap.size := (hP 0 _ rfl).lt
  have hA : ∀ q : Nat, s.heap.size ≤ q → AI h0 s.heap.size q := fun q h => Or.inr h
  have hS : va_S (AI h0 s.heap.size) s.heap s.heap [] := va_S.rf
  have hl := lv_entry ([.ref h0]) (n := 1) (Nat.le_of_ble_eq_true rfl)
  rw [lg_entry_eq]
  generalize (lg_sl ([.ref h0]) ++ List.replicate (1 - (lg_sl ([.ref h0])).length) Slot.unset).toArray = ls at hl ⊢
  have hl : lv_has ls 1 [(0, .ref h0)] := hl
  have hP : va_P D vwCl [(h0, .inr (0, [.int (nI 0), .null, .null, .null, .null, .long 0, .null, .null, .null, .null, .null, .null, .null, .int (nI 0), .null, .null, .long 0, .int (bI false)]))] s.heap := hP
  have hD : va_D (AI h0 s.heap.size) [(h0, .inr (0, [.int (nI 0), .null, .null, .null, .null, .long 0, .null, .null, .null, .null, .null, .null, .null, .int (nI 0), .null, .null, .long 0, .int (bI false)]))] := va_D_one (Or.inl rfl)
  refine lv_aload_n hx hb dX0_init_0 rfl (lv_at hl 0 rfl) ?_
  refine W.objInit hx hb hown (hts _ q28) (hts _ q29) (hts _ q30) rfl (by rw [hml]; exact hl.1) rfl dX0_init_1 (Nat.le_of_ble_eq_true rfl) (Nat.le_of_ble_eq_true rfl) ?_
  refine W.eq (g2 := F0 m 4 ls []) rfl ?_
  refine lv_aload_n hx hb dX0_init_4 rfl (lv_at hl 0 rfl) ?_
  refine lv_bipush (v := nI 40) hx hb dX0_init_5 (by decide) ?_
  refine va_newa (atype := .byte) (ty := .byte) (N' := 40) (a0 := (40, .inl (fun _ => nI 0))) hx hb (hts _ q90) rfl hK hP hD hS hA (fun _ => rfl) (by decide) (by decide) (by decide) (Nat.le_of_ble_eq_true rfl) (Nat.le_of_ble_eq_true rfl) dX0_init_7 (fun q1 c1 H hK hP hD hS => ?_)
  have hP : va_P D vwCl [(h0, .inr (0, [.int (nI 0), .null, .null, .null, .null, .long 0, .null, .null, .null, .null, .null, .null, .null, .int (nI 0), .null, .null, .long 0, .int (bI false)])), (q1, .inl (c1, 40, .inl (fun _ => nI 0)))] H := hP
  have hD : va_D (AI h0 s.heap.size) [(h0, .inr (0, [.int (nI 0), .null, .null, .null, .null, .long 0, .null, .null, .null, .null, .null, .null, .null, .int (nI 0), .null, .null, .long 0, .int (bI false)])), (q1, .inl (c1, 40, .inl (fun _ => nI 0)))] := hD
  have hK : va_K D vwCl [(c1, .byte)] s := hK
  refine W.widen (k := 1) (n := 40) (Nat.le_of_ble_eq_true rfl) (Nat.le_of_ble_eq_true rfl) ?_
  refine va_putF (ci := 0) (C := RX0) (T := TX0) (N := 18) (ty := .array .byte) (v := .ref q1) hx hb hts in_X0 tyX0 tyX0_ok nmX0 hown hK hP hD hS 0 rfl rfl 1 (by decide) (hts _ q36) (fun _ h9 => h9) rfl hin rfl (by decide +kernel) rfl rfl (Nat.le_of_ble_eq_true rfl) dX0_init_9 (fun H locs hP hD hS => ?_)
  have hP : va_P D vwCl [(h0, .inr (0, [.int (nI 0), .ref q1, .null, .null, .null, .long 0, .null, .null, .null, .null, .null, .null, .null, .int (nI 0), .null, .null, .long 0, .int (bI false)])), (q1, .inl (c1, 40, .inl (fun _ => nI 0)))] H := hP
  have hD : va_D (AI h0 s.heap.size) [(h0, .inr (0, [.int (nI 0), .ref q1, .null, .null, .null, .long 0, .null, .null, .null, .null, .null, .null, .null, .int (nI 0), .null, .null, .long 0, .int (bI false)])), (q1, .inl (c1, 40, .inl (fun _ => nI 0)))] := hD
  refine lv_aload_n hx hb dX0_init_12 rfl (lv_at hl 0 rfl) ?_
  refine lv_bipush (v := nI 40) hx hb dX0_init_13 (by decide) ?_
  refine va_newa (atype := .byte) (ty := .byte) (N' := 40) (a0 := (40, .inl (fun _ => nI 0))) hx hb (hts _ q90) rfl hK hP hD hS hA (fun _ => rfl) (by decide) (by decide) (by decide) (Nat.le_of_ble_eq_true rfl) (Nat.le_of_ble_eq_true rfl) dX0_init_15 (fun q2 c2 H hK hP hD hS => ?_)
  have hP : va_P D vwCl [(h0, .inr (0, [.int (nI 0), .ref q1, .null, .null, .null, .long 0, .null, .null, .null, .null, .null, .null, .null, .int (nI 0), .null, .null, .long 0, .int (bI false)])), (q1, .inl (c1, 40, .inl (fun _ => nI 0))), (q2, .inl (c2, 40, .inl (fun _ => nI 0)))] H := hP
  have hD : va_D (AI h0 s.heap.size) [(h0, .inr (0, [.int (nI 0), .ref q1, .null, .null, .null, .long 0, .null, .null, .null, .null, .null, .null, .null, .int (nI 0), .null, .null, .long 0, .int (bI false)])), (q1, .inl (c1, 40, .inl (fun _ => nI 0))), (q2, .inl (c2, 40, .inl (fun _ => nI 0)))] := hD
  have hK : va_K D vwCl [(c1, .byte), (c2, .byte)] s := hK
  refine W.widen (k := 2) (n := 80) (Nat.le_of_ble_eq_true rfl) (Nat.le_of_ble_eq_true rfl) ?_
  refine va_putF (ci := 0) (C := RX0) (T := TX0) (N := 18) (ty := .array .byte) (v := .ref q2) hx hb hts in_X0 tyX0 tyX0_ok nmX0 hown hK hP hD hS 0 rfl rfl 2 (by decide) (hts _ q37) (fun _ h9 => h9) rfl hin rfl (by decide +kernel) rfl rfl (Nat.le_of_ble_eq_true rfl) dX0_init_17 (fun H locs hP hD hS => ?_)
  have hP : va_P D vwCl [(h0, .inr (0, [.int (nI 0), .ref q1, .ref q2, .null, .null, .long 0, .null, .null, .null, .null, .null, .null, .null, .int (nI 0), .null, .null, .long 0, .int (bI false)])), (q1, .inl (c1, 40, .inl (fun _ => nI 0))), (q2, .inl (c2, 40, .inl (fun _ => nI 0)))] H := hP
  have hD : va_D (AI h0 s.heap.size) [(h0, .inr (0, [.int (nI 0), .ref q1, .ref q2, .null, .null, .long 0, .null, .null, .null, .null, .null, .null, .null, .int (nI 0), .null, .null, .long 0, .int (bI false)])), (q1, .inl (c1, 40, .inl (fun _ => nI 0))), (q2, .inl (c2, 40, .inl (fun _ => nI 0)))] := hD
  refine lv_aload_n hx hb dX0_init_20 rfl (lv_at hl 0 rfl) ?_
  refine lv_bipush (v := nI 40) hx hb dX0_init_21 (by decide) ?_
  refine va_newa (atype := .byte) (ty := .byte) (N' := 40) (a0 := (40, .inl (fun _ => nI 0))) hx hb (hts _ q90) rfl hK hP hD hS hA (fun _ => rfl) (by decide) (by decide) (by decide) (Nat.le_of_ble_eq_true rfl) (Nat.le_of_ble_eq_true rfl) dX0_init_23 (fun q3 c3 H hK hP hD hS => ?_)
  have hP : va_P D vwCl [(h0, .inr (0, [.int (nI 0), .ref q1, .ref q2, .null, .null, .long 0, .null, .null, .null, .null, .null, .null, .null, .int (nI 0), .null, .null, .long 0, .int (bI false)])), (q1, .inl (c1, 40, .inl (fun _ => nI 0))), (q2, .inl (c2, 40, .inl (fun _ => nI 0))), (q3, .inl (c3, 40, .inl (fun _ => nI 0)))] H := hP
  have hD : va_D (AI h0 s.heap.size) [(h0, .inr (0, [.int (nI 0), .ref q1, .ref q2, .null, .null, .long 0, .null, .null, .null, .null, .null, .null, .null, .int (nI 0), .null, .null, .long 0, .int (bI false)])), (q1, .inl (c1, 40, .inl (fun _ => nI 0))), (q2, .inl (c2, 40, .inl (fun _ => nI 0))), (q3, .inl (c3, 40, .inl (fun _ => nI 0)))] := hD
  have hK : va_K D vwCl [(c1, .byte), (c2, .byte), (c3, .byte)] s := hK
  refine W.widen (k := 3) (n := 120) (Nat.le_of_ble_eq_true rfl) (Nat.le_of_ble_eq_true rfl) ?_
  refine va_putF (ci := 0) (C := RX0) (T := TX0) (N := 18) (ty := .array .byte) (v := .ref q3) hx hb hts in_X0 tyX0 tyX0_ok nmX0 hown hK hP hD hS 0 rfl rfl 3 (by decide) (hts _ q38) (fun _ h9 => h9) rfl hin rfl (by decide +kernel) rfl rfl (Nat.le_of_ble_eq_true rfl) dX0_init_25 (fun H locs hP hD hS => ?_)
  have hP : va_P D vwCl [(h0, .inr (0, [.int (nI 0), .ref q1, .ref q2, .ref q3, .null, .long 0, .null, .null, .null, .null, .null, .null, .null, .int (nI 0), .null, .null, .long 0, .int (bI false)])), (q1, .inl (c1, 40, .inl (fun _ => nI 0))), (q2, .inl (c2, 40, .inl (fun _ => nI 0))), (q3, .inl (c3, 40, .inl (fun _ => nI 0)))] H := hP
  have hD : va_D (AI h0 s.heap.size) [(h0, .inr (0, [.int (nI 0), .ref q1, .ref q2, .ref q3, .null, .long 0, .null, .null, .null, .null, .null, .null, .null, .int (nI 0), .null, .null, .long 0, .int (bI false)])), (q1, .inl (c1, 40, .inl (fun _ => nI 0))), (q2, .inl (c2, 40, .inl (fun _ => nI 0))), (q3, .inl (c3, 40, .inl (fun _ => nI 0)))] := hD
  refine lv_aload_n hx hb dX0_init_28 rfl (lv_at hl 0 rfl) ?_
  refine lv_bipush (v := nI 40) hx hb dX0_init_29 (by decide) ?_
  refine va_newa (atype := .byte) (ty := .byte) (N' := 40) (a0 := (40, .inl (fun _ => nI 0))) hx hb (hts _ q90) rfl hK hP hD hS hA (fun _ => rfl) (by decide) (by decide) (by decide) (Nat.le_of_ble_eq_true rfl) (Nat.le_of_ble_eq_true rfl) dX0_init_31 (fun q4 c4 H hK hP hD hS => ?_)
  have hP : va_P D vwCl [(h0, .inr (0, [.int (nI 0), .ref q1, .ref q2, .ref q3, .null, .long 0, .null, .null, .null, .null, .null, .null, .null, .int (nI 0), .null, .null, .long 0, .int (bI false)])), (q1, .inl (c1, 40, .inl (fun _ => nI 0))), (q2, .inl (c2, 40, .inl (fun _ => nI 0))), (q3, .inl (c3, 40, .inl (fun _ => nI 0))), (q4, .inl (c4, 40, .inl (fun _ => nI 0)))] H := hP
  have hD : va_D (AI h0 s.heap.size) [(h0, .inr (0, [.int (nI 0), .ref q1, .ref q2, .ref q3, .null, .long 0, .null, .null, .null, .null, .null, .null, .null, .int (nI 0), .null, .null, .long 0, .int (bI false)])), (q1, .inl (c1, 40, .inl (fun _ => nI 0))), (q2, .inl (c2, 40, .inl (fun _ => nI 0))), (q3, .inl (c3, 40, .inl (fun _ => nI 0))), (q4, .inl (c4, 40, .inl (fun _ => nI 0)))] := hD
  have hK : va_K D vwCl [(c1, .byte), (c2, .byte), (c3, .byte), (c4, .byte)] s := hK
  refine W.widen (k := 4) (n := 160) (Nat.le_of_ble_eq_true rfl) (Nat.le_of_ble_eq_true rfl) ?_
  refine va_putF (ci := 0) (C := RX0) (T := TX0) (N := 18) (ty := .array .byte) (v := .ref q4) hx hb hts in_X0 tyX0 tyX0_ok nmX0 hown hK hP hD hS 0 rfl rfl 4 (by decide) (hts _ q39) (fun _ h9 => h9) rfl hin rfl (by decide +kernel) rfl rfl (Nat.le_of_ble_eq_true rfl) dX0_init_33 (fun H locs hP hD hS => ?_)
  have hP : va_P D vwCl [(h0, .inr (0, [.int (nI 0), .ref q1, .ref q2, .ref q3, .ref q4, .long 0, .null, .null, .null, .null, .null, .null, .null, .int (nI 0), .null, .null, .long 0, .int (bI false)])), (q1, .inl (c1, 40, .inl (fun _ => nI 0))), (q2, .inl (c2, 40, .inl (fun _ => nI 0))), (q3, .inl (c3, 40, .inl (fun _ => nI 0))), (q4, .inl (c4, 40, .inl (fun _ => nI 0)))] H := hP
  have hD : va_D (AI h0 s.heap.size) [(h0, .inr (0, [.int (nI 0), .ref q1, .ref q2, .ref q3, .ref q4, .long 0, .null, .null, .null, .null, .null, .null, .null, .int (nI 0), .null, .null, .long 0, .int (bI false)])), (q1, .inl (c1, 40, .inl (fun _ => nI 0))), (q2, .inl (c2, 40, .inl (fun _ => nI 0))), (q3, .inl (c3, 40, .inl (fun _ => nI 0))), (q4, .inl (c4, 40, .inl (fun _ => nI 0)))] := hD
  refine lv_aload_n hx hb dX0_init_36 rfl (lv_at hl 0 rfl) ?_
  refine lv_bipush (v := nI 12) hx hb dX0_init_37 (by decide) ?_
  refine va_newa (atype := .byte) (ty := .byte) (N' := 12) (a0 := (12, .inl (fun _ => nI 0))) hx hb (hts _ q90) rfl hK hP hD hS hA (fun _ => rfl) (by decide) (by decide) (by decide) (Nat.le_of_ble_eq_true rfl) (Nat.le_of_ble_eq_true rfl) dX0_init_39 (fun q6 c6 H hK hP hD hS => ?_)
  have hP : va_P D vwCl [(h0, .inr (0, [.int (nI 0), .ref q1, .ref q2, .ref q3, .ref q4, .long 0, .null, .null, .null, .null, .null, .null, .null, .int (nI 0), .null, .null, .long 0, .int (bI false)])), (q1, .inl (c1, 40, .inl (fun _ => nI 0))), (q2, .inl (c2, 40, .inl (fun _ => nI 0))), (q3, .inl (c3, 40, .inl (fun _ => nI 0))), (q4, .inl (c4, 40, .inl (fun _ => nI 0))), (q6, .inl (c6, 12, .inl (fun _ => nI 0)))] H := hP
  have hD : va_D (AI h0 s.heap.size) [(h0, .inr (0, [.int (nI 0), .ref q1, .ref q2, .ref q3, .ref q4, .long 0, .null, .null, .null, .null, .null, .null, .null, .int (nI 0), .null, .null, .long 0, .int (bI false)])), (q1, .inl (c1, 40, .inl (fun _ => nI 0))), (q2, .inl (c2, 40, .inl (fun _ => nI 0))), (q3, .inl (c3, 40, .inl (fun _ => nI 0))), (q4, .inl (c4, 40, .inl (fun _ => nI 0))), (q6, .inl (c6, 12, .inl (fun _ => nI 0)))] := hD
  have hK : va_K D vwCl [(c1, .byte), (c2, .byte), (c3, .byte), (c4, .byte), (c6, .byte)] s := hK
  refine W.widen (k := 5) (n := 172) (Nat.le_of_ble_eq_true rfl) (Nat.le_of_ble_eq_true rfl) ?_
  refine va_putF (ci := 0) (C := RX0) (T := TX0) (N := 18) (ty := .array .byte) (v := .ref q6) hx hb hts in_X0 tyX0 tyX0_ok nmX0 hown hK hP hD hS 0 rfl rfl 6 (by decide) (hts _ q41) (fun _ h9 => h9) rfl hin rfl (by decide +kernel) rfl rfl (Nat.le_of_ble_eq_true rfl) dX0_init_41 (fun H locs hP hD hS => ?_)
  have hP : va_P D vwCl [(h0, .inr (0, [.int (nI 0), .ref q1, .ref q2, .ref q3, .ref q4, .long 0, .ref q6, .null, .null, .null, .null, .null, .null, .int (nI 0), .null, .null, .long 0, .int (bI false)])), (q1, .inl (c1, 40, .inl (fun _ => nI 0))), (q2, .inl (c2, 40, .inl (fun _ => nI 0))), (q3, .inl (c3, 40, .inl (fun _ => nI 0))), (q4, .inl (c4, 40, .inl (fun _ => nI 0))), (q6, .inl (c6, 12, .inl (fun _ => nI 0)))] H := hP
  have hD : va_D (AI h0 s.heap.size) [(h0, .inr (0, [.int (nI 0), .ref q1, .ref q2, .ref q3, .ref q4, .long 0, .ref q6, .null, .null, .null, .null, .null, .null, .int (nI 0), .null, .null, .long 0, .int (bI false)])), (q1, .inl (c1, 40, .inl (fun _ => nI 0))), (q2, .inl (c2, 40, .inl (fun _ => nI 0))), (q3, .inl (c3, 40, .inl (fun _ => nI 0))), (q4, .inl (c4, 40, .inl (fun _ => nI 0))), (q6, .inl (c6, 12, .inl (fun _ => nI 0)))] := hD
  refine lv_aload_n hx hb dX0_init_44 rfl (lv_at hl 0 rfl) ?_
  refine lv_bipush (v := nI 12) hx hb dX0_init_45 (by decide) ?_
  refine va_newa (atype := .byte) (ty := .byte) (N' := 12) (a0 := (12, .inl (fun _ => 0))) hx hb (hts _ q90) rfl hK hP hD hS hA (fun _ => rfl) (by decide) (by decide) (by decide) (Nat.le_of_ble_eq_true rfl) (Nat.le_of_ble_eq_true rfl) dX0_init_47 (fun q7 c7 H hK hP hD hS => ?_)
  have hP : va_P D vwCl [(h0, .inr (0, [.int (nI 0), .ref q1, .ref q2, .ref q3, .ref q4, .long 0, .ref q6, .null, .null, .null, .null, .null, .null, .int (nI 0), .null, .null, .long 0, .int (bI false)])), (q1, .inl (c1, 40, .inl (fun _ => nI 0))), (q2, .inl (c2, 40, .inl (fun _ => nI 0))), (q3, .inl (c3, 40, .inl (fun _ => nI 0))), (q4, .inl (c4, 40, .inl (fun _ => nI 0))), (q6, .inl (c6, 12, .inl (fun _ => nI 0))), (q7, .inl (c7, 12, .inl (fun _ => 0)))] H := hP
  have hD : va_D (AI h0 s.heap.size) [(h0, .inr (0, [.int (nI 0), .ref q1, .ref q2, .ref q3, .ref q4, .long 0, .ref q6, .null, .null, .null, .null, .null, .null, .int (nI 0), .null, .null, .long 0, .int (bI false)])), (q1, .inl (c1, 40, .inl (fun _ => nI 0))), (q2, .inl (c2, 40, .inl (fun _ => nI 0))), (q3, .inl (c3, 40, .inl (fun _ => nI 0))), (q4, .inl (c4, 40, .inl (fun _ => nI 0))), (q6, .inl (c6, 12, .inl (fun _ => nI 0))), (q7, .inl (c7, 12, .inl (fun _ => 0)))] := hD
  have hK : va_K D vwCl [(c1, .byte), (c2, .byte), (c3, .byte), (c4, .byte), (c6, .byte), (c7, .byte)] s := hK
  refine W.widen (k := 6) (n := 184) (Nat.le_of_ble_eq_true rfl) (Nat.le_of_ble_eq_true rfl) ?_
  refine va_putF (ci := 0) (C := RX0) (T := TX0) (N := 18) (ty := .array .byte) (v := .ref q7) hx hb hts in_X0 tyX0 tyX0_ok nmX0 hown hK hP hD hS 0 rfl rfl 7 (by decide) (hts _ q42) (fun _ h9 => h9) rfl hin rfl (by decide +kernel) rfl rfl (Nat.le_of_ble_eq_true rfl) dX0_init_49 (fun H locs hP hD hS => ?_)
  have hP : va_P D vwCl [(h0, .inr (0, [.int (nI 0), .ref q1, .ref q2, .ref q3, .ref q4, .long 0, .ref q6, .ref q7, .null, .null, .null, .null, .null, .int (nI 0), .null, .null, .long 0, .int (bI false)])), (q1, .inl (c1, 40, .inl (fun _ => nI 0))), (q2, .inl (c2, 40, .inl (fun _ => nI 0))), (q3, .inl (c3, 40, .inl (fun _ => nI 0))), (q4, .inl (c4, 40, .inl (fun _ => nI 0))), (q6, .inl (c6, 12, .inl (fun _ => nI 0))), (q7, .inl (c7, 12, .inl (fun _ => 0)))] H := hP
  have hD : va_D (AI h0 s.heap.size) [(h0, .inr (0, [.int (nI 0), .ref q1, .ref q2, .ref q3, .ref q4, .long 0, .ref q6, .ref q7, .null, .null, .null, .null, .null, .int (nI 0), .null, .null, .long 0, .int (bI false)])), (q1, .inl (c1, 40, .inl (fun _ => nI 0))), (q2, .inl (c2, 40, .inl (fun _ => nI 0))), (q3, .inl (c3, 40, .inl (fun _ => nI 0))), (q4, .inl (c4, 40, .inl (fun _ => nI 0))), (q6, .inl (c6, 12, .inl (fun _ => nI 0))), (q7, .inl (c7, 12, .inl (fun _ => 0)))] := hD
  refine lv_aload_n hx hb dX0_init_52 rfl (lv_at hl 0 rfl) ?_
  refine lv_bipush (v := nI 12) hx hb dX0_init_53 (by decide) ?_
  refine va_newa (atype := .byte) (ty := .byte) (N' := 12) (a0 := (12, .inl (fun _ => nI 0))) hx hb (hts _ q90) rfl hK hP hD hS hA (fun _ => rfl) (by decide) (by decide) (by decide) (Nat.le_of_ble_eq_true rfl) (Nat.le_of_ble_eq_true rfl) dX0_init_55 (fun q8 c8 H hK hP hD hS => ?_)
  have hP : va_P D vwCl [(h0, .inr (0, [.int (nI 0), .ref q1, .ref q2, .ref q3, .ref q4, .long 0, .ref q6, .ref q7, .null, .null, .null, .null, .null, .int (nI 0), .null, .null, .long 0, .int (bI false)])), (q1, .inl (c1, 40, .inl (fun _ => nI 0))), (q2, .inl (c2, 40, .inl (fun _ => nI 0))), (q3, .inl (c3, 40, .inl (fun _ => nI 0))), (q4, .inl (c4, 40, .inl (fun _ => nI 0))), (q6, .inl (c6, 12, .inl (fun _ => nI 0))), (q7, .inl (c7, 12, .inl (fun _ => 0))), (q8, .inl (c8, 12, .inl (fun _ => nI 0)))] H := hP
  have hD : va_D (AI h0 s.heap.size) [(h0, .inr (0, [.int (nI 0), .ref q1, .ref q2, .ref q3, .ref q4, .long 0, .ref q6, .ref q7, .null, .null, .null, .null, .null, .int (nI 0), .null, .null, .long 0, .int (bI false)])), (q1, .inl (c1, 40, .inl (fun _ => nI 0))), (q2, .inl (c2, 40, .inl (fun _ => nI 0))), (q3, .inl (c3, 40, .inl (fun _ => nI 0))), (q4, .inl (c4, 40, .inl (fun _ => nI 0))), (q6, .inl (c6, 12, .inl (fun _ => nI 0))), (q7, .inl (c7, 12, .inl (fun _ => 0))), (q8, .inl (c8, 12, .inl (fun _ => nI 0)))] := hD
  have hK : va_K D vwCl [(c1, .byte), (c2, .byte), (c3, .byte), (c4, .byte), (c6, .byte), (c7, .byte), (c8, .byte)] s := hK
  refine W.widen (k := 7) (n := 196) (Nat.le_of_ble_eq_true rfl) (Nat.le_of_ble_eq_true rfl) ?_
  refine va_putF (ci := 0) (C := RX0) (T := TX0) (N := 18) (ty := .array .byte) (v := .ref q8) hx hb hts in_X0 tyX0 tyX0_ok nmX0 hown hK hP hD hS 0 rfl rfl 8 (by decide) (hts _ q43) (fun _ h9 => h9) rfl hin rfl (by decide +kernel) rfl rfl (Nat.le_of_ble_eq_true rfl) dX0_init_57 (fun H locs hP hD hS => ?_)
  have hP : va_P D vwCl [(h0, .inr (0, [.int (nI 0), .ref q1, .ref q2, .ref q3, .ref q4, .long 0, .ref q6, .ref q7, .ref q8, .null, .null, .null, .null, .int (nI 0), .null, .null, .long 0, .int (bI false)])), (q1, .inl (c1, 40, .inl (fun _ => nI 0))), (q2, .inl (c2, 40, .inl (fun _ => nI 0))), (q3, .inl (c3, 40, .inl (fun _ => nI 0))), (q4, .inl (c4, 40, .inl (fun _ => nI 0))), (q6, .inl (c6, 12, .inl (fun _ => nI 0))), (q7, .inl (c7, 12, .inl (fun _ => 0))), (q8, .inl (c8, 12, .inl (fun _ => nI 0)))] H := hP
  have hD : va_D (AI h0 s.heap.size) [(h0, .inr (0, [.int (nI 0), .ref q1, .ref q2, .ref q3, .ref q4, .long 0, .ref q6, .ref q7, .ref q8, .null, .null, .null, .null, .int (nI 0), .null, .null, .long 0, .int (bI false)])), (q1, .inl (c1, 40, .inl (fun _ => nI 0))), (q2, .inl (c2, 40, .inl (fun _ => nI 0))), (q3, .inl (c3, 40, .inl (fun _ => nI 0))), (q4, .inl (c4, 40, .inl (fun _ => nI 0))), (q6, .inl (c6, 12, .inl (fun _ => nI 0))), (q7, .inl (c7, 12, .inl (fun _ => 0))), (q8, .inl (c8, 12, .inl (fun _ => nI 0)))] := hD
  refine lv_aload_n hx hb dX0_init_60 rfl (lv_at hl 0 rfl) ?_
  refine lv_bipush (v := nI 12) hx hb dX0_init_61 (by decide) ?_
  refine va_newa (atype := .int) (ty := .int) (N' := 12) (a0 := (12, .inl (fun _ => 0))) hx hb (hts _ q91) rfl hK hP hD hS hA (fun _ => rfl) (by decide) (by decide) (by decide) (Nat.le_of_ble_eq_true rfl) (Nat.le_of_ble_eq_true rfl) dX0_init_63 (fun q9 c9 H hK hP hD hS => ?_)
  have hP : va_P D vwCl [(h0, .inr (0, [.int (nI 0), .ref q1, .ref q2, .ref q3, .ref q4, .long 0, .ref q6, .ref q7, .ref q8, .null, .null, .null, .null, .int (nI 0), .null, .null, .long 0, .int (bI false)])), (q1, .inl (c1, 40, .inl (fun _ => nI 0))), (q2, .inl (c2, 40, .inl (fun _ => nI 0))), (q3, .inl (c3, 40, .inl (fun _ => nI 0))), (q4, .inl (c4, 40, .inl (fun _ => nI 0))), (q6, .inl (c6, 12, .inl (fun _ => nI 0))), (q7, .inl (c7, 12, .inl (fun _ => 0))), (q8, .inl (c8, 12, .inl (fun _ => nI 0))), (q9, .inl (c9, 12, .inl (fun _ => 0)))] H := hP
  have hD : va_D (AI h0 s.heap.size) [(h0, .inr (0, [.int (nI 0), .ref q1, .ref q2, .ref q3, .ref q4, .long 0, .ref q6, .ref q7, .ref q8, .null, .null, .null, .null, .int (nI 0), .null, .null, .long 0, .int (bI false)])), (q1, .inl (c1, 40, .inl (fun _ => nI 0))), (q2, .inl (c2, 40, .inl (fun _ => nI 0))), (q3, .inl (c3, 40, .inl (fun _ => nI 0))), (q4, .inl (c4, 40, .inl (fun _ => nI 0))), (q6, .inl (c6, 12, .inl (fun _ => nI 0))), (q7, .inl (c7, 12, .inl (fun _ => 0))), (q8, .inl (c8, 12, .inl (fun _ => nI 0))), (q9, .inl (c9, 12, .inl (fun _ => 0)))] := hD
  have hK : va_K D vwCl [(c1, .byte), (c2, .byte), (c3, .byte), (c4, .byte), (c6, .byte), (c7, .byte), (c8, .byte), (c9, .int)] s := hK
  refine W.widen (k := 8) (n := 208) (Nat.le_of_ble_eq_true rfl) (Nat.le_of_ble_eq_true rfl) ?_
  refine va_putF (ci := 0) (C := RX0) (T := TX0) (N := 18) (ty := .array .int) (v := .ref q9) hx hb hts in_X0 tyX0 tyX0_ok nmX0 hown hK hP hD hS 0 rfl rfl 9 (by decide) (hts _ q44) (fun _ h9 => h9) rfl hin rfl (by decide +kernel) rfl rfl (Nat.le_of_ble_eq_true rfl) dX0_init_65 (fun H locs hP hD hS => ?_)
  have hP : va_P D vwCl [(h0, .inr (0, [.int (nI 0), .ref q1, .ref q2, .ref q3, .ref q4, .long 0, .ref q6, .ref q7, .ref q8, .ref q9, .null, .null, .null, .int (nI 0), .null, .null, .long 0, .int (bI false)])), (q1, .inl (c1, 40, .inl (fun _ => nI 0))), (q2, .inl (c2, 40, .inl (fun _ => nI 0))), (q3, .inl (c3, 40, .inl (fun _ => nI 0))), (q4, .inl (c4, 40, .inl (fun _ => nI 0))), (q6, .inl (c6, 12, .inl (fun _ => nI 0))), (q7, .inl (c7, 12, .inl (fun _ => 0))), (q8, .inl (c8, 12, .inl (fun _ => nI 0))), (q9, .inl (c9, 12, .inl (fun _ => 0)))] H := hP
  have hD : va_D (AI h0 s.heap.size) [(h0, .inr (0, [.int (nI 0), .ref q1, .ref q2, .ref q3, .ref q4, .long 0, .ref q6, .ref q7, .ref q8, .ref q9, .null, .null, .null, .int (nI 0), .null, .null, .long 0, .int (bI false)])), (q1, .inl (c1, 40, .inl (fun _ => nI 0))), (q2, .inl (c2, 40, .inl (fun _ => nI 0))), (q3, .inl (c3, 40, .inl (fun _ => nI 0))), (q4, .inl (c4, 40, .inl (fun _ => nI 0))), (q6, .inl (c6, 12, .inl (fun _ => nI 0))), (q7, .inl (c7, 12, .inl (fun _ => 0))), (q8, .inl (c8, 12, .inl (fun _ => nI 0))), (q9, .inl (c9, 12, .inl (fun _ => 0)))] := hD
  refine lv_aload_n hx hb dX0_init_68 rfl (lv_at hl 0 rfl) ?_
  refine lv_bipush (v := nI 12) hx hb dX0_init_69 (by decide) ?_
  refine va_newa (atype := .byte) (ty := .byte) (N' := 12) (a0 := (12, .inl (fun _ => nI 0))) hx hb (hts _ q90) rfl hK hP hD hS hA (fun _ => rfl) (by decide) (by decide) (by decide) (Nat.le_of_ble_eq_true rfl) (Nat.le_of_ble_eq_true rfl) dX0_init_71 (fun q10 c10 H hK hP hD hS => ?_)
  have hP : va_P D vwCl [(h0, .inr (0, [.int (nI 0), .ref q1, .ref q2, .ref q3, .ref q4, .long 0, .ref q6, .ref q7, .ref q8, .ref q9, .null, .null, .null, .int (nI 0), .null, .null, .long 0, .int (bI false)])), (q1, .inl (c1, 40, .inl (fun _ => nI 0))), (q2, .inl (c2, 40, .inl (fun _ => nI 0))), (q3, .inl (c3, 40, .inl (fun _ => nI 0))), (q4, .inl (c4, 40, .inl (fun _ => nI 0))), (q6, .inl (c6, 12, .inl (fun _ => nI 0))), (q7, .inl (c7, 12, .inl (fun _ => 0))), (q8, .inl (c8, 12, .inl (fun _ => nI 0))), (q9, .inl (c9, 12, .inl (fun _ => 0))), (q10, .inl (c10, 12, .inl (fun _ => nI 0)))] H := hP
  have hD : va_D (AI h0 s.heap.size) [(h0, .inr (0, [.int (nI 0), .ref q1, .ref q2, .ref q3, .ref q4, .long 0, .ref q6, .ref q7, .ref q8, .ref q9, .null, .null, .null, .int (nI 0), .null, .null, .long 0, .int (bI false)])), (q1, .inl (c1, 40, .inl (fun _ => nI 0))), (q2, .inl (c2, 40, .inl (fun _ => nI 0))), (q3, .inl (c3, 40, .inl (fun _ => nI 0))), (q4, .inl (c4, 40, .inl (fun _ => nI 0))), (q6, .inl (c6, 12, .inl (fun _ => nI 0))), (q7, .inl (c7, 12, .inl (fun _ => 0))), (q8, .inl (c8, 12, .inl (fun _ => nI 0))), (q9, .inl (c9, 12, .inl (fun _ => 0))), (q10, .inl (c10, 12, .inl (fun _ => nI 0)))] := hD
  have hK : va_K D vwCl [(c1, .byte), (c2, .byte), (c3, .byte), (c4, .byte), (c6, .byte), (c7, .byte), (c8, .byte), (c9, .int), (c10, .byte)] s := hK
  refine W.widen (k := 9) (n := 220) (Nat.le_of_ble_eq_true rfl) (Nat.le_of_ble_eq_true rfl) ?_
  refine va_putF (ci := 0) (C := RX0) (T := TX0) (N := 18) (ty := .array .byte) (v := .ref q10) hx hb hts in_X0 tyX0 tyX0_ok nmX0 hown hK hP hD hS 0 rfl rfl 10 (by decide) (hts _ q45) (fun _ h9 => h9) rfl hin rfl (by decide +kernel) rfl rfl (Nat.le_of_ble_eq_true rfl) dX0_init_73 (fun H locs hP hD hS => ?_)
  have hP : va_P D vwCl [(h0, .inr (0, [.int (nI 0), .ref q1, .ref q2, .ref q3, .ref q4, .long 0, .ref q6, .ref q7, .ref q8, .ref q9, .ref q10, .null, .null, .int (nI 0), .null, .null, .long 0, .int (bI false)])), (q1, .inl (c1, 40, .inl (fun _ => nI 0))), (q2, .inl (c2, 40, .inl (fun _ => nI 0))), (q3, .inl (c3, 40, .inl (fun _ => nI 0))), (q4, .inl (c4, 40, .inl (fun _ => nI 0))), (q6, .inl (c6, 12, .inl (fun _ => nI 0))), (q7, .inl (c7, 12, .inl (fun _ => 0))), (q8, .inl (c8, 12, .inl (fun _ => nI 0))), (q9, .inl (c9, 12, .inl (fun _ => 0))), (q10, .inl (c10, 12, .inl (fun _ => nI 0)))] H := hP
  have hD : va_D (AI h0 s.heap.size) [(h0, .inr (0, [.int (nI 0), .ref q1, .ref q2, .ref q3, .ref q4, .long 0, .ref q6, .ref q7, .ref q8, .ref q9, .ref q10, .null, .null, .int (nI 0), .null, .null, .long 0, .int (bI false)])), (q1, .inl (c1, 40, .inl (fun _ => nI 0))), (q2, .inl (c2, 40, .inl (fun _ => nI 0))), (q3, .inl (c3, 40, .inl (fun _ => nI 0))), (q4, .inl (c4, 40, .inl (fun _ => nI 0))), (q6, .inl (c6, 12, .inl (fun _ => nI 0))), (q7, .inl (c7, 12, .inl (fun _ => 0))), (q8, .inl (c8, 12, .inl (fun _ => nI 0))), (q9, .inl (c9, 12, .inl (fun _ => 0))), (q10, .inl (c10, 12, .inl (fun _ => nI 0)))] := hD
  refine lv_aload_n hx hb dX0_init_76 rfl (lv_at hl 0 rfl) ?_
  refine lv_bipush (v := nI 12) hx hb dX0_init_77 (by decide) ?_
  refine va_newa (atype := .byte) (ty := .byte) (N' := 12) (a0 := (12, .inl (fun _ => nI 0))) hx hb (hts _ q90) rfl hK hP hD hS hA (fun _ => rfl) (by decide) (by decide) (by decide) (Nat.le_of_ble_eq_true rfl) (Nat.le_of_ble_eq_true rfl) dX0_init_79 (fun q11 c11 H hK hP hD hS => ?_)
  have hP : va_P D vwCl [(h0, .inr (0, [.int (nI 0), .ref q1, .ref q2, .ref q3, .ref q4, .long 0, .ref q6, .ref q7, .ref q8, .ref q9, .ref q10, .null, .null, .int (nI 0), .null, .null, .long 0, .int (bI false)])), (q1, .inl (c1, 40, .inl (fun _ => nI 0))), (q2, .inl (c2, 40, .inl (fun _ => nI 0))), (q3, .inl (c3, 40, .inl (fun _ => nI 0))), (q4, .inl (c4, 40, .inl (fun _ => nI 0))), (q6, .inl (c6, 12, .inl (fun _ => nI 0))), (q7, .inl (c7, 12, .inl (fun _ => 0))), (q8, .inl (c8, 12, .inl (fun _ => nI 0))), (q9, .inl (c9, 12, .inl (fun _ => 0))), (q10, .inl (c10, 12, .inl (fun _ => nI 0))), (q11, .inl (c11, 12, .inl (fun _ => nI 0)))] H := hP
  have hD : va_D (AI h0 s.heap.size) [(h0, .inr (0, [.int (nI 0), .ref q1, .ref q2, .ref q3, .ref q4, .long 0, .ref q6, .ref q7, .ref q8, .ref q9, .ref q10, .null, .null, .int (nI 0), .null, .null, .long 0, .int (bI false)])), (q1, .inl (c1, 40, .inl (fun _ => nI 0))), (q2, .inl (c2, 40, .inl (fun _ => nI 0))), (q3, .inl (c3, 40, .inl (fun _ => nI 0))), (q4, .inl (c4, 40, .inl (fun _ => nI 0))), (q6, .inl (c6, 12, .inl (fun _ => nI 0))), (q7, .inl (c7, 12, .inl (fun _ => 0))), (q8, .inl (c8, 12, .inl (fun _ => nI 0))), (q9, .inl (c9, 12, .inl (fun _ => 0))), (q10, .inl (c10, 12, .inl (fun _ => nI 0))), (q11, .inl (c11, 12, .inl (fun _ => nI 0)))] := hD
  have hK : va_K D vwCl [(c1, .byte), (c2, .byte), (c3, .byte), (c4, .byte), (c6, .byte), (c7, .byte), (c8, .byte), (c9, .int), (c10, .byte), (c11, .byte)] s := hK
  refine W.widen (k := 10) (n := 232) (Nat.le_of_ble_eq_true rfl) (Nat.le_of_ble_eq_true rfl) ?_
  refine va_putF (ci := 0) (C := RX0) (T := TX0) (N := 18) (ty := .array .byte) (v := .ref q11) hx hb hts in_X0 tyX0 tyX0_ok nmX0 hown hK hP hD hS 0 rfl rfl 11 (by decide) (hts _ q46) (fun _ h9 => h9) rfl hin rfl (by decide +kernel) rfl rfl (Nat.le_of_ble_eq_true rfl) dX0_init_81 (fun H locs hP hD hS => ?_)
  have hP : va_P D vwCl [(h0, .inr (0, [.int (nI 0), .ref q1, .ref q2, .ref q3, .ref q4, .long 0, .ref q6, .ref q7, .ref q8, .ref q9, .ref q10, .ref q11, .null, .int (nI 0), .null, .null, .long 0, .int (bI false)])), (q1, .inl (c1, 40, .inl (fun _ => nI 0))), (q2, .inl (c2, 40, .inl (fun _ => nI 0))), (q3, .inl (c3, 40, .inl (fun _ => nI 0))), (q4, .inl (c4, 40, .inl (fun _ => nI 0))), (q6, .inl (c6, 12, .inl (fun _ => nI 0))), (q7, .inl (c7, 12, .inl (fun _ => 0))), (q8, .inl (c8, 12, .inl (fun _ => nI 0))), (q9, .inl (c9, 12, .inl (fun _ => 0))), (q10, .inl (c10, 12, .inl (fun _ => nI 0))), (q11, .inl (c11, 12, .inl (fun _ => nI 0)))] H := hP
  have hD : va_D (AI h0 s.heap.size) [(h0, .inr (0, [.int (nI 0), .ref q1, .ref q2, .ref q3, .ref q4, .long 0, .ref q6, .ref q7, .ref q8, .ref q9, .ref q10, .ref q11, .null, .int (nI 0), .null, .null, .long 0, .int (bI false)])), (q1, .inl (c1, 40, .inl (fun _ => nI 0))), (q2, .inl (c2, 40, .inl (fun _ => nI 0))), (q3, .inl (c3, 40, .inl (fun _ => nI 0))), (q4, .inl (c4, 40, .inl (fun _ => nI 0))), (q6, .inl (c6, 12, .inl (fun _ => nI 0))), (q7, .inl (c7, 12, .inl (fun _ => 0))), (q8, .inl (c8, 12, .inl (fun _ => nI 0))), (q9, .inl (c9, 12, .inl (fun _ => 0))), (q10, .inl (c10, 12, .inl (fun _ => nI 0))), (q11, .inl (c11, 12, .inl (fun _ => nI 0)))] := hD
  refine lv_aload_n hx hb dX0_init_84 rfl (lv_at hl 0 rfl) ?_
  refine lv_bipush (v := nI 12) hx hb dX0_init_85 (by decide) ?_
  refine va_newa (atype := .long) (ty := .long) (N' := 12) (a0 := (12, .inr (.inl (fun _ => 0)))) hx hb (hts _ q92) rfl hK hP hD hS hA (fun _ => rfl) (by decide) (by decide) (by decide) (Nat.le_of_ble_eq_true rfl) (Nat.le_of_ble_eq_true rfl) dX0_init_87 (fun q12 c12 H hK hP hD hS => ?_)
  have hP : va_P D vwCl [(h0, .inr (0, [.int (nI 0), .ref q1, .ref q2, .ref q3, .ref q4, .long 0, .ref q6, .ref q7, .ref q8, .ref q9, .ref q10, .ref q11, .null, .int (nI 0), .null, .null, .long 0, .int (bI false)])), (q1, .inl (c1, 40, .inl (fun _ => nI 0))), (q2, .inl (c2, 40, .inl (fun _ => nI 0))), (q3, .inl (c3, 40, .inl (fun _ => nI 0))), (q4, .inl (c4, 40, .inl (fun _ => nI 0))), (q6, .inl (c6, 12, .inl (fun _ => nI 0))), (q7, .inl (c7, 12, .inl (fun _ => 0))), (q8, .inl (c8, 12, .inl (fun _ => nI 0))), (q9, .inl (c9, 12, .inl (fun _ => 0))), (q10, .inl (c10, 12, .inl (fun _ => nI 0))), (q11, .inl (c11, 12, .inl (fun _ => nI 0))), (q12, .inl (c12, 12, .inr (.inl (fun _ => 0))))] H := hP
  have hD : va_D (AI h0 s.heap.size) [(h0, .inr (0, [.int (nI 0), .ref q1, .ref q2, .ref q3, .ref q4, .long 0, .ref q6, .ref q7, .ref q8, .ref q9, .ref q10, .ref q11, .null, .int (nI 0), .null, .null, .long 0, .int (bI false)])), (q1, .inl (c1, 40, .inl (fun _ => nI 0))), (q2, .inl (c2, 40, .inl (fun _ => nI 0))), (q3, .inl (c3, 40, .inl (fun _ => nI 0))), (q4, .inl (c4, 40, .inl (fun _ => nI 0))), (q6, .inl (c6, 12, .inl (fun _ => nI 0))), (q7, .inl (c7, 12, .inl (fun _ => 0))), (q8, .inl (c8, 12, .inl (fun _ => nI 0))), (q9, .inl (c9, 12, .inl (fun _ => 0))), (q10, .inl (c10, 12, .inl (fun _ => nI 0))), (q11, .inl (c11, 12, .inl (fun _ => nI 0))), (q12, .inl (c12, 12, .inr (.inl (fun _ => 0))))] := hD
  have hK : va_K D vwCl [(c1, .byte), (c2, .byte), (c3, .byte), (c4, .byte), (c6, .byte), (c7, .byte), (c8, .byte), (c9, .int), (c10, .byte), (c11, .byte), (c12, .long)] s := hK
  refine W.widen (k := 11) (n := 244) (Nat.le_of_ble_eq_true rfl) (Nat.le_of_ble_eq_true rfl) ?_
  refine va_putF (ci := 0) (C := RX0) (T := TX0) (N := 18) (ty := .array .long) (v := .ref q12) hx hb hts in_X0 tyX0 tyX0_ok nmX0 hown hK hP hD hS 0 rfl rfl 12 (by decide) (hts _ q47) (fun _ h9 => h9) rfl hin rfl (by decide +kernel) rfl rfl (Nat.le_of_ble_eq_true rfl) dX0_init_89 (fun H locs hP hD hS => ?_)
  have hP : va_P D vwCl [(h0, .inr (0, [.int (nI 0), .ref q1, .ref q2, .ref q3, .ref q4, .long 0, .ref q6, .ref q7, .ref q8, .ref q9, .ref q10, .ref q11, .ref q12, .int (nI 0), .null, .null, .long 0, .int (bI false)])), (q1, .inl (c1, 40, .inl (fun _ => nI 0))), (q2, .inl (c2, 40, .inl (fun _ => nI 0))), (q3, .inl (c3, 40, .inl (fun _ => nI 0))), (q4, .inl (c4, 40, .inl (fun _ => nI 0))), (q6, .inl (c6, 12, .inl (fun _ => nI 0))), (q7, .inl (c7, 12, .inl (fun _ => 0))), (q8, .inl (c8, 12, .inl (fun _ => nI 0))), (q9, .inl (c9, 12, .inl (fun _ => 0))), (q10, .inl (c10, 12, .inl (fun _ => nI 0))), (q11, .inl (c11, 12, .inl (fun _ => nI 0))), (q12, .inl (c12, 12, .inr (.inl (fun _ => 0))))] H := hP
  have hD : va_D (AI h0 s.heap.size) [(h0, .inr (0, [.int (nI 0), .ref q1, .ref q2, .ref q3, .ref q4, .long 0, .ref q6, .ref q7, .ref q8, .ref q9, .ref q10, .ref q11, .ref q12, .int (nI 0), .null, .null, .long 0, .int (bI false)])), (q1, .inl (c1, 40, .inl (fun _ => nI 0))), (q2, .inl (c2, 40, .inl (fun _ => nI 0))), (q3, .inl (c3, 40, .inl (fun _ => nI 0))), (q4, .inl (c4, 40, .inl (fun _ => nI 0))), (q6, .inl (c6, 12, .inl (fun _ => nI 0))), (q7, .inl (c7, 12, .inl (fun _ => 0))), (q8, .inl (c8, 12, .inl (fun _ => nI 0))), (q9, .inl (c9, 12, .inl (fun _ => 0))), (q10, .inl (c10, 12, .inl (fun _ => nI 0))), (q11, .inl (c11, 12, .inl (fun _ => nI 0))), (q12, .inl (c12, 12, .inr (.inl (fun _ => 0))))] := hD
  refine lv_aload_n hx hb dX0_init_92 rfl (lv_at hl 0 rfl) ?_
  refine lv_bipush (v := nI 40) hx hb dX0_init_93 (by decide) ?_
  refine va_newa (atype := .byte) (ty := .byte) (N' := 40) (a0 := (40, .inl (fun _ => nI 0))) hx hb (hts _ q90) rfl hK hP hD hS hA (fun _ => rfl) (by decide) (by decide) (by decide) (Nat.le_of_ble_eq_true rfl) (Nat.le_of_ble_eq_true rfl) dX0_init_95 (fun q14 c14 H hK hP hD hS => ?_)
  have hP : va_P D vwCl [(h0, .inr (0, [.int (nI 0), .ref q1, .ref q2, .ref q3, .ref q4, .long 0, .ref q6, .ref q7, .ref q8, .ref q9, .ref q10, .ref q11, .ref q12, .int (nI 0), .null, .null, .long 0, .int (bI false)])), (q1, .inl (c1, 40, .inl (fun _ => nI 0))), (q2, .inl (c2, 40, .inl (fun _ => nI 0))), (q3, .inl (c3, 40, .inl (fun _ => nI 0))), (q4, .inl (c4, 40, .inl (fun _ => nI 0))), (q6, .inl (c6, 12, .inl (fun _ => nI 0))), (q7, .inl (c7, 12, .inl (fun _ => 0))), (q8, .inl (c8, 12, .inl (fun _ => nI 0))), (q9, .inl (c9, 12, .inl (fun _ => 0))), (q10, .inl (c10, 12, .inl (fun _ => nI 0))), (q11, .inl (c11, 12, .inl (fun _ => nI 0))), (q12, .inl (c12, 12, .inr (.inl (fun _ => 0)))), (q14, .inl (c14, 40, .inl (fun _ => nI 0)))] H := hP
  have hD : va_D (AI h0 s.heap.size) [(h0, .inr (0, [.int (nI 0), .ref q1, .ref q2, .ref q3, .ref q4, .long 0, .ref q6, .ref q7, .ref q8, .ref q9, .ref q10, .ref q11, .ref q12, .int (nI 0), .null, .null, .long 0, .int (bI false)])), (q1, .inl (c1, 40, .inl (fun _ => nI 0))), (q2, .inl (c2, 40, .inl (fun _ => nI 0))), (q3, .inl (c3, 40, .inl (fun _ => nI 0))), (q4, .inl (c4, 40, .inl (fun _ => nI 0))), (q6, .inl (c6, 12, .inl (fun _ => nI 0))), (q7, .inl (c7, 12, .inl (fun _ => 0))), (q8, .inl (c8, 12, .inl (fun _ => nI 0))), (q9, .inl (c9, 12, .inl (fun _ => 0))), (q10, .inl (c10, 12, .inl (fun _ => nI 0))), (q11, .inl (c11, 12, .inl (fun _ => nI 0))), (q12, .inl (c12, 12, .inr (.inl (fun _ => 0)))), (q14, .inl (c14, 40, .inl (fun _ => nI 0)))] := hD
  have hK : va_K D vwCl [(c1, .byte), (c2, .byte), (c3, .byte), (c4, .byte), (c6, .byte), (c7, .byte), (c8, .byte), (c9, .int), (c10, .byte), (c11, .byte), (c12, .long), (c14, .byte)] s := hK
  refine W.widen (k := 12) (n := 284) (Nat.le_of_ble_eq_true rfl) (Nat.le_of_ble_eq_true rfl) ?_
  refine va_putF (ci := 0) (C := RX0) (T := TX0) (N := 18) (ty := .array .byte) (v := .ref q14) hx hb hts in_X0 tyX0 tyX0_ok nmX0 hown hK hP hD hS 0 rfl rfl 14 (by decide) (hts _ q49) (fun _ h9 => h9) rfl hin rfl (by decide +kernel) rfl rfl (Nat.le_of_ble_eq_true rfl) dX0_init_97 (fun H locs hP hD hS => ?_)
  have hP : va_P D vwCl [(h0, .inr (0, [.int (nI 0), .ref q1, .ref q2, .ref q3, .ref q4, .long 0, .ref q6, .ref q7, .ref q8, .ref q9, .ref q10, .ref q11, .ref q12, .int (nI 0), .ref q14, .null, .long 0, .int (bI false)])), (q1, .inl (c1, 40, .inl (fun _ => nI 0))), (q2, .inl (c2, 40, .inl (fun _ => nI 0))), (q3, .inl (c3, 40, .inl (fun _ => nI 0))), (q4, .inl (c4, 40, .inl (fun _ => nI 0))), (q6, .inl (c6, 12, .inl (fun _ => nI 0))), (q7, .inl (c7, 12, .inl (fun _ => 0))), (q8, .inl (c8, 12, .inl (fun _ => nI 0))), (q9, .inl (c9, 12, .inl (fun _ => 0))), (q10, .inl (c10, 12, .inl (fun _ => nI 0))), (q11, .inl (c11, 12, .inl (fun _ => nI 0))), (q12, .inl (c12, 12, .inr (.inl (fun _ => 0)))), (q14, .inl (c14, 40, .inl (fun _ => nI 0)))] H := hP
  have hD : va_D (AI h0 s.heap.size) [(h0, .inr (0, [.int (nI 0), .ref q1, .ref q2, .ref q3, .ref q4, .long 0, .ref q6, .ref q7, .ref q8, .ref q9, .ref q10, .ref q11, .ref q12, .int (nI 0), .ref q14, .null, .long 0, .int (bI false)])), (q1, .inl (c1, 40, .inl (fun _ => nI 0))), (q2, .inl (c2, 40, .inl (fun _ => nI 0))), (q3, .inl (c3, 40, .inl (fun _ => nI 0))), (q4, .inl (c4, 40, .inl (fun _ => nI 0))), (q6, .inl (c6, 12, .inl (fun _ => nI 0))), (q7, .inl (c7, 12, .inl (fun _ => 0))), (q8, .inl (c8, 12, .inl (fun _ => nI 0))), (q9, .inl (c9, 12, .inl (fun _ => 0))), (q10, .inl (c10, 12, .inl (fun _ => nI 0))), (q11, .inl (c11, 12, .inl (fun _ => nI 0))), (q12, .inl (c12, 12, .inr (.inl (fun _ => 0)))), (q14, .inl (c14, 40, .inl (fun _ => nI 0)))] := hD
  refine lv_aload_n hx hb dX0_init_100 rfl (lv_at hl 0 rfl) ?_
  refine lv_bipush (v := nI 40) hx hb dX0_init_101 (by decide) ?_
  refine va_newa (atype := .byte) (ty := .byte) (N' := 40) (a0 := (40, .inl (fun _ => nI 0))) hx hb (hts _ q90) rfl hK hP hD hS hA (fun _ => rfl) (by decide) (by decide) (by decide) (Nat.le_of_ble_eq_true rfl) (Nat.le_of_ble_eq_true rfl) dX0_init_103 (fun q15 c15 H hK hP hD hS => ?_)
  have hP : va_P D vwCl [(h0, .inr (0, [.int (nI 0), .ref q1, .ref q2, .ref q3, .ref q4, .long 0, .ref q6, .ref q7, .ref q8, .ref q9, .ref q10, .ref q11, .ref q12, .int (nI 0), .ref q14, .null, .long 0, .int (bI false)])), (q1, .inl (c1, 40, .inl (fun _ => nI 0))), (q2, .inl (c2, 40, .inl (fun _ => nI 0))), (q3, .inl (c3, 40, .inl (fun _ => nI 0))), (q4, .inl (c4, 40, .inl (fun _ => nI 0))), (q6, .inl (c6, 12, .inl (fun _ => nI 0))), (q7, .inl (c7, 12, .inl (fun _ => 0))), (q8, .inl (c8, 12, .inl (fun _ => nI 0))), (q9, .inl (c9, 12, .inl (fun _ => 0))), (q10, .inl (c10, 12, .inl (fun _ => nI 0))), (q11, .inl (c11, 12, .inl (fun _ => nI 0))), (q12, .inl (c12, 12, .inr (.inl (fun _ => 0)))), (q14, .inl (c14, 40, .inl (fun _ => nI 0))), (q15, .inl (c15, 40, .inl (fun _ => nI 0)))] H := hP
  have hD : va_D (AI h0 s.heap.size) [(h0, .inr (0, [.int (nI 0), .ref q1, .ref q2, .ref q3, .ref q4, .long 0, .ref q6, .ref q7, .ref q8, .ref q9, .ref q10, .ref q11, .ref q12, .int (nI 0), .ref q14, .null, .long 0, .int (bI false)])), (q1, .inl (c1, 40, .inl (fun _ => nI 0))), (q2, .inl (c2, 40, .inl (fun _ => nI 0))), (q3, .inl (c3, 40, .inl (fun _ => nI 0))), (q4, .inl (c4, 40, .inl (fun _ => nI 0))), (q6, .inl (c6, 12, .inl (fun _ => nI 0))), (q7, .inl (c7, 12, .inl (fun _ => 0))), (q8, .inl (c8, 12, .inl (fun _ => nI 0))), (q9, .inl (c9, 12, .inl (fun _ => 0))), (q10, .inl (c10, 12, .inl (fun _ => nI 0))), (q11, .inl (c11, 12, .inl (fun _ => nI 0))), (q12, .inl (c12, 12, .inr (.inl (fun _ => 0)))), (q14, .inl (c14, 40, .inl (fun _ => nI 0))), (q15, .inl (c15, 40, .inl (fun _ => nI 0)))] := hD
  have hK : va_K D vwCl [(c1, .byte), (c2, .byte), (c3, .byte), (c4, .byte), (c6, .byte), (c7, .byte), (c8, .byte), (c9, .int), (c10, .byte), (c11, .byte), (c12, .long), (c14, .byte), (c15, .byte)] s := hK
  refine W.widen (k := 13) (n := 324) (Nat.le_of_ble_eq_true rfl) (Nat.le_of_ble_eq_true rfl) ?_
  refine va_putF (ci := 0) (C := RX0) (T := TX0) (N := 18) (ty := .array .byte) (v := .ref q15) hx hb hts in_X0 tyX0 tyX0_ok nmX0 hown hK hP hD hS 0 rfl rfl 15 (by decide) (hts _ q50) (fun _ h9 => h9) rfl hin rfl (by decide +kernel) rfl rfl (Nat.le_of_ble_eq_true rfl) dX0_init_105 (fun H locs hP hD hS => ?_)
  have hP : va_P D vwCl [(h0, .inr (0, [.int (nI 0), .ref q1, .ref q2, .ref q3, .ref q4, .long 0, .ref q6, .ref q7, .ref q8, .ref q9, .ref q10, .ref q11, .ref q12, .int (nI 0), .ref q14, .ref q15, .long 0, .int (bI false)])), (q1, .inl (c1, 40, .inl (fun _ => nI 0))), (q2, .inl (c2, 40, .inl (fun _ => nI 0))), (q3, .inl (c3, 40, .inl (fun _ => nI 0))), (q4, .inl (c4, 40, .inl (fun _ => nI 0))), (q6, .inl (c6, 12, .inl (fun _ => nI 0))), (q7, .inl (c7, 12, .inl (fun _ => 0))), (q8, .inl (c8, 12, .inl (fun _ => nI 0))), (q9, .inl (c9, 12, .inl (fun _ => 0))), (q10, .inl (c10, 12, .inl (fun _ => nI 0))), (q11, .inl (c11, 12, .inl (fun _ => nI 0))), (q12, .inl (c12, 12, .inr (.inl (fun _ => 0)))), (q14, .inl (c14, 40, .inl (fun _ => nI 0))), (q15, .inl (c15, 40, .inl (fun _ => nI 0)))] H := hP
  have hD : va_D (AI h0 s.heap.size) [(h0, .inr (0, [.int (nI 0), .ref q1, .ref q2, .ref q3, .ref q4, .long 0, .ref q6, .ref q7, .ref q8, .ref q9, .ref q10, .ref q11, .ref q12, .int (nI 0), .ref q14, .ref q15, .long 0, .int (bI false)])), (q1, .inl (c1, 40, .inl (fun _ => nI 0))), (q2, .inl (c2, 40, .inl (fun _ => nI 0))), (q3, .inl (c3, 40, .inl (fun _ => nI 0))), (q4, .inl (c4, 40, .inl (fun _ => nI 0))), (q6, .inl (c6, 12, .inl (fun _ => nI 0))), (q7, .inl (c7, 12, .inl (fun _ => 0))), (q8, .inl (c8, 12, .inl (fun _ => nI 0))), (q9, .inl (c9, 12, .inl (fun _ => 0))), (q10, .inl (c10, 12, .inl (fun _ => nI 0))), (q11, .inl (c11, 12, .inl (fun _ => nI 0))), (q12, .inl (c12, 12, .inr (.inl (fun _ => 0)))), (q14, .inl (c14, 40, .inl (fun _ => nI 0))), (q15, .inl (c15, 40, .inl (fun _ => nI 0)))] := hD
  obtain ⟨h, hh⟩ : ∃ h : Nat → Nat, h = fun k => match k with | 1 => q1 | 2 => q2 | 3 => q3 | 4 => q4 | 6 => q6 | 7 => q7 | 8 => q8 | 9 => q9 | 10 => q10 | 11 => q11 | 12 => q12 | 14 => q14 | 15 => q15 | _ => h0 := ⟨_, rfl⟩
  obtain ⟨dA, hdA⟩ : ∃ dA : Nat → ClassId, dA = fun k => match k with | 1 => c1 | 2 => c2 | 3 => c3 | 4 => c4 | 6 => c6 | 7 => c7 | 8 => c8 | 9 => c9 | 10 => c10 | 11 => c11 | 12 => c12 | 14 => c14 | 15 => c15 | _ => c1 := ⟨_, rfl⟩
  have hP : va_P D vwCl (wX h dA (fun _ => 0) x00) H := by rw [hh, hdA]; exact hP
  have hD0 : va_D (AI h0 s.heap.size) (wX h dA (fun _ => 0) x00) := by rw [hh, hdA]; exact hD
  have hD1 : va_D (AX h) (wX h dA (fun _ => 0) x00) := hD0.weaken (fun k q hk _ => wX_in k q hk)
  have hK : va_K D vwCl (tX dA) s := by rw [hdA]; exact hK
  have hh00 : h 0 = h0 := congrFun hh 0
  have hall : ∀ (L : Nat → Nat) (v : XSt) (k : Nat), k < 18 → ∃ (j : Nat) (e : va_E), (wX h dA L v)[j]? = some (h k, e) := by
    intro L v k hk
    rcases (show k = 0 ∨ k = 1 ∨ k = 2 ∨ k = 3 ∨ k = 4 ∨ k = 5 ∨ k = 6 ∨ k = 7 ∨ k = 8 ∨ k = 9 ∨ k = 10 ∨ k = 11 ∨ k = 12 ∨ k = 13 ∨ k = 14 ∨ k = 15 ∨ k = 16 ∨ k = 17 by omega) with rfl | rfl | rfl | rfl | rfl | rfl | rfl | rfl | rfl | rfl | rfl | rfl | rfl | rfl | rfl | rfl | rfl | rfl
    · exact ⟨0, _, rfl⟩
    · exact ⟨1, _, rfl⟩
    · exact ⟨2, _, rfl⟩
    · exact ⟨3, _, rfl⟩
    · exact ⟨4, _, rfl⟩
    · rw [(congrFun hh 5).trans hh00.symm]; exact ⟨0, _, rfl⟩
    · exact ⟨5, _, rfl⟩
    · exact ⟨6, _, rfl⟩
    · exact ⟨7, _, rfl⟩
    · exact ⟨8, _, rfl⟩
    · exact ⟨9, _, rfl⟩
    · exact ⟨10, _, rfl⟩
    · exact ⟨11, _, rfl⟩
    · rw [(congrFun hh 13).trans hh00.symm]; exact ⟨0, _, rfl⟩
    · exact ⟨12, _, rfl⟩
    · exact ⟨13, _, rfl⟩
    · rw [(congrFun hh 16).trans hh00.symm]; exact ⟨0, _, rfl⟩
    · rw [(congrFun hh 17).trans hh00.symm]; exact ⟨0, _, rfl⟩
  have hqA : ∀ k, k < 18 → AI h0 s.heap.size (h k) := fun k hk => by
    obtain ⟨j, e, q⟩ := hall (fun _ => 0) x00 k hk
    exact hD0.2 j _ q
  have hAA : ∀ q, AX h q → AI h0 s.heap.size q := fun q ⟨k, hk, e⟩ => by rw [e]; exact hqA k hk
  refine lv_aload_n hx hb dX0_init_108 rfl (lv_at hl 0 rfl) ?_
  have hrec := va_recv hK hP (ci := 0) (q0 := 0) rfl rfl
  rw [hh00] at hrec
  have hM := mX_restart l D h dA (fun _ => 0) x00 x00_r
  have hbl : FrameBlind (XPc D h dA (fun _ => 0) x00 []) := XB.blind
  have hst : ∀ U : State, U.heap = H → s.vm.Alike U.vm → XPc D h dA (fun _ => 0) x00 [] [.ref h0].toArray U := fun U hU hw => ⟨by rw [hh00], by rw [hU]; exact hP, hD1, va_K.moved hw hK⟩
  refine va_callv (va_runV (cc := cX0_init) (nL := 1) (Ts := lw_all) (own := RX0) (C := RX0) (b := h0) (As := []) (rest := []) (index := 51) (n := 0) (g := F0 m 109 ls [.ref h0]) ⟨hx, hb, hml, hown, hts⟩ hM (cwV 0 hts (lw_V cbX_restart.1 cbX_restart.2.1 cbX_restart.2.2.1 cbX_restart.2.2.2.1 cbX_restart.2.2.2.2.1) rfl rfl rfl cbX_restart.2.2.2.2.2 ⟨Nat.le_of_ble_eq_true rfl, Nat.le_of_ble_eq_true rfl⟩) ⟨hbl, hrec, fun U hU hw => hst U hU hw.alike⟩ rfl rfl hl.1 rfl (lv_room (Nat.le_of_ble_eq_true rfl)) dX0_init_109 ⟨Nat.le_of_ble_eq_true rfl, Nat.le_of_ble_eq_true rfl⟩) hS (fun q _ hq => hAA q hq) hAA (fun u1 t H1 locs1 ht hvm hp hB hz hk hS => ?_)
  obtain ⟨hP1, hD2, hK2⟩ := hB
  rw [ht] at hP1
  refine W.widen (k := 13) (n := 324) (Nat.le_of_ble_eq_true rfl) (Nat.le_of_ble_eq_true rfl) ?_
  exact W.vret hx hb hr (fun t ht hw => ⟨⟨(h, dA, u1.1, u1.2), rfl, ⟨hh00, hqA, hp.1, hp.2⟩, ⟨by rw [ht]; exact hP1, hD2, va_K.moved hw.alike hK⟩, fun k hk => hall u1.1 u1.2 k hk⟩, hS.F ht⟩) hS.2.2 dX0_init_112 hlocks
end
section
set_option maxRecDepth 100000
theorem wY_in {h : Nat → Nat} {dA : Nat → ClassId} {u : YSt} : ∀ (k : Nat) (q : Nat × va_E), (wY h dA u)[k]? = some q → AY h q.1 := by
  intro k q hq
  have hm := List.mem_of_getElem? hq
  unfold wY at hm
  simp only [List.mem_cons, List.not_mem_nil, or_false] at hm
  rcases hm with e | e | e | e | e | e | e | e | e | e | e
  · rw [e]; exact ⟨0, by decide, rfl⟩
  · rw [e]; exact ⟨1, by decide, rfl⟩
  · rw [e]; exact ⟨2, by decide, rfl⟩
  · rw [e]; exact ⟨3, by decide, rfl⟩
  · rw [e]; exact ⟨4, by decide, rfl⟩
  · rw [e]; exact ⟨5, by decide, rfl⟩
  · rw [e]; exact ⟨6, by decide, rfl⟩
  · rw [e]; exact ⟨7, by decide, rfl⟩
  · rw [e]; exact ⟨8, by decide, rfl⟩
  · rw [e]; exact ⟨9, by decide, rfl⟩
  · rw [e]; exact ⟨10, by decide, rfl⟩
def fY00 : List Value := [.int (nI 0), .null, .null, .null, .null, .null, .null, .null, .null, .null, .null, .int (bI false), .int (bI false)]
def y00 : YSt := ((0), (fun _ => 0), (fun _ => 0), (fun _ => 0), (fun _ => 0), (fun _ => 0), (fun _ => false), (fun _ => 0), (fun _ => false), (fun _ => 0), (fun _ => 0), (false), (false))
theorem y00_r : YSr y00 := ⟨Nat.zero_le _, fun _ => z12, fun _ => z12, fun _ => z12, fun _ => z8, fun _ => z12, fun i hi => absurd hi (Nat.not_lt_zero _)⟩
def rmYI : Room := { frames := 5, cells := 10, slots := 232, locals := 150 }
def IY : Type := (Nat → Nat) × (Nat → ClassId) × YSt
def IYp (h0 sz : Nat) (q : IY) : Prop := q.1 0 = h0 ∧ (∀ k, k < 18 → AI h0 sz (q.1 k)) ∧ YOk q.2.2 ∧ q.2.2.n = 0 ∧ q.2.2.bk = false
def IYb (D : va_G) (q : IY) (t : State) : Prop := YB D q.1 q.2.1 q.2.2 t ∧ ∀ k : Nat, k < 18 → ∃ (j : Nat) (e : va_E), (wY q.1 q.2.1 q.2.2)[j]? = some (q.1 k, e)
set_option maxHeartbeats 4000000 in
set_option maxRecDepth 100000 in
/-- the constructor of X1 -/
theorem mY_init (l : Launch) (D : va_G) (h0 sz : Nat) : Met l yX1_init (ws_ yX1_init cX1_init 1 none) rmYI (va_Pc [.ref h0] (fun U => U.heap.size = sz ∧ va_P D vwCl [(h0, .inr (1, fY00))] U.heap ∧ va_K D vwCl [] U)) (va_Qv (IYp h0 sz) (IYb D) (AI h0 sz)) 10 232 (AI h0 sz) := by
  refine Met.ofW (cc := cX1_init) (maxL := 1) (ret := none) (by decide) rfl ?_
  intro p e s m args below meth c s₁ B hml hv
  obtain ⟨rfl, hsz, hP, hK⟩ := hv
  have hx := B.exec
  have hb := B.bytes
  have hr := B.returns
  have hts := atoms_spec (ws := ws_ yX1_init cX1_init 1 none) B.pre
  have hts : ∀ w ∈ lw_all, w.before _ s = true := fun w h => hts w (List.mem_cons_of_mem _ h)
  have hown : s.vm.findClass RX1 = some m.cls := findClass_of_methodNamed B.named
  have hlocks := B.notSynchronized
  have hin : meth.name = "<init>" := (name_of_methodNamed B.named B.method).1
  subst hsz
  have hh0 : h0 < s.heap.size := (hP 0 _ rfl).lt
  have hA : ∀ q : Nat, s.heap.size ≤ q → AI h0 s.heap.size q := fun q h => Or.inr h
  have hS : va_S (AI h0 s.heap.size) s.heap s.heap [] := va_S.rf
  have hl := lv_entry ([.ref h0]) (n := 1) (Nat.le_of_ble_eq_true rfl)
  rw [lg_entry_eq]
  generalize (lg_sl ([.ref h0]) ++ List.replicate (1 - (lg_sl ([.ref h0])).length) Slot.unset).toArray = ls at hl ⊢
  have hl : lv_has ls 1 [(0, .ref h0)] := hl
  have hP : va_P D vwCl [(h0, .inr (1, [.int (nI 0), .null, .null, .null, .null, .null, .null, .null, .null, .null, .null, .int (bI false), .int (bI false)]))] s.heap := hP
  have hD : va_D (AI h0 s.heap.size) [(h0, .inr (1, [.int (nI 0), .null, .null, .null, .null, .null, .null, .null, .null, .null, .null, .int (bI false), .int (bI false)]))] := va_D_one (Or.inl rfl)
  refine lv_aload_n hx hb dX1_init_0 rfl (lv_at hl 0 rfl) ?_
  refine W.objInit hx hb hown (hts _ q179) (hts _ q29) (hts _ q30) rfl (by rw [hml]; exact hl.1) rfl dX1_init_1 (Nat.le_of_ble_eq_true rfl) (Nat.le_of_ble_eq_true rfl) ?_
  refine W.eq (g2 := F0 m 4 ls []) rfl ?_
  refine lv_aload_n hx hb dX1_init_4 rfl (lv_at hl 0 rfl) ?_
  refine lv_iconst (v := nI 0) hx hb dX1_init_5 (by decide) ?_
  refine va_put (ci := 1) (C := RX1) (T := TX1) (N := 13) (ty := .int) (v := .int (nI 0)) hx hb hts in_X1 tyX1 tyX1_ok nmX1 hown hK hP hD hS 0 rfl rfl 0 (by decide) (hts _ q204) (fun _ h9 => h9) rfl (by decide +kernel) rfl rfl (Nat.le_of_ble_eq_true rfl) dX1_init_6 (fun H locs hP hD hS => ?_)
  have hP : va_P D vwCl [(h0, .inr (1, [.int (nI 0), .null, .null, .null, .null, .null, .null, .null, .null, .null, .null, .int (bI false), .int (bI false)]))] H := hP
  have hD : va_D (AI h0 s.heap.size) [(h0, .inr (1, [.int (nI 0), .null, .null, .null, .null, .null, .null, .null, .null, .null, .null, .int (bI false), .int (bI false)]))] := hD
  refine lv_aload_n hx hb dX1_init_9 rfl (lv_at hl 0 rfl) ?_
  refine lv_bipush (v := nI 40) hx hb dX1_init_10 (by decide) ?_
  refine va_newa (atype := .int) (ty := .int) (N' := 40) (a0 := (40, .inl (fun _ => nI 0))) hx hb (hts _ q91) rfl hK hP hD hS hA (fun _ => rfl) (by decide) (by decide) (by decide) (Nat.le_of_ble_eq_true rfl) (Nat.le_of_ble_eq_true rfl) dX1_init_12 (fun q1 c1 H hK hP hD hS => ?_)
  have hP : va_P D vwCl [(h0, .inr (1, [.int (nI 0), .null, .null, .null, .null, .null, .null, .null, .null, .null, .null, .int (bI false), .int (bI false)])), (q1, .inl (c1, 40, .inl (fun _ => nI 0)))] H := hP
  have hD : va_D (AI h0 s.heap.size) [(h0, .inr (1, [.int (nI 0), .null, .null, .null, .null, .null, .null, .null, .null, .null, .null, .int (bI false), .int (bI false)])), (q1, .inl (c1, 40, .inl (fun _ => nI 0)))] := hD
  have hK : va_K D vwCl [(c1, .int)] s := hK
  refine W.widen (k := 1) (n := 40) (Nat.le_of_ble_eq_true rfl) (Nat.le_of_ble_eq_true rfl) ?_
  refine va_put (ci := 1) (C := RX1) (T := TX1) (N := 13) (ty := .array .int) (v := .ref q1) hx hb hts in_X1 tyX1 tyX1_ok nmX1 hown hK hP hD hS 0 rfl rfl 1 (by decide) (hts _ q205) (fun _ h9 => h9) rfl (by decide +kernel) rfl rfl (Nat.le_of_ble_eq_true rfl) dX1_init_14 (fun H locs hP hD hS => ?_)
  have hP : va_P D vwCl [(h0, .inr (1, [.int (nI 0), .ref q1, .null, .null, .null, .null, .null, .null, .null, .null, .null, .int (bI false), .int (bI false)])), (q1, .inl (c1, 40, .inl (fun _ => nI 0)))] H := hP
  have hD : va_D (AI h0 s.heap.size) [(h0, .inr (1, [.int (nI 0), .ref q1, .null, .null, .null, .null, .null, .null, .null, .null, .null, .int (bI false), .int (bI false)])), (q1, .inl (c1, 40, .inl (fun _ => nI 0)))] := hD
  refine lv_aload_n hx hb dX1_init_17 rfl (lv_at hl 0 rfl) ?_
  refine lv_bipush (v := nI 40) hx hb dX1_init_18 (by decide) ?_
  refine va_newa (atype := .int) (ty := .int) (N' := 40) (a0 := (40, .inl (fun _ => nI 0))) hx hb (hts _ q91) rfl hK hP hD hS hA (fun _ => rfl) (by decide) (by decide) (by decide) (Nat.le_of_ble_eq_true rfl) (Nat.le_of_ble_eq_true rfl) dX1_init_20 (fun q2 c2 H hK hP hD hS => ?_)
  have hP : va_P D vwCl [(h0, .inr (1, [.int (nI 0), .ref q1, .null, .null, .null, .null, .null, .null, .null, .null, .null, .int (bI false), .int (bI false)])), (q1, .inl (c1, 40, .inl (fun _ => nI 0))), (q2, .inl (c2, 40, .inl (fun _ => nI 0)))] H := hP
  have hD : va_D (AI h0 s.heap.size) [(h0, .inr (1, [.int (nI 0), .ref q1, .null, .null, .null, .null, .null, .null, .null, .null, .null, .int (bI false), .int (bI false)])), (q1, .inl (c1, 40, .inl (fun _ => nI 0))), (q2, .inl (c2, 40, .inl (fun _ => nI 0)))] := hD
  have hK : va_K D vwCl [(c1, .int), (c2, .int)] s := hK
  refine W.widen (k := 2) (n := 80) (Nat.le_of_ble_eq_true rfl) (Nat.le_of_ble_eq_true rfl) ?_
  refine va_put (ci := 1) (C := RX1) (T := TX1) (N := 13) (ty := .array .int) (v := .ref q2) hx hb hts in_X1 tyX1 tyX1_ok nmX1 hown hK hP hD hS 0 rfl rfl 2 (by decide) (hts _ q206) (fun _ h9 => h9) rfl (by decide +kernel) rfl rfl (Nat.le_of_ble_eq_true rfl) dX1_init_22 (fun H locs hP hD hS => ?_)
  have hP : va_P D vwCl [(h0, .inr (1, [.int (nI 0), .ref q1, .ref q2, .null, .null, .null, .null, .null, .null, .null, .null, .int (bI false), .int (bI false)])), (q1, .inl (c1, 40, .inl (fun _ => nI 0))), (q2, .inl (c2, 40, .inl (fun _ => nI 0)))] H := hP
  have hD : va_D (AI h0 s.heap.size) [(h0, .inr (1, [.int (nI 0), .ref q1, .ref q2, .null, .null, .null, .null, .null, .null, .null, .null, .int (bI false), .int (bI false)])), (q1, .inl (c1, 40, .inl (fun _ => nI 0))), (q2, .inl (c2, 40, .inl (fun _ => nI 0)))] := hD
  refine lv_aload_n hx hb dX1_init_25 rfl (lv_at hl 0 rfl) ?_
  refine lv_bipush (v := nI 40) hx hb dX1_init_26 (by decide) ?_
  refine va_newa (atype := .int) (ty := .int) (N' := 40) (a0 := (40, .inl (fun _ => 0))) hx hb (hts _ q91) rfl hK hP hD hS hA (fun _ => rfl) (by decide) (by decide) (by decide) (Nat.le_of_ble_eq_true rfl) (Nat.le_of_ble_eq_true rfl) dX1_init_28 (fun q3 c3 H hK hP hD hS => ?_)
  have hP : va_P D vwCl [(h0, .inr (1, [.int (nI 0), .ref q1, .ref q2, .null, .null, .null, .null, .null, .null, .null, .null, .int (bI false), .int (bI false)])), (q1, .inl (c1, 40, .inl (fun _ => nI 0))), (q2, .inl (c2, 40, .inl (fun _ => nI 0))), (q3, .inl (c3, 40, .inl (fun _ => 0)))] H := hP
  have hD : va_D (AI h0 s.heap.size) [(h0, .inr (1, [.int (nI 0), .ref q1, .ref q2, .null, .null, .null, .null, .null, .null, .null, .null, .int (bI false), .int (bI false)])), (q1, .inl (c1, 40, .inl (fun _ => nI 0))), (q2, .inl (c2, 40, .inl (fun _ => nI 0))), (q3, .inl (c3, 40, .inl (fun _ => 0)))] := hD
  have hK : va_K D vwCl [(c1, .int), (c2, .int), (c3, .int)] s := hK
  refine W.widen (k := 3) (n := 120) (Nat.le_of_ble_eq_true rfl) (Nat.le_of_ble_eq_true rfl) ?_
  refine va_put (ci := 1) (C := RX1) (T := TX1) (N := 13) (ty := .array .int) (v := .ref q3) hx hb hts in_X1 tyX1 tyX1_ok nmX1 hown hK hP hD hS 0 rfl rfl 3 (by decide) (hts _ q207) (fun _ h9 => h9) rfl (by decide +kernel) rfl rfl (Nat.le_of_ble_eq_true rfl) dX1_init_30 (fun H locs hP hD hS => ?_)
  have hP : va_P D vwCl [(h0, .inr (1, [.int (nI 0), .ref q1, .ref q2, .ref q3, .null, .null, .null, .null, .null, .null, .null, .int (bI false), .int (bI false)])), (q1, .inl (c1, 40, .inl (fun _ => nI 0))), (q2, .inl (c2, 40, .inl (fun _ => nI 0))), (q3, .inl (c3, 40, .inl (fun _ => 0)))] H := hP
  have hD : va_D (AI h0 s.heap.size) [(h0, .inr (1, [.int (nI 0), .ref q1, .ref q2, .ref q3, .null, .null, .null, .null, .null, .null, .null, .int (bI false), .int (bI false)])), (q1, .inl (c1, 40, .inl (fun _ => nI 0))), (q2, .inl (c2, 40, .inl (fun _ => nI 0))), (q3, .inl (c3, 40, .inl (fun _ => 0)))] := hD
  refine lv_aload_n hx hb dX1_init_33 rfl (lv_at hl 0 rfl) ?_
  refine lv_bipush (v := nI 40) hx hb dX1_init_34 (by decide) ?_
  refine va_newa (atype := .int) (ty := .int) (N' := 40) (a0 := (40, .inl (fun _ => 0))) hx hb (hts _ q91) rfl hK hP hD hS hA (fun _ => rfl) (by decide) (by decide) (by decide) (Nat.le_of_ble_eq_true rfl) (Nat.le_of_ble_eq_true rfl) dX1_init_36 (fun q4 c4 H hK hP hD hS => ?_)
  have hP : va_P D vwCl [(h0, .inr (1, [.int (nI 0), .ref q1, .ref q2, .ref q3, .null, .null, .null, .null, .null, .null, .null, .int (bI false), .int (bI false)])), (q1, .inl (c1, 40, .inl (fun _ => nI 0))), (q2, .inl (c2, 40, .inl (fun _ => nI 0))), (q3, .inl (c3, 40, .inl (fun _ => 0))), (q4, .inl (c4, 40, .inl (fun _ => 0)))] H := hP
  have hD : va_D (AI h0 s.heap.size) [(h0, .inr (1, [.int (nI 0), .ref q1, .ref q2, .ref q3, .null, .null, .null, .null, .null, .null, .null, .int (bI false), .int (bI false)])), (q1, .inl (c1, 40, .inl (fun _ => nI 0))), (q2, .inl (c2, 40, .inl (fun _ => nI 0))), (q3, .inl (c3, 40, .inl (fun _ => 0))), (q4, .inl (c4, 40, .inl (fun _ => 0)))] := hD
  have hK : va_K D vwCl [(c1, .int), (c2, .int), (c3, .int), (c4, .int)] s := hK
  refine W.widen (k := 4) (n := 160) (Nat.le_of_ble_eq_true rfl) (Nat.le_of_ble_eq_true rfl) ?_
  refine va_put (ci := 1) (C := RX1) (T := TX1) (N := 13) (ty := .array .int) (v := .ref q4) hx hb hts in_X1 tyX1 tyX1_ok nmX1 hown hK hP hD hS 0 rfl rfl 4 (by decide) (hts _ q208) (fun _ h9 => h9) rfl (by decide +kernel) rfl rfl (Nat.le_of_ble_eq_true rfl) dX1_init_38 (fun H locs hP hD hS => ?_)
  have hP : va_P D vwCl [(h0, .inr (1, [.int (nI 0), .ref q1, .ref q2, .ref q3, .ref q4, .null, .null, .null, .null, .null, .null, .int (bI false), .int (bI false)])), (q1, .inl (c1, 40, .inl (fun _ => nI 0))), (q2, .inl (c2, 40, .inl (fun _ => nI 0))), (q3, .inl (c3, 40, .inl (fun _ => 0))), (q4, .inl (c4, 40, .inl (fun _ => 0)))] H := hP
  have hD : va_D (AI h0 s.heap.size) [(h0, .inr (1, [.int (nI 0), .ref q1, .ref q2, .ref q3, .ref q4, .null, .null, .null, .null, .null, .null, .int (bI false), .int (bI false)])), (q1, .inl (c1, 40, .inl (fun _ => nI 0))), (q2, .inl (c2, 40, .inl (fun _ => nI 0))), (q3, .inl (c3, 40, .inl (fun _ => 0))), (q4, .inl (c4, 40, .inl (fun _ => 0)))] := hD
  refine lv_aload_n hx hb dX1_init_41 rfl (lv_at hl 0 rfl) ?_
  refine lv_bipush (v := nI 12) hx hb dX1_init_42 (by decide) ?_
  refine va_newa (atype := .int) (ty := .int) (N' := 12) (a0 := (12, .inl (fun _ => nI 0))) hx hb (hts _ q91) rfl hK hP hD hS hA (fun _ => rfl) (by decide) (by decide) (by decide) (Nat.le_of_ble_eq_true rfl) (Nat.le_of_ble_eq_true rfl) dX1_init_44 (fun q5 c5 H hK hP hD hS => ?_)
  have hP : va_P D vwCl [(h0, .inr (1, [.int (nI 0), .ref q1, .ref q2, .ref q3, .ref q4, .null, .null, .null, .null, .null, .null, .int (bI false), .int (bI false)])), (q1, .inl (c1, 40, .inl (fun _ => nI 0))), (q2, .inl (c2, 40, .inl (fun _ => nI 0))), (q3, .inl (c3, 40, .inl (fun _ => 0))), (q4, .inl (c4, 40, .inl (fun _ => 0))), (q5, .inl (c5, 12, .inl (fun _ => nI 0)))] H := hP
  have hD : va_D (AI h0 s.heap.size) [(h0, .inr (1, [.int (nI 0), .ref q1, .ref q2, .ref q3, .ref q4, .null, .null, .null, .null, .null, .null, .int (bI false), .int (bI false)])), (q1, .inl (c1, 40, .inl (fun _ => nI 0))), (q2, .inl (c2, 40, .inl (fun _ => nI 0))), (q3, .inl (c3, 40, .inl (fun _ => 0))), (q4, .inl (c4, 40, .inl (fun _ => 0))), (q5, .inl (c5, 12, .inl (fun _ => nI 0)))] := hD
  have hK : va_K D vwCl [(c1, .int), (c2, .int), (c3, .int), (c4, .int), (c5, .int)] s := hK
  refine W.widen (k := 5) (n := 172) (Nat.le_of_ble_eq_true rfl) (Nat.le_of_ble_eq_true rfl) ?_
  refine va_put (ci := 1) (C := RX1) (T := TX1) (N := 13) (ty := .array .int) (v := .ref q5) hx hb hts in_X1 tyX1 tyX1_ok nmX1 hown hK hP hD hS 0 rfl rfl 5 (by decide) (hts _ q209) (fun _ h9 => h9) rfl (by decide +kernel) rfl rfl (Nat.le_of_ble_eq_true rfl) dX1_init_46 (fun H locs hP hD hS => ?_)
  have hP : va_P D vwCl [(h0, .inr (1, [.int (nI 0), .ref q1, .ref q2, .ref q3, .ref q4, .ref q5, .null, .null, .null, .null, .null, .int (bI false), .int (bI false)])), (q1, .inl (c1, 40, .inl (fun _ => nI 0))), (q2, .inl (c2, 40, .inl (fun _ => nI 0))), (q3, .inl (c3, 40, .inl (fun _ => 0))), (q4, .inl (c4, 40, .inl (fun _ => 0))), (q5, .inl (c5, 12, .inl (fun _ => nI 0)))] H := hP
  have hD : va_D (AI h0 s.heap.size) [(h0, .inr (1, [.int (nI 0), .ref q1, .ref q2, .ref q3, .ref q4, .ref q5, .null, .null, .null, .null, .null, .int (bI false), .int (bI false)])), (q1, .inl (c1, 40, .inl (fun _ => nI 0))), (q2, .inl (c2, 40, .inl (fun _ => nI 0))), (q3, .inl (c3, 40, .inl (fun _ => 0))), (q4, .inl (c4, 40, .inl (fun _ => 0))), (q5, .inl (c5, 12, .inl (fun _ => nI 0)))] := hD
  refine lv_aload_n hx hb dX1_init_49 rfl (lv_at hl 0 rfl) ?_
  refine lv_bipush (v := nI 12) hx hb dX1_init_50 (by decide) ?_
  refine va_newa (atype := .boolean) (ty := .boolean) (N' := 12) (a0 := (12, .inl (fun _ => bI false))) hx hb (hts _ q244) rfl hK hP hD hS hA (fun _ => rfl) (by decide) (by decide) (by decide) (Nat.le_of_ble_eq_true rfl) (Nat.le_of_ble_eq_true rfl) dX1_init_52 (fun q6 c6 H hK hP hD hS => ?_)
  have hP : va_P D vwCl [(h0, .inr (1, [.int (nI 0), .ref q1, .ref q2, .ref q3, .ref q4, .ref q5, .null, .null, .null, .null, .null, .int (bI false), .int (bI false)])), (q1, .inl (c1, 40, .inl (fun _ => nI 0))), (q2, .inl (c2, 40, .inl (fun _ => nI 0))), (q3, .inl (c3, 40, .inl (fun _ => 0))), (q4, .inl (c4, 40, .inl (fun _ => 0))), (q5, .inl (c5, 12, .inl (fun _ => nI 0))), (q6, .inl (c6, 12, .inl (fun _ => bI false)))] H := hP
  have hD : va_D (AI h0 s.heap.size) [(h0, .inr (1, [.int (nI 0), .ref q1, .ref q2, .ref q3, .ref q4, .ref q5, .null, .null, .null, .null, .null, .int (bI false), .int (bI false)])), (q1, .inl (c1, 40, .inl (fun _ => nI 0))), (q2, .inl (c2, 40, .inl (fun _ => nI 0))), (q3, .inl (c3, 40, .inl (fun _ => 0))), (q4, .inl (c4, 40, .inl (fun _ => 0))), (q5, .inl (c5, 12, .inl (fun _ => nI 0))), (q6, .inl (c6, 12, .inl (fun _ => bI false)))] := hD
  have hK : va_K D vwCl [(c1, .int), (c2, .int), (c3, .int), (c4, .int), (c5, .int), (c6, .boolean)] s := hK
  refine W.widen (k := 6) (n := 184) (Nat.le_of_ble_eq_true rfl) (Nat.le_of_ble_eq_true rfl) ?_
  refine va_put (ci := 1) (C := RX1) (T := TX1) (N := 13) (ty := .array .boolean) (v := .ref q6) hx hb hts in_X1 tyX1 tyX1_ok nmX1 hown hK hP hD hS 0 rfl rfl 6 (by decide) (hts _ q210) (fun _ h9 => h9) rfl (by decide +kernel) rfl rfl (Nat.le_of_ble_eq_true rfl) dX1_init_54 (fun H locs hP hD hS => ?_)
  have hP : va_P D vwCl [(h0, .inr (1, [.int (nI 0), .ref q1, .ref q2, .ref q3, .ref q4, .ref q5, .ref q6, .null, .null, .null, .null, .int (bI false), .int (bI false)])), (q1, .inl (c1, 40, .inl (fun _ => nI 0))), (q2, .inl (c2, 40, .inl (fun _ => nI 0))), (q3, .inl (c3, 40, .inl (fun _ => 0))), (q4, .inl (c4, 40, .inl (fun _ => 0))), (q5, .inl (c5, 12, .inl (fun _ => nI 0))), (q6, .inl (c6, 12, .inl (fun _ => bI false)))] H := hP
  have hD : va_D (AI h0 s.heap.size) [(h0, .inr (1, [.int (nI 0), .ref q1, .ref q2, .ref q3, .ref q4, .ref q5, .ref q6, .null, .null, .null, .null, .int (bI false), .int (bI false)])), (q1, .inl (c1, 40, .inl (fun _ => nI 0))), (q2, .inl (c2, 40, .inl (fun _ => nI 0))), (q3, .inl (c3, 40, .inl (fun _ => 0))), (q4, .inl (c4, 40, .inl (fun _ => 0))), (q5, .inl (c5, 12, .inl (fun _ => nI 0))), (q6, .inl (c6, 12, .inl (fun _ => bI false)))] := hD
  refine lv_aload_n hx hb dX1_init_57 rfl (lv_at hl 0 rfl) ?_
  refine lv_bipush (v := nI 12) hx hb dX1_init_58 (by decide) ?_
  refine va_newa (atype := .int) (ty := .int) (N' := 12) (a0 := (12, .inl (fun _ => 0))) hx hb (hts _ q91) rfl hK hP hD hS hA (fun _ => rfl) (by decide) (by decide) (by decide) (Nat.le_of_ble_eq_true rfl) (Nat.le_of_ble_eq_true rfl) dX1_init_60 (fun q7 c7 H hK hP hD hS => ?_)
  have hP : va_P D vwCl [(h0, .inr (1, [.int (nI 0), .ref q1, .ref q2, .ref q3, .ref q4, .ref q5, .ref q6, .null, .null, .null, .null, .int (bI false), .int (bI false)])), (q1, .inl (c1, 40, .inl (fun _ => nI 0))), (q2, .inl (c2, 40, .inl (fun _ => nI 0))), (q3, .inl (c3, 40, .inl (fun _ => 0))), (q4, .inl (c4, 40, .inl (fun _ => 0))), (q5, .inl (c5, 12, .inl (fun _ => nI 0))), (q6, .inl (c6, 12, .inl (fun _ => bI false))), (q7, .inl (c7, 12, .inl (fun _ => 0)))] H := hP
  have hD : va_D (AI h0 s.heap.size) [(h0, .inr (1, [.int (nI 0), .ref q1, .ref q2, .ref q3, .ref q4, .ref q5, .ref q6, .null, .null, .null, .null, .int (bI false), .int (bI false)])), (q1, .inl (c1, 40, .inl (fun _ => nI 0))), (q2, .inl (c2, 40, .inl (fun _ => nI 0))), (q3, .inl (c3, 40, .inl (fun _ => 0))), (q4, .inl (c4, 40, .inl (fun _ => 0))), (q5, .inl (c5, 12, .inl (fun _ => nI 0))), (q6, .inl (c6, 12, .inl (fun _ => bI false))), (q7, .inl (c7, 12, .inl (fun _ => 0)))] := hD
  have hK : va_K D vwCl [(c1, .int), (c2, .int), (c3, .int), (c4, .int), (c5, .int), (c6, .boolean), (c7, .int)] s := hK
  refine W.widen (k := 7) (n := 196) (Nat.le_of_ble_eq_true rfl) (Nat.le_of_ble_eq_true rfl) ?_
  refine va_put (ci := 1) (C := RX1) (T := TX1) (N := 13) (ty := .array .int) (v := .ref q7) hx hb hts in_X1 tyX1 tyX1_ok nmX1 hown hK hP hD hS 0 rfl rfl 7 (by decide) (hts _ q211) (fun _ h9 => h9) rfl (by decide +kernel) rfl rfl (Nat.le_of_ble_eq_true rfl) dX1_init_62 (fun H locs hP hD hS => ?_)
  have hP : va_P D vwCl [(h0, .inr (1, [.int (nI 0), .ref q1, .ref q2, .ref q3, .ref q4, .ref q5, .ref q6, .ref q7, .null, .null, .null, .int (bI false), .int (bI false)])), (q1, .inl (c1, 40, .inl (fun _ => nI 0))), (q2, .inl (c2, 40, .inl (fun _ => nI 0))), (q3, .inl (c3, 40, .inl (fun _ => 0))), (q4, .inl (c4, 40, .inl (fun _ => 0))), (q5, .inl (c5, 12, .inl (fun _ => nI 0))), (q6, .inl (c6, 12, .inl (fun _ => bI false))), (q7, .inl (c7, 12, .inl (fun _ => 0)))] H := hP
  have hD : va_D (AI h0 s.heap.size) [(h0, .inr (1, [.int (nI 0), .ref q1, .ref q2, .ref q3, .ref q4, .ref q5, .ref q6, .ref q7, .null, .null, .null, .int (bI false), .int (bI false)])), (q1, .inl (c1, 40, .inl (fun _ => nI 0))), (q2, .inl (c2, 40, .inl (fun _ => nI 0))), (q3, .inl (c3, 40, .inl (fun _ => 0))), (q4, .inl (c4, 40, .inl (fun _ => 0))), (q5, .inl (c5, 12, .inl (fun _ => nI 0))), (q6, .inl (c6, 12, .inl (fun _ => bI false))), (q7, .inl (c7, 12, .inl (fun _ => 0)))] := hD
  refine lv_aload_n hx hb dX1_init_65 rfl (lv_at hl 0 rfl) ?_
  refine lv_bipush (v := nI 12) hx hb dX1_init_66 (by decide) ?_
  refine va_newa (atype := .boolean) (ty := .boolean) (N' := 12) (a0 := (12, .inl (fun _ => bI false))) hx hb (hts _ q244) rfl hK hP hD hS hA (fun _ => rfl) (by decide) (by decide) (by decide) (Nat.le_of_ble_eq_true rfl) (Nat.le_of_ble_eq_true rfl) dX1_init_68 (fun q8 c8 H hK hP hD hS => ?_)
  have hP : va_P D vwCl [(h0, .inr (1, [.int (nI 0), .ref q1, .ref q2, .ref q3, .ref q4, .ref q5, .ref q6, .ref q7, .null, .null, .null, .int (bI false), .int (bI false)])), (q1, .inl (c1, 40, .inl (fun _ => nI 0))), (q2, .inl (c2, 40, .inl (fun _ => nI 0))), (q3, .inl (c3, 40, .inl (fun _ => 0))), (q4, .inl (c4, 40, .inl (fun _ => 0))), (q5, .inl (c5, 12, .inl (fun _ => nI 0))), (q6, .inl (c6, 12, .inl (fun _ => bI false))), (q7, .inl (c7, 12, .inl (fun _ => 0))), (q8, .inl (c8, 12, .inl (fun _ => bI false)))] H := hP
  have hD : va_D (AI h0 s.heap.size) [(h0, .inr (1, [.int (nI 0), .ref q1, .ref q2, .ref q3, .ref q4, .ref q5, .ref q6, .ref q7, .null, .null, .null, .int (bI false), .int (bI false)])), (q1, .inl (c1, 40, .inl (fun _ => nI 0))), (q2, .inl (c2, 40, .inl (fun _ => nI 0))), (q3, .inl (c3, 40, .inl (fun _ => 0))), (q4, .inl (c4, 40, .inl (fun _ => 0))), (q5, .inl (c5, 12, .inl (fun _ => nI 0))), (q6, .inl (c6, 12, .inl (fun _ => bI false))), (q7, .inl (c7, 12, .inl (fun _ => 0))), (q8, .inl (c8, 12, .inl (fun _ => bI false)))] := hD
  have hK : va_K D vwCl [(c1, .int), (c2, .int), (c3, .int), (c4, .int), (c5, .int), (c6, .boolean), (c7, .int), (c8, .boolean)] s := hK
  refine W.widen (k := 8) (n := 208) (Nat.le_of_ble_eq_true rfl) (Nat.le_of_ble_eq_true rfl) ?_
  refine va_put (ci := 1) (C := RX1) (T := TX1) (N := 13) (ty := .array .boolean) (v := .ref q8) hx hb hts in_X1 tyX1 tyX1_ok nmX1 hown hK hP hD hS 0 rfl rfl 8 (by decide) (hts _ q212) (fun _ h9 => h9) rfl (by decide +kernel) rfl rfl (Nat.le_of_ble_eq_true rfl) dX1_init_70 (fun H locs hP hD hS => ?_)
  have hP : va_P D vwCl [(h0, .inr (1, [.int (nI 0), .ref q1, .ref q2, .ref q3, .ref q4, .ref q5, .ref q6, .ref q7, .ref q8, .null, .null, .int (bI false), .int (bI false)])), (q1, .inl (c1, 40, .inl (fun _ => nI 0))), (q2, .inl (c2, 40, .inl (fun _ => nI 0))), (q3, .inl (c3, 40, .inl (fun _ => 0))), (q4, .inl (c4, 40, .inl (fun _ => 0))), (q5, .inl (c5, 12, .inl (fun _ => nI 0))), (q6, .inl (c6, 12, .inl (fun _ => bI false))), (q7, .inl (c7, 12, .inl (fun _ => 0))), (q8, .inl (c8, 12, .inl (fun _ => bI false)))] H := hP
  have hD : va_D (AI h0 s.heap.size) [(h0, .inr (1, [.int (nI 0), .ref q1, .ref q2, .ref q3, .ref q4, .ref q5, .ref q6, .ref q7, .ref q8, .null, .null, .int (bI false), .int (bI false)])), (q1, .inl (c1, 40, .inl (fun _ => nI 0))), (q2, .inl (c2, 40, .inl (fun _ => nI 0))), (q3, .inl (c3, 40, .inl (fun _ => 0))), (q4, .inl (c4, 40, .inl (fun _ => 0))), (q5, .inl (c5, 12, .inl (fun _ => nI 0))), (q6, .inl (c6, 12, .inl (fun _ => bI false))), (q7, .inl (c7, 12, .inl (fun _ => 0))), (q8, .inl (c8, 12, .inl (fun _ => bI false)))] := hD
  refine lv_aload_n hx hb dX1_init_73 rfl (lv_at hl 0 rfl) ?_
  refine lv_bipush (v := nI 12) hx hb dX1_init_74 (by decide) ?_
  refine va_newa (atype := .int) (ty := .int) (N' := 12) (a0 := (12, .inl (fun _ => nI 0))) hx hb (hts _ q91) rfl hK hP hD hS hA (fun _ => rfl) (by decide) (by decide) (by decide) (Nat.le_of_ble_eq_true rfl) (Nat.le_of_ble_eq_true rfl) dX1_init_76 (fun q9 c9 H hK hP hD hS => ?_)
  have hP : va_P D vwCl [(h0, .inr (1, [.int (nI 0), .ref q1, .ref q2, .ref q3, .ref q4, .ref q5, .ref q6, .ref q7, .ref q8, .null, .null, .int (bI false), .int (bI false)])), (q1, .inl (c1, 40, .inl (fun _ => nI 0))), (q2, .inl (c2, 40, .inl (fun _ => nI 0))), (q3, .inl (c3, 40, .inl (fun _ => 0))), (q4, .inl (c4, 40, .inl (fun _ => 0))), (q5, .inl (c5, 12, .inl (fun _ => nI 0))), (q6, .inl (c6, 12, .inl (fun _ => bI false))), (q7, .inl (c7, 12, .inl (fun _ => 0))), (q8, .inl (c8, 12, .inl (fun _ => bI false))), (q9, .inl (c9, 12, .inl (fun _ => nI 0)))] H := hP
  have hD : va_D (AI h0 s.heap.size) [(h0, .inr (1, [.int (nI 0), .ref q1, .ref q2, .ref q3, .ref q4, .ref q5, .ref q6, .ref q7, .ref q8, .null, .null, .int (bI false), .int (bI false)])), (q1, .inl (c1, 40, .inl (fun _ => nI 0))), (q2, .inl (c2, 40, .inl (fun _ => nI 0))), (q3, .inl (c3, 40, .inl (fun _ => 0))), (q4, .inl (c4, 40, .inl (fun _ => 0))), (q5, .inl (c5, 12, .inl (fun _ => nI 0))), (q6, .inl (c6, 12, .inl (fun _ => bI false))), (q7, .inl (c7, 12, .inl (fun _ => 0))), (q8, .inl (c8, 12, .inl (fun _ => bI false))), (q9, .inl (c9, 12, .inl (fun _ => nI 0)))] := hD
  have hK : va_K D vwCl [(c1, .int), (c2, .int), (c3, .int), (c4, .int), (c5, .int), (c6, .boolean), (c7, .int), (c8, .boolean), (c9, .int)] s := hK
  refine W.widen (k := 9) (n := 220) (Nat.le_of_ble_eq_true rfl) (Nat.le_of_ble_eq_true rfl) ?_
  refine va_put (ci := 1) (C := RX1) (T := TX1) (N := 13) (ty := .array .int) (v := .ref q9) hx hb hts in_X1 tyX1 tyX1_ok nmX1 hown hK hP hD hS 0 rfl rfl 9 (by decide) (hts _ q213) (fun _ h9 => h9) rfl (by decide +kernel) rfl rfl (Nat.le_of_ble_eq_true rfl) dX1_init_78 (fun H locs hP hD hS => ?_)
  have hP : va_P D vwCl [(h0, .inr (1, [.int (nI 0), .ref q1, .ref q2, .ref q3, .ref q4, .ref q5, .ref q6, .ref q7, .ref q8, .ref q9, .null, .int (bI false), .int (bI false)])), (q1, .inl (c1, 40, .inl (fun _ => nI 0))), (q2, .inl (c2, 40, .inl (fun _ => nI 0))), (q3, .inl (c3, 40, .inl (fun _ => 0))), (q4, .inl (c4, 40, .inl (fun _ => 0))), (q5, .inl (c5, 12, .inl (fun _ => nI 0))), (q6, .inl (c6, 12, .inl (fun _ => bI false))), (q7, .inl (c7, 12, .inl (fun _ => 0))), (q8, .inl (c8, 12, .inl (fun _ => bI false))), (q9, .inl (c9, 12, .inl (fun _ => nI 0)))] H := hP
  have hD : va_D (AI h0 s.heap.size) [(h0, .inr (1, [.int (nI 0), .ref q1, .ref q2, .ref q3, .ref q4, .ref q5, .ref q6, .ref q7, .ref q8, .ref q9, .null, .int (bI false), .int (bI false)])), (q1, .inl (c1, 40, .inl (fun _ => nI 0))), (q2, .inl (c2, 40, .inl (fun _ => nI 0))), (q3, .inl (c3, 40, .inl (fun _ => 0))), (q4, .inl (c4, 40, .inl (fun _ => 0))), (q5, .inl (c5, 12, .inl (fun _ => nI 0))), (q6, .inl (c6, 12, .inl (fun _ => bI false))), (q7, .inl (c7, 12, .inl (fun _ => 0))), (q8, .inl (c8, 12, .inl (fun _ => bI false))), (q9, .inl (c9, 12, .inl (fun _ => nI 0)))] := hD
  refine lv_aload_n hx hb dX1_init_81 rfl (lv_at hl 0 rfl) ?_
  refine lv_bipush (v := nI 12) hx hb dX1_init_82 (by decide) ?_
  refine va_newa (atype := .int) (ty := .int) (N' := 12) (a0 := (12, .inl (fun _ => nI 0))) hx hb (hts _ q91) rfl hK hP hD hS hA (fun _ => rfl) (by decide) (by decide) (by decide) (Nat.le_of_ble_eq_true rfl) (Nat.le_of_ble_eq_true rfl) dX1_init_84 (fun q10 c10 H hK hP hD hS => ?_)
  have hP : va_P D vwCl [(h0, .inr (1, [.int (nI 0), .ref q1, .ref q2, .ref q3, .ref q4, .ref q5, .ref q6, .ref q7, .ref q8, .ref q9, .null, .int (bI false), .int (bI false)])), (q1, .inl (c1, 40, .inl (fun _ => nI 0))), (q2, .inl (c2, 40, .inl (fun _ => nI 0))), (q3, .inl (c3, 40, .inl (fun _ => 0))), (q4, .inl (c4, 40, .inl (fun _ => 0))), (q5, .inl (c5, 12, .inl (fun _ => nI 0))), (q6, .inl (c6, 12, .inl (fun _ => bI false))), (q7, .inl (c7, 12, .inl (fun _ => 0))), (q8, .inl (c8, 12, .inl (fun _ => bI false))), (q9, .inl (c9, 12, .inl (fun _ => nI 0))), (q10, .inl (c10, 12, .inl (fun _ => nI 0)))] H := hP
  have hD : va_D (AI h0 s.heap.size) [(h0, .inr (1, [.int (nI 0), .ref q1, .ref q2, .ref q3, .ref q4, .ref q5, .ref q6, .ref q7, .ref q8, .ref q9, .null, .int (bI false), .int (bI false)])), (q1, .inl (c1, 40, .inl (fun _ => nI 0))), (q2, .inl (c2, 40, .inl (fun _ => nI 0))), (q3, .inl (c3, 40, .inl (fun _ => 0))), (q4, .inl (c4, 40, .inl (fun _ => 0))), (q5, .inl (c5, 12, .inl (fun _ => nI 0))), (q6, .inl (c6, 12, .inl (fun _ => bI false))), (q7, .inl (c7, 12, .inl (fun _ => 0))), (q8, .inl (c8, 12, .inl (fun _ => bI false))), (q9, .inl (c9, 12, .inl (fun _ => nI 0))), (q10, .inl (c10, 12, .inl (fun _ => nI 0)))] := hD
  have hK : va_K D vwCl [(c1, .int), (c2, .int), (c3, .int), (c4, .int), (c5, .int), (c6, .boolean), (c7, .int), (c8, .boolean), (c9, .int), (c10, .int)] s := hK
  refine W.widen (k := 10) (n := 232) (Nat.le_of_ble_eq_true rfl) (Nat.le_of_ble_eq_true rfl) ?_
  refine va_put (ci := 1) (C := RX1) (T := TX1) (N := 13) (ty := .array .int) (v := .ref q10) hx hb hts in_X1 tyX1 tyX1_ok nmX1 hown hK hP hD hS 0 rfl rfl 10 (by decide) (hts _ q214) (fun _ h9 => h9) rfl (by decide +kernel) rfl rfl (Nat.le_of_ble_eq_true rfl) dX1_init_86 (fun H locs hP hD hS => ?_)
  have hP : va_P D vwCl [(h0, .inr (1, [.int (nI 0), .ref q1, .ref q2, .ref q3, .ref q4, .ref q5, .ref q6, .ref q7, .ref q8, .ref q9, .ref q10, .int (bI false), .int (bI false)])), (q1, .inl (c1, 40, .inl (fun _ => nI 0))), (q2, .inl (c2, 40, .inl (fun _ => nI 0))), (q3, .inl (c3, 40, .inl (fun _ => 0))), (q4, .inl (c4, 40, .inl (fun _ => 0))), (q5, .inl (c5, 12, .inl (fun _ => nI 0))), (q6, .inl (c6, 12, .inl (fun _ => bI false))), (q7, .inl (c7, 12, .inl (fun _ => 0))), (q8, .inl (c8, 12, .inl (fun _ => bI false))), (q9, .inl (c9, 12, .inl (fun _ => nI 0))), (q10, .inl (c10, 12, .inl (fun _ => nI 0)))] H := hP
  have hD : va_D (AI h0 s.heap.size) [(h0, .inr (1, [.int (nI 0), .ref q1, .ref q2, .ref q3, .ref q4, .ref q5, .ref q6, .ref q7, .ref q8, .ref q9, .ref q10, .int (bI false), .int (bI false)])), (q1, .inl (c1, 40, .inl (fun _ => nI 0))), (q2, .inl (c2, 40, .inl (fun _ => nI 0))), (q3, .inl (c3, 40, .inl (fun _ => 0))), (q4, .inl (c4, 40, .inl (fun _ => 0))), (q5, .inl (c5, 12, .inl (fun _ => nI 0))), (q6, .inl (c6, 12, .inl (fun _ => bI false))), (q7, .inl (c7, 12, .inl (fun _ => 0))), (q8, .inl (c8, 12, .inl (fun _ => bI false))), (q9, .inl (c9, 12, .inl (fun _ => nI 0))), (q10, .inl (c10, 12, .inl (fun _ => nI 0)))] := hD
  refine lv_aload_n hx hb dX1_init_89 rfl (lv_at hl 0 rfl) ?_
  refine lv_iconst (v := bI false) hx hb dX1_init_90 (by decide) ?_
  refine va_put (ci := 1) (C := RX1) (T := TX1) (N := 13) (ty := .boolean) (v := .int (bI false)) hx hb hts in_X1 tyX1 tyX1_ok nmX1 hown hK hP hD hS 0 rfl rfl 11 (by decide) (hts _ q215) (fun _ h9 => h9) rfl (by decide +kernel) rfl rfl (Nat.le_of_ble_eq_true rfl) dX1_init_91 (fun H locs hP hD hS => ?_)
  have hP : va_P D vwCl [(h0, .inr (1, [.int (nI 0), .ref q1, .ref q2, .ref q3, .ref q4, .ref q5, .ref q6, .ref q7, .ref q8, .ref q9, .ref q10, .int (bI false), .int (bI false)])), (q1, .inl (c1, 40, .inl (fun _ => nI 0))), (q2, .inl (c2, 40, .inl (fun _ => nI 0))), (q3, .inl (c3, 40, .inl (fun _ => 0))), (q4, .inl (c4, 40, .inl (fun _ => 0))), (q5, .inl (c5, 12, .inl (fun _ => nI 0))), (q6, .inl (c6, 12, .inl (fun _ => bI false))), (q7, .inl (c7, 12, .inl (fun _ => 0))), (q8, .inl (c8, 12, .inl (fun _ => bI false))), (q9, .inl (c9, 12, .inl (fun _ => nI 0))), (q10, .inl (c10, 12, .inl (fun _ => nI 0)))] H := hP
  have hD : va_D (AI h0 s.heap.size) [(h0, .inr (1, [.int (nI 0), .ref q1, .ref q2, .ref q3, .ref q4, .ref q5, .ref q6, .ref q7, .ref q8, .ref q9, .ref q10, .int (bI false), .int (bI false)])), (q1, .inl (c1, 40, .inl (fun _ => nI 0))), (q2, .inl (c2, 40, .inl (fun _ => nI 0))), (q3, .inl (c3, 40, .inl (fun _ => 0))), (q4, .inl (c4, 40, .inl (fun _ => 0))), (q5, .inl (c5, 12, .inl (fun _ => nI 0))), (q6, .inl (c6, 12, .inl (fun _ => bI false))), (q7, .inl (c7, 12, .inl (fun _ => 0))), (q8, .inl (c8, 12, .inl (fun _ => bI false))), (q9, .inl (c9, 12, .inl (fun _ => nI 0))), (q10, .inl (c10, 12, .inl (fun _ => nI 0)))] := hD
  obtain ⟨h, hh⟩ : ∃ h : Nat → Nat, h = fun k => match k with | 1 => q1 | 2 => q2 | 3 => q3 | 4 => q4 | 5 => q5 | 6 => q6 | 7 => q7 | 8 => q8 | 9 => q9 | 10 => q10 | _ => h0 := ⟨_, rfl⟩
  obtain ⟨dA, hdA⟩ : ∃ dA : Nat → ClassId, dA = fun k => match k with | 1 => c1 | 2 => c2 | 3 => c3 | 4 => c4 | 5 => c5 | 6 => c6 | 7 => c7 | 8 => c8 | 9 => c9 | 10 => c10 | _ => c1 := ⟨_, rfl⟩
  have hP : va_P D vwCl (wY h dA y00) H := by rw [hh, hdA]; exact hP
  have hD0 : va_D (AI h0 s.heap.size) (wY h dA y00) := by rw [hh, hdA]; exact hD
  have hD1 : va_D (AY h) (wY h dA y00) := hD0.weaken (fun k q hk _ => wY_in k q hk)
  have hK : va_K D vwCl (tY dA) s := by rw [hdA]; exact hK
  have hh00 : h 0 = h0 := congrFun hh 0
  have hall : ∀ (v : YSt) (k : Nat), k < 18 → ∃ (j : Nat) (e : va_E), (wY h dA v)[j]? = some (h k, e) := by
    intro v k hk
    rcases (show k = 0 ∨ k = 1 ∨ k = 2 ∨ k = 3 ∨ k = 4 ∨ k = 5 ∨ k = 6 ∨ k = 7 ∨ k = 8 ∨ k = 9 ∨ k = 10 ∨ k = 11 ∨ k = 12 ∨ k = 13 ∨ k = 14 ∨ k = 15 ∨ k = 16 ∨ k = 17 by omega) with rfl | rfl | rfl | rfl | rfl | rfl | rfl | rfl | rfl | rfl | rfl | rfl | rfl | rfl | rfl | rfl | rfl | rfl
    · exact ⟨0, _, rfl⟩
    · exact ⟨1, _, rfl⟩
    · exact ⟨2, _, rfl⟩
    · exact ⟨3, _, rfl⟩
    · exact ⟨4, _, rfl⟩
    · exact ⟨5, _, rfl⟩
    · exact ⟨6, _, rfl⟩
    · exact ⟨7, _, rfl⟩
    · exact ⟨8, _, rfl⟩
    · exact ⟨9, _, rfl⟩
    · exact ⟨10, _, rfl⟩
    · rw [(congrFun hh 11).trans hh00.symm]; exact ⟨0, _, rfl⟩
    · rw [(congrFun hh 12).trans hh00.symm]; exact ⟨0, _, rfl⟩
    · rw [(congrFun hh 13).trans hh00.symm]; exact ⟨0, _, rfl⟩
    · rw [(congrFun hh 14).trans hh00.symm]; exact ⟨0, _, rfl⟩
    · rw [(congrFun hh 15).trans hh00.symm]; exact ⟨0, _, rfl⟩
    · rw [(congrFun hh 16).trans hh00.symm]; exact ⟨0, _, rfl⟩
    · rw [(congrFun hh 17).trans hh00.symm]; exact ⟨0, _, rfl⟩
  have hqA : ∀ k, k < 18 → AI h0 s.heap.size (h k) := fun k hk => by
    obtain ⟨j, e, q⟩ := hall y00 k hk
    exact hD0.2 j _ q
  have hAA : ∀ q, AY h q → AI h0 s.heap.size q := fun q ⟨k, hk, e⟩ => by rw [e]; exact hqA k hk
  refine lv_aload_n hx hb dX1_init_94 rfl (lv_at hl 0 rfl) ?_
  have hrec := va_recv hK hP (ci := 1) (q0 := 0) rfl rfl
  rw [hh00] at hrec
  have hM := mY_follow l D h dA y00 y00_r
  have hbl : FrameBlind (YPc D h dA y00 []) := YB.blind
  have hst : ∀ U : State, U.heap = H → s.vm.Alike U.vm → YPc D h dA y00 [] [.ref h0].toArray U := fun U hU hw => ⟨by rw [hh00], by rw [hU]; exact hP, hD1, va_K.moved hw hK⟩
  refine va_callv (va_runV (cc := cX1_init) (nL := 1) (Ts := lw_all) (own := RX1) (C := RX1) (b := h0) (As := []) (rest := []) (index := 49) (n := 0) (g := F0 m 95 ls [.ref h0]) ⟨hx, hb, hml, hown, hts⟩ hM (cwV 0 hts (lw_V cbY_follow.1 cbY_follow.2.1 cbY_follow.2.2.1 cbY_follow.2.2.2.1 cbY_follow.2.2.2.2.1) rfl rfl rfl cbY_follow.2.2.2.2.2 ⟨Nat.le_of_ble_eq_true rfl, Nat.le_of_ble_eq_true rfl⟩) ⟨hbl, hrec, fun U hU hw => hst U hU hw.alike⟩ rfl rfl hl.1 rfl (lv_room (Nat.le_of_ble_eq_true rfl)) dX1_init_95 ⟨Nat.le_of_ble_eq_true rfl, Nat.le_of_ble_eq_true rfl⟩) hS (fun q _ hq => hAA q hq) hAA (fun u1 t H1 locs1 ht hvm hp hB hz hk hS => ?_)
  have hpost : YOk u1 ∧ u1.n = 0 ∧ u1.bk = false := by
    have hp : u1 = ys_follow y00 := hp
    rw [hp]
    obtain ⟨a, b⟩ := follow_n0 (w := y00) rfl rfl
    exact ⟨YOk.follow y00_r rfl, a, b⟩
  obtain ⟨hP1, hD2, hK2⟩ := hB
  rw [ht] at hP1
  refine W.widen (k := 10) (n := 232) (Nat.le_of_ble_eq_true rfl) (Nat.le_of_ble_eq_true rfl) ?_
  exact W.vret hx hb hr (fun t ht hw => ⟨⟨(h, dA, u1), rfl, ⟨hh00, hqA, hpost.1, hpost.2.1, hpost.2.2⟩, ⟨by rw [ht]; exact hP1, hD2, va_K.moved hw.alike hK⟩, fun k hk => hall u1 k hk⟩, hS.F ht⟩) hS.2.2 dX1_init_98 hlocks
end
section
set_option maxRecDepth 100000
/-! THE CLAIM OUT OF ONE WALK OF THE LAW'S BODY. Your part is whole_start (and what it stands on); all else here is the same for every law, but numbers. -/
def R_law : String := "DataflowStoreLaw"
def lw_P (b : Addr) (xs : List Int32) (args : Array Value) (s : State) : Prop := args = #[.ref b] ∧ s.IntsAt b xs ∧ xs.length ≤ 320 ∧ (Jvm.Cond.and given_1 narrow_1).before args s = true
def lw_Q (_ : Array Value) (s : State) (o : Outcome) (t : State) : Prop := o = .returned (some (.int 1)) ∧ Framed s o t [] 600000 7290000
def lw_Z (below : List Frame) (a : Array Value) (s : State) : State → Prop := fun t => ∃ o, t.status = .running ∧ Ended t below o ∧ lw_Q a s o t
/-- the law's own end, with 1 on the stack, nothing written that was there before, its room as the claim has it -/
theorem lw_ret {p : Program} {l : Launch} {e : Env} {s : State} {m : MethodId} {below : List Frame} {meth : Method} {c : Code} {b : Nat} (hx : p.tables.exec = Jvm.exec) (hb : c.code = code) (hr : meth.sig.returnType = ret) (hlocks : meth.locks = false) {pc : Nat} {H : Heap} {ls : Array Slot} (hdg : decode code pc = .ok (.ireturn, 1)) : W p l e room_1 s m #[Value.ref b] below meth c H [] 600000 7290000 (lw_Z below #[Value.ref b] s) (F0 m pc ls [.int 1]) := by
  intro T hT X
  obtain ⟨fs, hret, hrun, hended, hW, hframe⟩ := X.leave (v := some (.int 1)) (hlocks := hlocks) (fun h => by rw [hr] at h; cases h)
  have hmeth' : T.vm.method? m = some meth := X.method'
  refine ⟨T.setFrames fs, ?_, .returned (some (.int 1)), hrun, hended, rfl, ⟨_, rfl⟩, hW, hframe⟩
  jvm_step X.here [X.here.top, hx, hb, hdg, hmeth', hr, ret, narrow_b1]
  (try refine ⟨rfl, ?_⟩); (try refine ⟨rfl, ?_⟩)
  first | (intro acts; rw [hret _ acts rfl rfl rfl]) | rw [hret _ _ rfl rfl rfl]
  exact Steps.refl _
/-- what holds at the law's entry: the machine, the code, the tables' words (any of lw_tbl by 'hts w (by decide +kernel)'), the script of L ints xs at the cell b, what the Statement gives of the start (any of its parts by flat_of_before) -/
def lw_At (p : Program) (s : State) (m : MethodId) (meth : Method) (c : Code) (b L : Nat) (xs : Nat → Int32) : Prop :=
  p.tables.exec = Jvm.exec ∧ c.code = code ∧ meth.sig.returnType = ret ∧ c.maxLocals = 4 ∧ s.vm.findClass R_law = some m.cls ∧ (∀ w ∈ lw_tbl, w.before #[Value.ref b] s = true) ∧ va_X b L xs s s.heap ∧ b < s.heap.size ∧ meth.locks = false ∧ (Jvm.Cond.and given_1 narrow_1).before #[Value.ref b] s = true
/-! what holds all through the law: the machine, the script, the two objects' cells apart and new -/
def LC (p : Program) (s : State) (m : MethodId) (c : Code) (b N : Nat) (xs : Nat → Int32) (D : va_G) (hX : Nat → Nat) (dX : Nat → ClassId) (hY : Nat → Nat) (dY : Nat → ClassId) : Prop := p.tables.exec = Jvm.exec ∧ c.code = cL_law ∧ c.maxLocals = 4 ∧ s.vm.findClass R_law = some m.cls ∧ (∀ w ∈ lw_all, w.before #[Value.ref b] s = true) ∧ va_X b N xs s s.heap ∧ b < s.heap.size ∧ va_K D vwCl (tX dX) s ∧ va_K D vwCl (tY dY) s ∧ (∀ q, AX hX q → s.heap.size ≤ q) ∧ (∀ q, AY hY q → s.heap.size ≤ q) ∧ (∀ q, AX hX q → ¬ AY hY q)
def LNew (H0 : Heap) : Nat → Prop := fun q => H0.size ≤ q
def LW (D : va_G) (hX : Nat → Nat) (dX : Nat → ClassId) (L : Nat → Nat) (u : XSt) (hY : Nat → Nat) (dY : Nat → ClassId) (w : YSt) (H0 H : Heap) (locs : List Loc) : Prop := va_P D vwCl (wX hX dX L u) H ∧ va_D (AX hX) (wX hX dX L u) ∧ va_P D vwCl (wY hY dY w) H ∧ va_D (AY hY) (wY hY dY w) ∧ va_S (LNew H0) H0 H locs
section
variable {p : Program} {l : Launch} {e : Env} {R : Room} {s : State} {m : MethodId} {b N : Nat} {xs : Nat → Int32} {below : List Frame} {meth : Method} {c : Code} {H : Heap} {locs : List Loc} {cells slots : Nat} {Q : State → Prop} {pc : Nat} {ls : Array Slot} {rest : List Value} {D : va_G} {hX hY : Nat → Nat} {dX dY : Nat → ClassId} {L : Nat → Nat} {u : XSt} {w : YSt}
theorem lx_call (C : LC p s m c b N xs D hX dX hY dY) (hW : LW D hX dX L u hY dY w s.heap H locs) {index : Nat} {y : MethodName} {bytes : ByteArray} {maxL n : Nat} {ret : Option FieldType} {rm : Room} {As st0 : List Value} {post : Int32 → (Nat → Nat) → XSt → Prop} (hM : Met l y (ws_ y bytes maxL ret) rm (XPc D hX dX L u As) (XQi D hX dX post) 0 0 (AX hX)) (cb : Cb R_law RX0 index y bytes maxL ret n) (hR : rm.frames + 1 ≤ R.frames ∧ 8 + (maxL + 11) + rm.locals ≤ R.locals) (hrm : rm.cells = 0 ∧ rm.slots = 0) (hRm : cells ≤ R.cells ∧ slots ≤ R.slots) (hn : As.length = n) (hsz : ls.size = 4) (hst : st0 = As.reverse ++ .ref (hX 0) :: rest) (hroom : (rest.map fun v => v.category).sum ≤ 8) (hdg : decode cL_law pc = .ok (.invokevirtual index, 3)) (kk : ∀ (r : Int32) (L' : Nat → Nat) (u' : XSt) (H : Heap) (locs : List Loc), post r L' u' → LW D hX dX L' u' hY dY w s.heap H locs → W p l e R s m #[Value.ref b] below meth c H locs cells slots Q (F0 m (pc + 3) ls (.int r :: rest))) : W p l e R s m #[Value.ref b] below meth c H locs cells slots Q (F0 m pc ls st0) := by
  subst hst
  obtain ⟨c1, c2, c3, c4, c5, c6, c7, c8, c9, c10, c11, c12⟩ := C
  obtain ⟨w1, w2, w3, w4, w5⟩ := hW
  refine va_calli (va_runV (cc := cL_law) (nL := 4) (Ts := lw_all) (own := R_law) (C := RX0) (b := hX 0) (As := As) (rest := rest) (index := index) (n := n) (g := F0 m pc ls (As.reverse ++ .ref (hX 0) :: rest)) ⟨c1, c2, c3, c4, c5⟩ hM (cwV n c5 (lw_V cb.1 cb.2.1 cb.2.2.1 cb.2.2.2.1 cb.2.2.2.2.1) rfl hrm.1 hrm.2 cb.2.2.2.2.2 hR) ⟨XB.blind, va_recv c8 w1 (ci := 0) (q0 := 0) rfl rfl, fun U hU hw => ⟨rfl, by rw [hU]; exact w1, w2, va_K.moved hw.alike c8⟩⟩ rfl hn hsz rfl (lv_room hroom) hdg hRm) w5 (fun q _ hq => c10 q hq) c10 (fun r u1 t H1 locs1 ht hvm hp hB hz hk hS => ?_)
  obtain ⟨hP1, hD1, hK1⟩ := hB
  rw [ht] at hP1
  exact kk r u1.1 u1.2 H1 locs1 hp ⟨hP1, hD1, w3.kept (fun k q hk2 => hk q.1 ((w3 k q hk2).lt) (fun z => c12 q.1 z (w4.2 k q hk2))), w4, hS⟩
theorem ly_call (C : LC p s m c b N xs D hX dX hY dY) (hW : LW D hX dX L u hY dY w s.heap H locs) {index : Nat} {y : MethodName} {bytes : ByteArray} {maxL n : Nat} {ret : Option FieldType} {rm : Room} {As st0 : List Value} {post : Int32 → YSt → Prop} (hM : Met l y (ws_ y bytes maxL ret) rm (YPc D hY dY w As) (YQi D hY dY post) 0 0 (AY hY)) (cb : Cb R_law RX1 index y bytes maxL ret n) (hR : rm.frames + 1 ≤ R.frames ∧ 8 + (maxL + 11) + rm.locals ≤ R.locals) (hrm : rm.cells = 0 ∧ rm.slots = 0) (hRm : cells ≤ R.cells ∧ slots ≤ R.slots) (hn : As.length = n) (hsz : ls.size = 4) (hst : st0 = As.reverse ++ .ref (hY 0) :: rest) (hroom : (rest.map fun v => v.category).sum ≤ 8) (hdg : decode cL_law pc = .ok (.invokevirtual index, 3)) (kk : ∀ (r : Int32) (w' : YSt) (H : Heap) (locs : List Loc), post r w' → LW D hX dX L u hY dY w' s.heap H locs → W p l e R s m #[Value.ref b] below meth c H locs cells slots Q (F0 m (pc + 3) ls (.int r :: rest))) : W p l e R s m #[Value.ref b] below meth c H locs cells slots Q (F0 m pc ls st0) := by
  subst hst
  obtain ⟨c1, c2, c3, c4, c5, c6, c7, c8, c9, c10, c11, c12⟩ := C
  obtain ⟨w1, w2, w3, w4, w5⟩ := hW
  refine va_calli (va_runV (cc := cL_law) (nL := 4) (Ts := lw_all) (own := R_law) (C := RX1) (b := hY 0) (As := As) (rest := rest) (index := index) (n := n) (g := F0 m pc ls (As.reverse ++ .ref (hY 0) :: rest)) ⟨c1, c2, c3, c4, c5⟩ hM (cwV n c5 (lw_V cb.1 cb.2.1 cb.2.2.1 cb.2.2.2.1 cb.2.2.2.2.1) rfl hrm.1 hrm.2 cb.2.2.2.2.2 hR) ⟨YB.blind, va_recv c9 w3 (ci := 1) (q0 := 0) rfl rfl, fun U hU hw => ⟨rfl, by rw [hU]; exact w3, w4, va_K.moved hw.alike c9⟩⟩ rfl hn hsz rfl (lv_room hroom) hdg hRm) w5 (fun q _ hq => c11 q hq) c11 (fun r u1 t H1 locs1 ht hvm hp hB hz hk hS => ?_)
  obtain ⟨hP1, hD1, hK1⟩ := hB
  rw [ht] at hP1
  exact kk r u1 H1 locs1 hp ⟨w1.kept (fun k q hk2 => hk q.1 ((w1 k q hk2).lt) (fun z => c12 q.1 (w2.2 k q hk2) z)), w2, hP1, hD1, hS⟩
theorem l_sld (C : LC p s m c b N xs D hX dX hY dY) (hW : LW D hX dX L u hY dY w s.heap H locs) {i : Nat} (hN : N ≤ 320) (hi : i < N) (hdg : decode cL_law pc = .ok (.iaload, 1)) (kk : W p l e R s m #[Value.ref b] below meth c H locs cells slots Q (F0 m (pc + 1) ls (.int (xs i) :: rest))) : W p l e R s m #[Value.ref b] below meth c H locs cells slots Q (F0 m pc ls (.int (nI i) :: .ref b :: rest)) := by
  refine va_sld C.1 C.2.1 C.2.2.2.2.2.1 C.2.2.2.2.2.2.1 (fun z => absurd C.2.2.2.2.2.2.1 (Nat.not_lt.mpr z)) hW.2.2.2.2 (vp_in_nI hi (by omega)) hdg ?_
  rw [nI_clamp (show i < 2 ^ 31 by omega)]
  exact kk
theorem l_slen (C : LC p s m c b N xs D hX dX hY dY) (hW : LW D hX dX L u hY dY w s.heap H locs) (hdg : decode cL_law pc = .ok (.arraylength, 1)) (kk : W p l e R s m #[Value.ref b] below meth c H locs cells slots Q (F0 m (pc + 1) ls (.int (nI N) :: rest))) : W p l e R s m #[Value.ref b] below meth c H locs cells slots Q (F0 m pc ls (.ref b :: rest)) :=
  va_slen C.1 C.2.1 C.2.2.2.2.2.1 C.2.2.2.2.2.2.1 (fun z => absurd C.2.2.2.2.2.2.1 (Nat.not_lt.mpr z)) hW.2.2.2.2 hdg kk
end
theorem len5 {N i : Nat} (hN : N ≤ 320) (hi : i ≤ 320) (h : ¬ nI N - nI 5 < nI i) : i + 5 ≤ N := by
  rw [Int32.lt_iff_toInt_lt, pk_sub_toInt (by omega) (by omega), nI_toInt (by omega)] at h
  omega
theorem sw_out {v : Int32} (h : ∀ k : Nat, k ≤ 8 → v ≠ nI k) : v.toInt < 0 ∨ 8 < v.toInt := by
  by_cases a : v < 0
  · exact Or.inl (Int32.lt_iff_toInt_lt.mp a)
  · by_cases b : 8 < v
    · exact Or.inr (Int32.lt_iff_toInt_lt.mp b)
    · obtain ⟨j, hj, e⟩ := nI_of2 (M := 8) (n := 8) (by decide) a (Int32.not_lt.mp b)
      exact absurd e (h j hj)
end
section
set_option maxRecDepth 100000
set_option maxHeartbeats 4000000 in
set_option maxRecDepth 100000 in
/-- the law's loop at its head -/
theorem law_loop {p : Program} {l : Launch} {e : Env} {s : State} {m : MethodId} {b N : Nat} {xs : Nat → Int32} {below : List Frame} {meth : Method} {c : Code} {D : va_G} {hX hY : Nat → Nat} {dX dY : Nat → ClassId} (C : LC p s m c b N xs D hX dX hY dY) (hN : N ≤ 320) (hr : meth.sig.returnType = ret) (hlocks : meth.locks = false) : ∀ (n i : Nat) (L : Nat → Nat) (u : XSt) (w : YSt) (H : Heap) (locs : List Loc) (ls : Array Slot), N < n + i → i ≤ N → Agree L u w → LW D hX dX L u hY dY w s.heap H locs → lv_has ls 4 [(3, .int (nI i)), (0, .ref b), (1, .ref (hX 0)), (2, .ref (hY 0))] → W p l e room_1 s m #[Value.ref b] below meth c H locs 25 587 (lw_Z below #[Value.ref b] s) (F0 m 18 ls []) := by
  have hx := C.1
  have hb : c.code = cL_law := C.2.1
  intro n
  induction n with
  | zero => intro i L u w H locs ls hn hi; exact absurd hn (by omega)
  | succ n ih =>
    intro i L u w H locs ls hn hi hA hW hl
    have hi320 : i ≤ 320 := Nat.le_trans hi hN
    have k301 : ∀ (L : Nat → Nat) (u : XSt) (w : YSt) (H : Heap) (locs : List Loc), i + 5 ≤ N → Agree L u w → LW D hX dX L u hY dY w s.heap H locs → W p l e room_1 s m #[Value.ref b] below meth c H locs 25 587 (lw_Z below #[Value.ref b] s) (F0 m 301 ls []) := by
      intro L u w H locs h5 hA hW
      refine lv_iinc (lv' := [(3, _), (0, _), (1, _), (2, _)]) hx hb dL_law_301 hl (k := 0) rfl (nI_add i 5) (by decide) rfl (fun ls hl => ?_)
      refine lv_goto (tgt := 18) hx hb dL_law_304 (by decide) ?_
      exact ih (i + 5) L u w H locs ls (by omega) h5 hA hW hl
    refine lv_iload_n hx hb dL_law_18 rfl (lv_at hl 0 rfl) ?_
    refine lv_aload_n hx hb dL_law_19 rfl (lv_at hl 1 rfl) ?_
    refine l_slen C hW dL_law_20 ?_
    refine lv_iconst (v := nI 5) hx hb dL_law_21 (by decide) ?_
    refine lv_isub hx hb dL_law_22 ?_
    refine lv_icmp_gt (tgt := 307) hx hb dL_law_23 (by decide) (fun c23 => ?_) (fun c23 => ?_)
    · refine lv_iconst (v := 1) hx hb dL_law_307 (by decide) ?_
      refine va_forget (fun q hq => hW.2.2.2.2.2.2 q hq) ?_
      refine W.widen (k := 600000) (n := 7290000) (Nat.le_of_ble_eq_true rfl) (Nat.le_of_ble_eq_true rfl) ?_
      exact lw_ret hx hb hr hlocks dL_law_308
    have h5 := len5 hN hi320 c23
    refine lv_aload_n hx hb dL_law_26 rfl (lv_at hl 1 rfl) ?_
    refine lv_iload_n hx hb dL_law_27 rfl (lv_at hl 0 rfl) ?_
    refine l_sld C hW hN (by omega) dL_law_28 ?_
    refine lv_bipush (v := 15) hx hb dL_law_29 (by decide) ?_
    refine lv_iand hx hb dL_law_31 ?_
    generalize xs i &&& 15 = v
    by_cases v0 : v = nI 0
    · rw [v0]
      refine lv_tableIn (off := 52) (tgt := 84) hx hb dL_law_32 (by decide) (by decide) rfl (by decide) ?_
      refine lv_aload_n hx hb dL_law_84 rfl (lv_at hl 2 rfl) ?_
      refine lv_aload_n hx hb dL_law_85 rfl (lv_at hl 1 rfl) ?_
      refine lv_iload_n hx hb dL_law_86 rfl (lv_at hl 0 rfl) ?_
      refine lv_iconst (v := nI 1) hx hb dL_law_87 (by decide) ?_
      refine n_iadd hx hb dL_law_88 ?_
      refine l_sld C hW hN (by omega) dL_law_89 ?_
      refine lv_aload_n hx hb dL_law_90 rfl (lv_at hl 1 rfl) ?_
      refine lv_iload_n hx hb dL_law_91 rfl (lv_at hl 0 rfl) ?_
      refine lv_iconst (v := nI 2) hx hb dL_law_92 (by decide) ?_
      refine n_iadd hx hb dL_law_93 ?_
      refine l_sld C hW hN (by omega) dL_law_94 ?_
      refine lv_aload_n hx hb dL_law_95 rfl (lv_at hl 1 rfl) ?_
      refine lv_iload_n hx hb dL_law_96 rfl (lv_at hl 0 rfl) ?_
      refine lv_iconst (v := nI 3) hx hb dL_law_97 (by decide) ?_
      refine n_iadd hx hb dL_law_98 ?_
      refine l_sld C hW hN (by omega) dL_law_99 ?_
      refine lv_aload_n hx hb dL_law_100 rfl (lv_at hl 1 rfl) ?_
      refine lv_iload_n hx hb dL_law_101 rfl (lv_at hl 0 rfl) ?_
      refine lv_iconst (v := nI 4) hx hb dL_law_102 (by decide) ?_
      refine n_iadd hx hb dL_law_103 ?_
      refine l_sld C hW hN (by omega) dL_law_104 ?_
      refine lx_call C hW (As := [_, _, _, _]) (rest := []) (mX_tell l D hX dX L u w (xs (i + 1)) (xs (i + 2)) (xs (i + 3)) (xs (i + 4)) hA.2.2.1 hA.2.1 hA.1) cbLX_tell ⟨by decide, by decide⟩ ⟨rfl, rfl⟩ ⟨Nat.le_of_ble_eq_true rfl, Nat.le_of_ble_eq_true rfl⟩ rfl hl.1 rfl (Nat.le_of_ble_eq_true rfl) dL_law_105 (fun r1 L u' H locs hp hW => ?_)
      have hpx := hp
      clear hp
      refine lv_aload_n hx hb dL_law_108 rfl (lv_at hl 3 rfl) ?_
      refine lv_aload_n hx hb dL_law_109 rfl (lv_at hl 1 rfl) ?_
      refine lv_iload_n hx hb dL_law_110 rfl (lv_at hl 0 rfl) ?_
      refine lv_iconst (v := nI 1) hx hb dL_law_111 (by decide) ?_
      refine n_iadd hx hb dL_law_112 ?_
      refine l_sld C hW hN (by omega) dL_law_113 ?_
      refine lv_aload_n hx hb dL_law_114 rfl (lv_at hl 1 rfl) ?_
      refine lv_iload_n hx hb dL_law_115 rfl (lv_at hl 0 rfl) ?_
      refine lv_iconst (v := nI 2) hx hb dL_law_116 (by decide) ?_
      refine n_iadd hx hb dL_law_117 ?_
      refine l_sld C hW hN (by omega) dL_law_118 ?_
      refine lv_aload_n hx hb dL_law_119 rfl (lv_at hl 1 rfl) ?_
      refine lv_iload_n hx hb dL_law_120 rfl (lv_at hl 0 rfl) ?_
      refine lv_iconst (v := nI 3) hx hb dL_law_121 (by decide) ?_
      refine n_iadd hx hb dL_law_122 ?_
      refine l_sld C hW hN (by omega) dL_law_123 ?_
      refine lv_aload_n hx hb dL_law_124 rfl (lv_at hl 1 rfl) ?_
      refine lv_iload_n hx hb dL_law_125 rfl (lv_at hl 0 rfl) ?_
      refine lv_iconst (v := nI 4) hx hb dL_law_126 (by decide) ?_
      refine n_iadd hx hb dL_law_127 ?_
      refine l_sld C hW hN (by omega) dL_law_128 ?_
      refine ly_call C hW (As := [_, _, _, _]) (rest := [.int r1]) (mY_tell l D hY dY w (xs (i + 1)) (xs (i + 2)) (xs (i + 3)) (xs (i + 4)) hA.2.2.1) cbLY_tell ⟨by decide, by decide⟩ ⟨rfl, rfl⟩ ⟨Nat.le_of_ble_eq_true rfl, Nat.le_of_ble_eq_true rfl⟩ rfl hl.1 rfl (Nat.le_of_ble_eq_true rfl) dL_law_129 (fun r2 w' H locs hp hW => ?_)
      obtain ⟨e1, hF, hR⟩ := hpx
      obtain ⟨e2, hw⟩ := hp
      rw [hw] at hW
      clear hw
      obtain ⟨hA, hre⟩ := agree_tell hA hF hR
      have hre : r1 = r2 := by rw [e1, e2, hre]
      refine lv_icmp_eq (tgt := 301) hx hb dL_law_132 (by decide) (fun _ => ?_) (fun z => absurd hre z)
      exact k301 _ _ _ H locs h5 hA hW
    by_cases v1 : v = nI 1
    · rw [v1]
      refine lv_tableIn (off := 105) (tgt := 137) hx hb dL_law_32 (by decide) (by decide) rfl (by decide) ?_
      refine lv_aload_n hx hb dL_law_137 rfl (lv_at hl 2 rfl) ?_
      refine lx_call C hW (As := []) (rest := []) (mX_failed l D hX dX L u hA.1) cbLX_failed ⟨by decide, by decide⟩ ⟨rfl, rfl⟩ ⟨Nat.le_of_ble_eq_true rfl, Nat.le_of_ble_eq_true rfl⟩ rfl hl.1 rfl (Nat.le_of_ble_eq_true rfl) dL_law_138 (fun r1 L u' H locs hp hW => ?_)
      obtain ⟨e1, hF, hu⟩ := hp
      rw [hu] at hW
      clear hu
      have hA : Agree L u w := ⟨hF, hA.2⟩
      refine lv_aload_n hx hb dL_law_141 rfl (lv_at hl 3 rfl) ?_
      refine ly_call C hW (As := []) (rest := [.int r1]) (mY_failed l D hY dY w) cbLY_failed ⟨by decide, by decide⟩ ⟨rfl, rfl⟩ ⟨Nat.le_of_ble_eq_true rfl, Nat.le_of_ble_eq_true rfl⟩ rfl hl.1 rfl (Nat.le_of_ble_eq_true rfl) dL_law_142 (fun r2 w' H locs hp hW => ?_)
      obtain ⟨e2, hw⟩ := hp
      rw [hw] at hW
      clear hw
      have hre : r1 = r2 := by rw [e1, e2, hA.bk]
      refine lv_icmp_eq (tgt := 301) hx hb dL_law_145 (by decide) (fun _ => ?_) (fun z => absurd hre z)
      exact k301 _ _ _ H locs h5 hA hW
    by_cases v2 : v = nI 2
    · rw [v2]
      refine lv_tableIn (off := 118) (tgt := 150) hx hb dL_law_32 (by decide) (by decide) rfl (by decide) ?_
      refine lv_aload_n hx hb dL_law_150 rfl (lv_at hl 2 rfl) ?_
      refine lv_aload_n hx hb dL_law_151 rfl (lv_at hl 1 rfl) ?_
      refine lv_iload_n hx hb dL_law_152 rfl (lv_at hl 0 rfl) ?_
      refine lv_iconst (v := nI 1) hx hb dL_law_153 (by decide) ?_
      refine n_iadd hx hb dL_law_154 ?_
      refine l_sld C hW hN (by omega) dL_law_155 ?_
      refine lx_call C hW (As := [_]) (rest := []) (mX_state l D hX dX L u (xs (i + 1)) hA.1) cbLX_state ⟨by decide, by decide⟩ ⟨rfl, rfl⟩ ⟨Nat.le_of_ble_eq_true rfl, Nat.le_of_ble_eq_true rfl⟩ rfl hl.1 rfl (Nat.le_of_ble_eq_true rfl) dL_law_156 (fun r1 L u' H locs hp hW => ?_)
      obtain ⟨e1, hF, hu⟩ := hp
      rw [hu] at hW
      clear hu
      have hA : Agree L u w := ⟨hF, hA.2⟩
      refine lv_aload_n hx hb dL_law_159 rfl (lv_at hl 3 rfl) ?_
      refine lv_aload_n hx hb dL_law_160 rfl (lv_at hl 1 rfl) ?_
      refine lv_iload_n hx hb dL_law_161 rfl (lv_at hl 0 rfl) ?_
      refine lv_iconst (v := nI 1) hx hb dL_law_162 (by decide) ?_
      refine n_iadd hx hb dL_law_163 ?_
      refine l_sld C hW hN (by omega) dL_law_164 ?_
      refine ly_call C hW (As := [_]) (rest := [.int r1]) (mY_state l D hY dY w (xs (i + 1)) hA.2.2.1) cbLY_state ⟨by decide, by decide⟩ ⟨rfl, rfl⟩ ⟨Nat.le_of_ble_eq_true rfl, Nat.le_of_ble_eq_true rfl⟩ rfl hl.1 rfl (Nat.le_of_ble_eq_true rfl) dL_law_165 (fun r2 w' H locs hp hW => ?_)
      obtain ⟨e2, hw⟩ := hp
      rw [hw] at hW
      clear hw
      have hre : r1 = r2 := by rw [e1, e2, hA.state]
      refine lv_icmp_eq (tgt := 301) hx hb dL_law_168 (by decide) (fun _ => ?_) (fun z => absurd hre z)
      exact k301 _ _ _ H locs h5 hA hW
    by_cases v3 : v = nI 3
    · rw [v3]
      refine lv_tableIn (off := 141) (tgt := 173) hx hb dL_law_32 (by decide) (by decide) rfl (by decide) ?_
      refine lv_aload_n hx hb dL_law_173 rfl (lv_at hl 2 rfl) ?_
      refine lv_aload_n hx hb dL_law_174 rfl (lv_at hl 1 rfl) ?_
      refine lv_iload_n hx hb dL_law_175 rfl (lv_at hl 0 rfl) ?_
      refine lv_iconst (v := nI 1) hx hb dL_law_176 (by decide) ?_
      refine n_iadd hx hb dL_law_177 ?_
      refine l_sld C hW hN (by omega) dL_law_178 ?_
      refine lx_call C hW (As := [_]) (rest := []) (mX_value l D hX dX L u (xs (i + 1)) hA.2.1.1.1 hA.1) cbLX_value ⟨by decide, by decide⟩ ⟨rfl, rfl⟩ ⟨Nat.le_of_ble_eq_true rfl, Nat.le_of_ble_eq_true rfl⟩ rfl hl.1 rfl (Nat.le_of_ble_eq_true rfl) dL_law_179 (fun r1 L u' H locs hp hW => ?_)
      obtain ⟨e1, hF, hu⟩ := hp
      rw [hu] at hW
      clear hu
      have hA : Agree L u w := ⟨hF, hA.2⟩
      refine lv_aload_n hx hb dL_law_182 rfl (lv_at hl 3 rfl) ?_
      refine lv_aload_n hx hb dL_law_183 rfl (lv_at hl 1 rfl) ?_
      refine lv_iload_n hx hb dL_law_184 rfl (lv_at hl 0 rfl) ?_
      refine lv_iconst (v := nI 1) hx hb dL_law_185 (by decide) ?_
      refine n_iadd hx hb dL_law_186 ?_
      refine l_sld C hW hN (by omega) dL_law_187 ?_
      refine ly_call C hW (As := [_]) (rest := [.int r1]) (mY_value l D hY dY w (xs (i + 1)) hA.2.2.1) cbLY_value ⟨by decide, by decide⟩ ⟨rfl, rfl⟩ ⟨Nat.le_of_ble_eq_true rfl, Nat.le_of_ble_eq_true rfl⟩ rfl hl.1 rfl (Nat.le_of_ble_eq_true rfl) dL_law_188 (fun r2 w' H locs hp hW => ?_)
      obtain ⟨e2, hw⟩ := hp
      rw [hw] at hW
      clear hw
      have hre : r1 = r2 := by rw [e1, e2, hA.value]
      refine lv_icmp_eq (tgt := 301) hx hb dL_law_191 (by decide) (fun _ => ?_) (fun z => absurd hre z)
      exact k301 _ _ _ H locs h5 hA hW
    by_cases v4 : v = nI 4
    · rw [v4]
      refine lv_tableIn (off := 164) (tgt := 196) hx hb dL_law_32 (by decide) (by decide) rfl (by decide) ?_
      refine lv_aload_n hx hb dL_law_196 rfl (lv_at hl 2 rfl) ?_
      refine lv_aload_n hx hb dL_law_197 rfl (lv_at hl 1 rfl) ?_
      refine lv_iload_n hx hb dL_law_198 rfl (lv_at hl 0 rfl) ?_
      refine lv_iconst (v := nI 1) hx hb dL_law_199 (by decide) ?_
      refine n_iadd hx hb dL_law_200 ?_
      refine l_sld C hW hN (by omega) dL_law_201 ?_
      refine lv_aload_n hx hb dL_law_202 rfl (lv_at hl 1 rfl) ?_
      refine lv_iload_n hx hb dL_law_203 rfl (lv_at hl 0 rfl) ?_
      refine lv_iconst (v := nI 2) hx hb dL_law_204 (by decide) ?_
      refine n_iadd hx hb dL_law_205 ?_
      refine l_sld C hW hN (by omega) dL_law_206 ?_
      refine lx_call C hW (As := [_, _]) (rest := []) (mX_linked l D hX dX L u (xs (i + 1)) (xs (i + 2)) hA.1) cbLX_linked ⟨by decide, by decide⟩ ⟨rfl, rfl⟩ ⟨Nat.le_of_ble_eq_true rfl, Nat.le_of_ble_eq_true rfl⟩ rfl hl.1 rfl (Nat.le_of_ble_eq_true rfl) dL_law_207 (fun r1 L u' H locs hp hW => ?_)
      obtain ⟨e1, hF, hu⟩ := hp
      rw [hu] at hW
      clear hu
      have hA : Agree L u w := ⟨hF, hA.2⟩
      refine lv_aload_n hx hb dL_law_210 rfl (lv_at hl 3 rfl) ?_
      refine lv_aload_n hx hb dL_law_211 rfl (lv_at hl 1 rfl) ?_
      refine lv_iload_n hx hb dL_law_212 rfl (lv_at hl 0 rfl) ?_
      refine lv_iconst (v := nI 1) hx hb dL_law_213 (by decide) ?_
      refine n_iadd hx hb dL_law_214 ?_
      refine l_sld C hW hN (by omega) dL_law_215 ?_
      refine lv_aload_n hx hb dL_law_216 rfl (lv_at hl 1 rfl) ?_
      refine lv_iload_n hx hb dL_law_217 rfl (lv_at hl 0 rfl) ?_
      refine lv_iconst (v := nI 2) hx hb dL_law_218 (by decide) ?_
      refine n_iadd hx hb dL_law_219 ?_
      refine l_sld C hW hN (by omega) dL_law_220 ?_
      refine ly_call C hW (As := [_, _]) (rest := [.int r1]) (mY_linked l D hY dY w (xs (i + 1)) (xs (i + 2)) hA.2.2.1) cbLY_linked ⟨by decide, by decide⟩ ⟨rfl, rfl⟩ ⟨Nat.le_of_ble_eq_true rfl, Nat.le_of_ble_eq_true rfl⟩ rfl hl.1 rfl (Nat.le_of_ble_eq_true rfl) dL_law_221 (fun r2 w' H locs hp hW => ?_)
      obtain ⟨e2, hw⟩ := hp
      rw [hw] at hW
      clear hw
      have hre : r1 = r2 := by rw [e1, e2, hA.linked]
      refine lv_icmp_eq (tgt := 301) hx hb dL_law_224 (by decide) (fun _ => ?_) (fun z => absurd hre z)
      exact k301 _ _ _ H locs h5 hA hW
    by_cases v5 : v = nI 5
    · rw [v5]
      refine lv_tableIn (off := 197) (tgt := 229) hx hb dL_law_32 (by decide) (by decide) rfl (by decide) ?_
      refine lv_aload_n hx hb dL_law_229 rfl (lv_at hl 2 rfl) ?_
      refine lv_aload_n hx hb dL_law_230 rfl (lv_at hl 1 rfl) ?_
      refine lv_iload_n hx hb dL_law_231 rfl (lv_at hl 0 rfl) ?_
      refine lv_iconst (v := nI 1) hx hb dL_law_232 (by decide) ?_
      refine n_iadd hx hb dL_law_233 ?_
      refine l_sld C hW hN (by omega) dL_law_234 ?_
      refine lv_aload_n hx hb dL_law_235 rfl (lv_at hl 1 rfl) ?_
      refine lv_iload_n hx hb dL_law_236 rfl (lv_at hl 0 rfl) ?_
      refine lv_iconst (v := nI 2) hx hb dL_law_237 (by decide) ?_
      refine n_iadd hx hb dL_law_238 ?_
      refine l_sld C hW hN (by omega) dL_law_239 ?_
      refine lx_call C hW (As := [_, _]) (rest := []) (mX_part l D hX dX L u (xs (i + 1)) (xs (i + 2)) hA.2.1.1.1 hA.1) cbLX_part ⟨by decide, by decide⟩ ⟨rfl, rfl⟩ ⟨Nat.le_of_ble_eq_true rfl, Nat.le_of_ble_eq_true rfl⟩ rfl hl.1 rfl (Nat.le_of_ble_eq_true rfl) dL_law_240 (fun r1 L u' H locs hp hW => ?_)
      obtain ⟨e1, hF, hu⟩ := hp
      rw [hu] at hW
      clear hu
      have hA : Agree L u w := ⟨hF, hA.2⟩
      refine lv_aload_n hx hb dL_law_243 rfl (lv_at hl 3 rfl) ?_
      refine lv_aload_n hx hb dL_law_244 rfl (lv_at hl 1 rfl) ?_
      refine lv_iload_n hx hb dL_law_245 rfl (lv_at hl 0 rfl) ?_
      refine lv_iconst (v := nI 1) hx hb dL_law_246 (by decide) ?_
      refine n_iadd hx hb dL_law_247 ?_
      refine l_sld C hW hN (by omega) dL_law_248 ?_
      refine lv_aload_n hx hb dL_law_249 rfl (lv_at hl 1 rfl) ?_
      refine lv_iload_n hx hb dL_law_250 rfl (lv_at hl 0 rfl) ?_
      refine lv_iconst (v := nI 2) hx hb dL_law_251 (by decide) ?_
      refine n_iadd hx hb dL_law_252 ?_
      refine l_sld C hW hN (by omega) dL_law_253 ?_
      refine ly_call C hW (As := [_, _]) (rest := [.int r1]) (mY_part l D hY dY w (xs (i + 1)) (xs (i + 2)) hA.2.2.1) cbLY_part ⟨by decide, by decide⟩ ⟨rfl, rfl⟩ ⟨Nat.le_of_ble_eq_true rfl, Nat.le_of_ble_eq_true rfl⟩ rfl hl.1 rfl (Nat.le_of_ble_eq_true rfl) dL_law_254 (fun r2 w' H locs hp hW => ?_)
      obtain ⟨e2, hw⟩ := hp
      rw [hw] at hW
      clear hw
      have hre : r1 = r2 := by rw [e2, hA.part e1]
      refine lv_icmp_eq (tgt := 301) hx hb dL_law_257 (by decide) (fun _ => ?_) (fun z => absurd hre z)
      exact k301 _ _ _ H locs h5 hA hW
    by_cases v6 : v = nI 6
    · rw [v6]
      refine lv_tableIn (off := 230) (tgt := 262) hx hb dL_law_32 (by decide) (by decide) rfl (by decide) ?_
      refine lv_aload_n hx hb dL_law_262 rfl (lv_at hl 2 rfl) ?_
      refine lx_call C hW (As := []) (rest := []) (mX_waiting l D hX dX L u hA.2.1.1.1 hA.1) cbLX_waiting ⟨by decide, by decide⟩ ⟨rfl, rfl⟩ ⟨Nat.le_of_ble_eq_true rfl, Nat.le_of_ble_eq_true rfl⟩ rfl hl.1 rfl (Nat.le_of_ble_eq_true rfl) dL_law_263 (fun r1 L u' H locs hp hW => ?_)
      obtain ⟨e1, hF, hu⟩ := hp
      rw [hu] at hW
      clear hu
      have hA : Agree L u w := ⟨hF, hA.2⟩
      refine lv_aload_n hx hb dL_law_266 rfl (lv_at hl 3 rfl) ?_
      refine ly_call C hW (As := []) (rest := [.int r1]) (mY_waiting l D hY dY w hA.2.2.1) cbLY_waiting ⟨by decide, by decide⟩ ⟨rfl, rfl⟩ ⟨Nat.le_of_ble_eq_true rfl, Nat.le_of_ble_eq_true rfl⟩ rfl hl.1 rfl (Nat.le_of_ble_eq_true rfl) dL_law_267 (fun r2 w' H locs hp hW => ?_)
      obtain ⟨e2, hw⟩ := hp
      rw [hw] at hW
      clear hw
      have hre : r1 = r2 := by rw [e1, e2, hA.waiting]
      refine lv_icmp_eq (tgt := 301) hx hb dL_law_270 (by decide) (fun _ => ?_) (fun z => absurd hre z)
      exact k301 _ _ _ H locs h5 hA hW
    by_cases v7 : v = nI 7
    · rw [v7]
      refine lv_tableIn (off := 243) (tgt := 275) hx hb dL_law_32 (by decide) (by decide) rfl (by decide) ?_
      refine lv_aload_n hx hb dL_law_275 rfl (lv_at hl 2 rfl) ?_
      refine lx_call C hW (As := []) (rest := []) (mX_classes l D hX dX L u hA.1) cbLX_classes ⟨by decide, by decide⟩ ⟨rfl, rfl⟩ ⟨Nat.le_of_ble_eq_true rfl, Nat.le_of_ble_eq_true rfl⟩ rfl hl.1 rfl (Nat.le_of_ble_eq_true rfl) dL_law_276 (fun r1 L u' H locs hp hW => ?_)
      obtain ⟨e1, hF, hu⟩ := hp
      rw [hu] at hW
      clear hu
      have hA : Agree L u w := ⟨hF, hA.2⟩
      refine lv_aload_n hx hb dL_law_279 rfl (lv_at hl 3 rfl) ?_
      refine ly_call C hW (As := []) (rest := [.int r1]) (mY_classes l D hY dY w hA.2.2.1) cbLY_classes ⟨by decide, by decide⟩ ⟨rfl, rfl⟩ ⟨Nat.le_of_ble_eq_true rfl, Nat.le_of_ble_eq_true rfl⟩ rfl hl.1 rfl (Nat.le_of_ble_eq_true rfl) dL_law_280 (fun r2 w' H locs hp hW => ?_)
      obtain ⟨e2, hw⟩ := hp
      rw [hw] at hW
      clear hw
      have hre : r1 = r2 := by rw [e1, e2, hA.classes]
      refine lv_icmp_eq (tgt := 301) hx hb dL_law_283 (by decide) (fun _ => ?_) (fun z => absurd hre z)
      exact k301 _ _ _ H locs h5 hA hW
    by_cases v8 : v = nI 8
    · rw [v8]
      refine lv_tableIn (off := 256) (tgt := 288) hx hb dL_law_32 (by decide) (by decide) rfl (by decide) ?_
      refine lv_aload_n hx hb dL_law_288 rfl (lv_at hl 2 rfl) ?_
      refine lx_call C hW (As := []) (rest := []) (mX_clear l D hX dX L u hA.2.1.1.1) cbLX_clear ⟨by decide, by decide⟩ ⟨rfl, rfl⟩ ⟨Nat.le_of_ble_eq_true rfl, Nat.le_of_ble_eq_true rfl⟩ rfl hl.1 rfl (Nat.le_of_ble_eq_true rfl) dL_law_289 (fun r1 L u' H locs hp hW => ?_)
      have hpx := hp
      clear hp
      refine lv_aload_n hx hb dL_law_292 rfl (lv_at hl 3 rfl) ?_
      refine ly_call C hW (As := []) (rest := [.int r1]) (mY_clear l D hY dY w hA.2.2.1) cbLY_clear ⟨by decide, by decide⟩ ⟨rfl, rfl⟩ ⟨Nat.le_of_ble_eq_true rfl, Nat.le_of_ble_eq_true rfl⟩ rfl hl.1 rfl (Nat.le_of_ble_eq_true rfl) dL_law_293 (fun r2 w' H locs hp hW => ?_)
      obtain ⟨e1, hF, hR⟩ := hpx
      obtain ⟨e2, hw⟩ := hp
      rw [hw] at hW
      clear hw
      obtain ⟨hA, hre⟩ := agree_clear hA hF hR
      have hre : r1 = r2 := by rw [e1, e2, hre]
      refine lv_icmp_eq (tgt := 301) hx hb dL_law_296 (by decide) (fun _ => ?_) (fun z => absurd hre z)
      exact k301 _ _ _ H locs h5 hA hW
    refine lv_tableOut (tgt := 301) hx hb dL_law_32 (sw_out (fun k hk e => ?_)) (by decide) ?_
    · rcases (show k = 0 ∨ k = 1 ∨ k = 2 ∨ k = 3 ∨ k = 4 ∨ k = 5 ∨ k = 6 ∨ k = 7 ∨ k = 8 by omega) with rfl | rfl | rfl | rfl | rfl | rfl | rfl | rfl | rfl
      · exact v0 e
      · exact v1 e
      · exact v2 e
      · exact v3 e
      · exact v4 e
      · exact v5 e
      · exact v6 e
      · exact v7 e
      · exact v8 e
    exact k301 _ _ _ H locs h5 hA hW
end
section
set_option maxRecDepth 100000
theorem fX00_ok : ∀ j, j < 18 → defaultValue (tyX0 j) = vp_V fX00 j := by
  intro j hj
  rcases (show j = 0 ∨ j = 1 ∨ j = 2 ∨ j = 3 ∨ j = 4 ∨ j = 5 ∨ j = 6 ∨ j = 7 ∨ j = 8 ∨ j = 9 ∨ j = 10 ∨ j = 11 ∨ j = 12 ∨ j = 13 ∨ j = 14 ∨ j = 15 ∨ j = 16 ∨ j = 17 by omega) with rfl | rfl | rfl | rfl | rfl | rfl | rfl | rfl | rfl | rfl | rfl | rfl | rfl | rfl | rfl | rfl | rfl | rfl <;> rfl
theorem fY00_ok : ∀ j, j < 13 → defaultValue (tyX1 j) = vp_V fY00 j := by
  intro j hj
  rcases (show j = 0 ∨ j = 1 ∨ j = 2 ∨ j = 3 ∨ j = 4 ∨ j = 5 ∨ j = 6 ∨ j = 7 ∨ j = 8 ∨ j = 9 ∨ j = 10 ∨ j = 11 ∨ j = 12 by omega) with rfl | rfl | rfl | rfl | rfl | rfl | rfl | rfl | rfl | rfl | rfl | rfl | rfl <;> rfl
theorem classes_known {s : State} {b : Addr} (ht : ∀ w ∈ lw_tbl, w.before #[Value.ref b] s = true) : ∃ D : va_G, va_K D vwCl [] s := by
  obtain ⟨c0, i0, h0⟩ := u_known (C := RX0) (T := TX0) (N := 18) (n := 18) ht (fun w h => lw_all_tbl (in_X0 w h)) (ht _ (lw_all_tbl q24))
  obtain ⟨c1, i1, h1⟩ := u_known (C := RX1) (T := TX1) (N := 13) (n := 13) ht (fun w h => lw_all_tbl (in_X1 w h)) (ht _ (lw_all_tbl q175))
  refine ⟨(fun k => if k = 0 then c0 else c1, fun k => if k = 0 then i0 else i1), fun k q hq => ?_, fun k q hq => by simp at hq⟩
  match k, hq with
  | 0, hq => cases hq; exact h0
  | 1, hq => cases hq; exact h1
  | k + 2, hq => simp [vwCl] at hq
set_option maxHeartbeats 4000000 in
set_option maxRecDepth 100000 in
theorem whole_start {p : Program} {e : Env} {s : State} {m : MethodId} {below : List Frame} {meth : Method} {c : Code} (l : Launch) {b L : Nat} {xs : Nat → Int32} (hL : L ≤ 320) (C0 : lw_At p s m meth c b L xs) : W p l e room_1 s m #[Value.ref b] below meth c s.heap [] 0 0 (lw_Z below #[Value.ref b] s) (entryFrame m ([Value.ref b] : List Value).toArray 4) := by
  obtain ⟨hx, hb, hr, hml, hown, hts0, hXs, hbl, hlocks, -⟩ := C0
  have hb : c.code = cL_law := hb
  have hts : ∀ w ∈ lw_all, w.before #[Value.ref b] s = true := fun w h => hts0 w (lw_all_tbl h)
  obtain ⟨D, hK⟩ := classes_known hts0
  have hA : ∀ q : Nat, s.heap.size ≤ q → LNew s.heap q := fun q h => h
  have hS : va_S (LNew s.heap) s.heap s.heap [] := va_S.rf
  have hP : va_P D vwCl [] s.heap := fun k q hk => by simp at hk
  have hD : va_D (LNew s.heap) [] := ⟨fun i j p q hi => by simp at hi, fun k q hk => by simp at hk⟩
  have hl := lv_entry ([.ref b]) (n := 4) (Nat.le_of_ble_eq_true rfl)
  rw [lg_entry_eq]
  generalize (lg_sl ([.ref b]) ++ List.replicate (4 - (lg_sl ([.ref b])).length) Slot.unset).toArray = ls at hl ⊢
  have hl : lv_has ls 4 [(0, .ref b)] := hl
  -- new DataflowStore()
  refine va_new (ci := 0) (fs := fX00) (C := RX0) (T := TX0) (N := 18) hx hb hts in_X0 tyX0 tyX0_ok hown (hts _ q23) (hts _ q24) (hts _ q21) hK hP hD hS hA rfl fX00_ok (Nat.le_of_ble_eq_true rfl) (Nat.le_of_ble_eq_true rfl) dL_law_0 (fun x0 H hP hD hS => ?_)
  have hP : va_P D vwCl [(x0, .inr (0, fX00))] H := hP
  have hD : va_D (LNew s.heap) [(x0, .inr (0, fX00))] := hD
  have hx0 : s.heap.size ≤ x0 := hD.2 0 _ rfl
  have hx0H : x0 < H.size := (hP 0 _ rfl).lt
  refine W.widen (k := 1) (n := 18) (Nat.le_of_ble_eq_true rfl) (Nat.le_of_ble_eq_true rfl) ?_
  refine lv_dup hx hb dL_law_3 rfl ?_
  have hfr : ∀ q, AI x0 H.size q → LNew s.heap q := fun q z => by
    rcases z with z | z
    · rw [z]; exact hx0
    · exact Nat.le_trans hS.1 z
  refine va_callv (va_runI (As := []) (rest := [.ref x0]) ⟨hx, hb, hml, hown, hts⟩ (mX_init l D x0 H.size) (cwI 0 hts (lw_meth q27) rfl rfl rfl (hts _ q21) (hts _ q25) (hts _ q26) rfl (by decide +kernel) ⟨Nat.le_of_ble_eq_true rfl, Nat.le_of_ble_eq_true rfl⟩) ⟨fun a U g mk q => by obtain ⟨q0, q1, qP, qK⟩ := q; exact ⟨q0, q1, qP, va_K.moved (u := U) (U := U.calling g mk a) (Vm.Alike.refl U.vm) qK⟩, fun U hU hw => ⟨rfl, by rw [hU], by rw [hU]; exact hP, va_K.moved hw.alike hK⟩⟩ rfl rfl hl.1 rfl (lv_room (Nat.le_of_ble_eq_true rfl)) dL_law_4 ⟨Nat.le_of_ble_eq_true rfl, Nat.le_of_ble_eq_true rfl⟩) hS (fun q _ z => hfr q z) hfr (fun ux t H1 locs ht hvm hp hB hz1 hk1 hS => ?_)
  obtain ⟨hX, dX, LX, u⟩ := ux
  obtain ⟨e0, hqX, hFX, hIX⟩ := hp
  obtain ⟨⟨hPX, hDX, hKX⟩, hltX⟩ := hB
  have e0 : hX 0 = x0 := e0
  have hqX : ∀ k, k < 18 → AI x0 H.size (hX k) := hqX
  have hFX : Forest LX u.r := hFX
  have hIX : XInit u := hIX
  have hPX : va_P D vwCl (wX hX dX LX u) t.heap := hPX
  have hDX : va_D (AX hX) (wX hX dX LX u) := hDX
  have hKX : va_K D vwCl (tX dX) s := va_K.moved hvm.symm hKX
  have hltX : ∀ k, k < 18 → ∃ j e, (wX hX dX LX u)[j]? = some (hX k, e) := hltX
  rw [ht] at hPX
  have hAX : ∀ q, AX hX q → s.heap.size ≤ q := fun q ⟨k, hk, z⟩ => by rw [z]; exact hfr _ (hqX k hk)
  have hAXin : ∀ q, AX hX q → ∃ j e, (wX hX dX LX u)[j]? = some (q, e) := fun q ⟨k, hk, z⟩ => by rw [z]; exact hltX k hk
  clear hP hD hfr hk1 hqX hltX
  refine W.widen (k := 14) (n := 342) (Nat.le_of_ble_eq_true rfl) (Nat.le_of_ble_eq_true rfl) ?_
  refine lv_astore_n (lv' := [(1, .ref x0), (0, .ref b)]) hx hb dL_law_7 rfl hl (by decide) rfl (fun ls hl => ?_)
  -- new DataflowStoreModel()
  have hD : va_D (LNew s.heap) (wX hX dX LX u) := hDX.weaken (fun _ q _ z => hAX q.1 z)
  refine va_new (ci := 1) (fs := fY00) (C := RX1) (T := TX1) (N := 13) hx hb hts in_X1 tyX1 tyX1_ok hown (hts _ q174) (hts _ q175) (hts _ q22) hK hPX hD hS hA rfl fY00_ok (Nat.le_of_ble_eq_true rfl) (Nat.le_of_ble_eq_true rfl) dL_law_8 (fun y0 H2 hP2 hD2 hS => ?_)
  have hP : va_P D vwCl [(y0, .inr (1, fY00))] H2 := hP2.sub [14] rfl
  have hPX : va_P D vwCl (wX hX dX LX u) H2 := hP2.sub [0, 1, 2, 3, 4, 5, 6, 7, 8, 9, 10, 11, 12, 13] rfl
  have hy0 : s.heap.size ≤ y0 := hD2.2 14 _ rfl
  have hAXlt : ∀ q, AX hX q → q < H2.size := fun q z => by
    obtain ⟨j, e, z⟩ := hAXin q z
    exact (hPX j _ z).lt
  have hAXne : ∀ q, AX hX q → q ≠ y0 := fun q z z2 => by
    obtain ⟨j, e, z⟩ := hAXin q z
    have hj : j < (wX hX dX LX u).length := (List.getElem?_eq_some_iff.mp z).1
    have hj14 : j < 14 := hj
    have := hD2.1 j 14 (q, e) (y0, .inr (1, fY00)) (by rw [List.getElem?_append_left hj]; exact z) rfl z2
    omega
  refine W.widen (k := 15) (n := 355) (Nat.le_of_ble_eq_true rfl) (Nat.le_of_ble_eq_true rfl) ?_
  refine lv_dup hx hb dL_law_11 rfl ?_
  have hfr : ∀ q, AI y0 H2.size q → LNew s.heap q := fun q z => by
    rcases z with z | z
    · rw [z]; exact hy0
    · exact Nat.le_trans hS.1 z
  refine va_callv (va_runI (As := []) (rest := [.ref y0]) ⟨hx, hb, hml, hown, hts⟩ (mY_init l D y0 H2.size) (cwI 0 hts (lw_meth q178) rfl rfl rfl (hts _ q22) (hts _ q176) (hts _ q177) rfl (by decide +kernel) ⟨Nat.le_of_ble_eq_true rfl, Nat.le_of_ble_eq_true rfl⟩) ⟨fun a U g mk q => by obtain ⟨q0, q1, qP, qK⟩ := q; exact ⟨q0, q1, qP, va_K.moved (u := U) (U := U.calling g mk a) (Vm.Alike.refl U.vm) qK⟩, fun U hU hw => ⟨rfl, by rw [hU], by rw [hU]; exact hP, va_K.moved hw.alike hK⟩⟩ rfl rfl hl.1 rfl (lv_room (Nat.le_of_ble_eq_true rfl)) dL_law_12 ⟨Nat.le_of_ble_eq_true rfl, Nat.le_of_ble_eq_true rfl⟩) hS (fun q _ z => hfr q z) hfr (fun uy t H3 locs ht hvm hp hB hz3 hk3 hS => ?_)
  obtain ⟨hY, dY, w⟩ := uy
  obtain ⟨e1, hqY, hIY, hnY, hbY⟩ := hp
  obtain ⟨⟨hPY, hDY, hKY⟩, -⟩ := hB
  have e1 : hY 0 = y0 := e1
  have hqY : ∀ k, k < 18 → AI y0 H2.size (hY k) := hqY
  have hPY : va_P D vwCl (wY hY dY w) t.heap := hPY
  have hDY : va_D (AY hY) (wY hY dY w) := hDY
  have hKY : va_K D vwCl (tY dY) s := va_K.moved hvm.symm hKY
  rw [ht] at hPY
  have hAY : ∀ q, AY hY q → s.heap.size ≤ q := fun q ⟨k, hk, z⟩ => by rw [z]; exact hfr _ (hqY k hk)
  have hdis : ∀ q, AX hX q → ¬ AI y0 H2.size q := fun q z z2 => by
    rcases z2 with z2 | z2
    · exact hAXne q z z2
    · exact absurd (hAXlt q z) (Nat.not_lt.mpr z2)
  have hPX : va_P D vwCl (wX hX dX LX u) H3 := hPX.kept (fun k q hk => hk3 q.1 ((hPX k q hk).lt) (hdis q.1 (hDX.2 k q hk)))
  have C : LC p s m c b L xs D hX dX hY dY := ⟨hx, hb, hml, hown, hts, hXs, hbl, hKX, hKY, hAX, hAY, fun q z1 ⟨k, hk, z2⟩ => hdis q z1 (by rw [z2]; exact hqY k hk)⟩
  refine W.widen (k := 25) (n := 587) (Nat.le_of_ble_eq_true rfl) (Nat.le_of_ble_eq_true rfl) ?_
  refine lv_astore_n (lv' := [(2, .ref y0), (1, .ref x0), (0, .ref b)]) hx hb dL_law_15 rfl hl (by decide) rfl (fun ls hl => ?_)
  refine lv_iconst (v := nI 0) hx hb dL_law_16 (by decide) ?_
  refine lv_istore_n (lv' := [(3, .int (nI 0)), (2, .ref y0), (1, .ref x0), (0, .ref b)]) hx hb dL_law_17 rfl hl (by decide) rfl (fun ls hl => ?_)
  exact law_loop C hL hr hlocks (L + 1) 0 LX u w H3 locs ls (by omega) (Nat.zero_le _) (agree_init hFX hIX hIY hnY hbY) ⟨hPX, hDX, hPY, hDY, hS⟩ (by rw [e0, e1]; exact lv_sub hl [0, 3, 2, 1] rfl)
set_option maxHeartbeats 4000000 in
theorem lw_walk (l : Launch) (b : Addr) (xs : List Int32) : MetFree l x (headSpec (Jvm.Cond.code x code maxLocals ret :: tables_1) room_1) (lw_P b xs) (fun _ _ _ _ _ => True) lw_Q := by
  refine MetFree.of_bodyS (code := code) (maxLocals := maxLocals) (ret := ret) (by decide) ?_ ?_
  · intro args s m h hn
    obtain ⟨meth, c, h1, h2, h3, h4, h5, h6, -, -⟩ := Cond.code_spec hn (atoms_spec (ws := Jvm.Cond.code x code maxLocals ret :: tables_1) h _ List.mem_cons_self)
    exact ⟨meth, c, h1, h2, h3, h4, h5, h6⟩
  · intro p e s m args below meth c s₁ B hml0 hP _
    obtain ⟨rfl, hx, hbd, hgv⟩ := hP
    obtain ⟨scr, harrAt, hlist, hof, hsmall⟩ := hx
    obtain ⟨hcb, hkn, -, -⟩ := State.arrayAt?_spec harrAt
    have hown : s.vm.findClass R_law = some m.cls := findClass_of_methodNamed B.named
    have hts0 : ∀ c ∈ (Jvm.Cond.code x code maxLocals ret :: tables_1), c.before #[Value.ref b] s = true := atoms_spec (ws := Jvm.Cond.code x code maxLocals ret :: tables_1) B.pre
    have hts : ∀ w ∈ lw_tbl, w.before #[Value.ref b] s = true := k2_hts_sels lw_privs (fun w hw => hts0 w (List.mem_cons_of_mem _ hw)) lw_privs_ok
    have hml : c.maxLocals = 4 := B.maxLocals_eq (hts0 _ List.mem_cons_self)
    have X₀ : Stand p l e room_1 s m #[Value.ref b] below meth c s₁ [] 0 0 := Stand.of_body B
    have hh0 : s₁.heap = s.heap := by rw [B.state]; rfl
    have hsz : scr.slots.size = xs.length := by rw [← Array.length_toList, hlist, List.length_map]
    have hval : ∀ j : Nat, j < xs.length → scr.slots[j]? = some (.int (xs.getD j 0)) := fun j hj => by
      rw [← Array.getElem?_toList, hlist]
      simp [hj]
    have hbl : b < s.heap.size := (Array.getElem?_eq_some_iff.mp hcb).1
    have hX : va_X b xs.length (fun j => xs.getD j 0) s s.heap := ⟨scr, hcb, hof, hkn, hsz, hval⟩
    have K : W p l e room_1 s m #[Value.ref b] below meth c s₁.heap [] 0 0 (lw_Z below #[Value.ref b] s) (entryFrame m ([Value.ref b] : List Value).toArray 4) := by
      rw [hh0]
      exact whole_start l hbd ⟨B.exec, B.bytes, B.returns, hml, hown, hts, hX, hbl, B.notSynchronized, hgv⟩
    obtain ⟨t, a1, o, b1, b2, b3⟩ := K s₁ rfl X₀
    exact ⟨t, o, a1, b1, b2, b3⟩
theorem lw_pre_spec {args : Array Value} {s : State} (h : (Jvm.Cond.and given_1 narrow_1).before args s = true) (hr : rest_1_c.before args s = true) : ∃ (b : Addr) (xs : List Int32), lw_P b xs args s := by
  have hs := flat_of_before _ h
  have hq := flat_of_before _ hr
  have hc : (Cond.count 1).before args s = true := hs _ (by decide +kernel)
  have harr : (Cond.arrayOf (.arg 0) .int).before args s = true := hs _ (by decide +kernel)
  have hle : (Cond.le (.length (.arg 0)) (.int 320)).before args s = true := hs _ (by decide +kernel)
  have hlen : (Cond.isInt (.length (.arg 0))).before args s = true := hq _ (by decide +kernel)
  have hall : (Cond.all (.arg 0) (.isInt (.elem (.arg 0) (.index 0)))).before args s = true := hq _ (by decide +kernel)
  obtain ⟨b, xs, hb, hx⟩ := State.ints_of_pre rfl harr hlen hall
  have hsm : xs.length < 2 ^ 31 := hx.choose_spec.2.2.2
  have hev : (Term.length (.arg 0)).eval args s none [] s = some (.int xs.length.toInt32) := hx.length_eval hb
  have hv := Cond.le_ints hev (show (Term.int 320).eval args s none [] s = some (.int 320) from rfl)
  have hd : xs.length.toInt32 ≤ 320 := by
    simpa [Cond.before, Cond.holds, hv] using hle
  have hN : xs.length ≤ 320 := (Int32.ofNat_le_ofNat hsm (by decide)).mp (show Int32.ofNat xs.length ≤ Int32.ofNat 320 from hd)
  exact ⟨b, xs, Cond.one_arg hc (show args[0]? = some (.ref b) from hb), hx, hN, h⟩
theorem lw_comes (l : Launch) : Comes l x (Jvm.Cond.code x code maxLocals ret :: tables_1) room_1 (fun tb e args s => Calls_1 tb e args s ∧ rest_1 tb e args s ∧ Pre_1 tb e args s)
    (fun _ _ args s o t => lw_Q args s o t) := by
  intro p e ha hc hk s m args below hf hfit hheap happ hpre
  obtain ⟨b, xs, hP⟩ := lw_pre_spec hpre.2.2 hpre.2.1
  obtain ⟨k, o, h1, h2, h3, hQ⟩ := lw_walk l b xs p e ha hc hk s m args below hf ((Spec.applies_iff_loose hf).mp happ).1 hP trivial
  exact ⟨k, o, h1, h2, h3, hQ⟩
theorem lw_frame {s t : State} {o : Outcome} {args : Array Value} (h : Framed s o t [] 600000 7290000) :
    Framed s o t (fieldLocs frame_1_writes args s ++ arrayLocs frame_1_arrays args s ++ staticLocs frame_1_statics s) 600000 7290000 := h
theorem lw_limb (L : Cond) (hL : ∀ (args : Array Value) (s t : State), L.after args s (.returned (some (.int 1))) t = true) :
    ArmFor flags0 classFile x code maxLocals ret World_1 tables_1 room_1 Calls_1 rest_1 Pre_1
      (fun tb e a s o t => postC L tb e a s o t ∧ Framed s o t (fieldLocs frame_1_writes a s ++ arrayLocs frame_1_arrays a s ++ staticLocs frame_1_statics s) 600000 7290000) := by
  intro l _ _ _ p e ha hc hk s m args below hf hfit hheap happ hpre
  obtain ⟨k, o, h1, h2, h3, rfl, hF⟩ := lw_comes l p e ha hc hk s m args below hf hfit hheap happ hpre
  exact ⟨k, _, h1, h2, h3, hL args s _, lw_frame hF⟩
theorem i_vc : Claimed_1_1 ∧ Claimed_1_2 := ⟨lw_limb limb_1_1 (fun args s t => by simp [limb_1_1, Cond.after, Cond.holds, Cond.value]), lw_limb limb_1_2 (fun args s t => Cond.after_iff.mpr (by
  first | (rw [show limb_1_2 = Cond.eq .result (.int 1) from rfl, Cond.eq_ints (x := 1) (y := 1) rfl rfl]; simp; done) | (simp [limb_1_2, Cond.value, Term.eval]; done)))⟩
end
