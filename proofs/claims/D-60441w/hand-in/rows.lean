section
-- ===== PART A: goes FIRST, ahead of the names: the tables' words, and 'selects' of the private methods out of them =====
/-- a private method of a class that the tables say can be made, by its rows of tables_1 -/
def lw_okq (q : MethodName × Nat) : Prop := (q.1.cls ≠ "java/lang/invoke/MethodHandle" ∧ q.1.cls ≠ "java/lang/invoke/VarHandle") ∧ Cond.instantiable q.1.cls q.2 ∈ tables_1 ∧ Cond.privateMethod q.1 ∈ tables_1 ∧ Cond.instanceMethod q.1 ∈ tables_1
set_option maxRecDepth 100000
theorem lw_t1 {w : Cond} (h : w ∈ tables_1_1) : w ∈ tables_1 := List.mem_append_left _ h
theorem lw_t2 {w : Cond} (h : w ∈ tables_1_2) : w ∈ tables_1 := List.mem_append_right _ h
theorem lw_p0 : lw_okq (⟨"CycleBasis", "noEdge", "(I)Z"⟩, 16) := ⟨⟨by decide +kernel, by decide +kernel⟩, lw_t1 (List.mem_of_getElem? (i := 4) rfl), lw_t1 (List.mem_of_getElem? (i := 74) rfl), lw_t1 (List.mem_of_getElem? (i := 75) rfl)⟩
theorem lw_p1 : lw_okq (⟨"CycleBasis", "startWitnesses", "()V"⟩, 16) := ⟨⟨by decide +kernel, by decide +kernel⟩, lw_t1 (List.mem_of_getElem? (i := 4) rfl), lw_t1 (List.mem_of_getElem? (i := 86) rfl), lw_t1 (List.mem_of_getElem? (i := 87) rfl)⟩
theorem lw_p2 : lw_okq (⟨"CycleBasis", "solve", "()V"⟩, 16) := ⟨⟨by decide +kernel, by decide +kernel⟩, lw_t1 (List.mem_of_getElem? (i := 4) rfl), lw_t1 (List.mem_of_getElem? (i := 94) rfl), lw_t1 (List.mem_of_getElem? (i := 95) rfl)⟩
theorem lw_p3 : lw_okq (⟨"CycleBasis", "lightest", "(I)V"⟩, 16) := ⟨⟨by decide +kernel, by decide +kernel⟩, lw_t1 (List.mem_of_getElem? (i := 4) rfl), lw_t1 (List.mem_of_getElem? (i := 98) rfl), lw_t1 (List.mem_of_getElem? (i := 99) rfl)⟩
theorem lw_p4 : lw_okq (⟨"CycleBasis", "searchFrom", "(III)V"⟩, 16) := ⟨⟨by decide +kernel, by decide +kernel⟩, lw_t1 (List.mem_of_getElem? (i := 4) rfl), lw_t1 (List.mem_of_getElem? (i := 103) rfl), lw_t1 (List.mem_of_getElem? (i := 104) rfl)⟩
theorem lw_p5 : lw_okq (⟨"CycleBasis", "relax", "(III)V"⟩, 16) := ⟨⟨by decide +kernel, by decide +kernel⟩, lw_t1 (List.mem_of_getElem? (i := 4) rfl), lw_t1 (List.mem_of_getElem? (i := 107) rfl), lw_t1 (List.mem_of_getElem? (i := 108) rfl)⟩
theorem lw_p6 : lw_okq (⟨"CycleBasis", "nearest", "()I"⟩, 16) := ⟨⟨by decide +kernel, by decide +kernel⟩, lw_t1 (List.mem_of_getElem? (i := 4) rfl), lw_t1 (List.mem_of_getElem? (i := 111) rfl), lw_t1 (List.mem_of_getElem? (i := 112) rfl)⟩
theorem lw_p7 : lw_okq (⟨"CycleBasis", "addCycle", "(II)V"⟩, 16) := ⟨⟨by decide +kernel, by decide +kernel⟩, lw_t1 (List.mem_of_getElem? (i := 4) rfl), lw_t1 (List.mem_of_getElem? (i := 115) rfl), lw_t1 (List.mem_of_getElem? (i := 116) rfl)⟩
theorem lw_p8 : lw_okq (⟨"CycleBasis", "reduce", "(I)I"⟩, 16) := ⟨⟨by decide +kernel, by decide +kernel⟩, lw_t1 (List.mem_of_getElem? (i := 4) rfl), lw_t1 (List.mem_of_getElem? (i := 139) rfl), lw_t1 (List.mem_of_getElem? (i := 140) rfl)⟩
theorem lw_p9 : lw_okq (⟨"CycleBasisModel", "refresh", "()V"⟩, 6) := ⟨⟨by decide +kernel, by decide +kernel⟩, lw_t1 (List.mem_of_getElem? (i := 150) rfl), lw_t1 (List.mem_of_getElem? (i := 156) rfl), lw_t1 (List.mem_of_getElem? (i := 157) rfl)⟩
theorem lw_p10 : lw_okq (⟨"CycleBasisModel", "even", "(I)Z"⟩, 6) := ⟨⟨by decide +kernel, by decide +kernel⟩, lw_t1 (List.mem_of_getElem? (i := 150) rfl), lw_t1 (List.mem_of_getElem? (i := 160) rfl), lw_t1 (List.mem_of_getElem? (i := 161) rfl)⟩
theorem lw_p11 : lw_okq (⟨"CycleBasisModel", "degree", "(II)I"⟩, 6) := ⟨⟨by decide +kernel, by decide +kernel⟩, lw_t1 (List.mem_of_getElem? (i := 150) rfl), lw_t1 (List.mem_of_getElem? (i := 164) rfl), lw_t1 (List.mem_of_getElem? (i := 165) rfl)⟩
theorem lw_p12 : lw_okq (⟨"CycleBasisModel", "isVertex", "(I)Z"⟩, 6) := ⟨⟨by decide +kernel, by decide +kernel⟩, lw_t1 (List.mem_of_getElem? (i := 150) rfl), lw_t1 (List.mem_of_getElem? (i := 191) rfl), lw_t1 (List.mem_of_getElem? (i := 192) rfl)⟩
theorem lw_p13 : lw_okq (⟨"CycleBasisModel", "isEdge", "(I)Z"⟩, 6) := ⟨⟨by decide +kernel, by decide +kernel⟩, lw_t1 (List.mem_of_getElem? (i := 150) rfl), lw_t1 (List.mem_of_getElem? (i := 199) rfl), lw_t1 (List.mem_of_getElem? (i := 200) rfl)⟩
theorem lw_p14 : lw_okq (⟨"CycleBasisModel", "forget", "()V"⟩, 6) := ⟨⟨by decide +kernel, by decide +kernel⟩, lw_t1 (List.mem_of_getElem? (i := 150) rfl), lw_t1 (List.mem_of_getElem? (i := 215) rfl), lw_t1 (List.mem_of_getElem? (i := 216) rfl)⟩
theorem lw_p15 : lw_okq (⟨"CycleBasisModel", "lightest", "()I"⟩, 6) := ⟨⟨by decide +kernel, by decide +kernel⟩, lw_t1 (List.mem_of_getElem? (i := 150) rfl), lw_t1 (List.mem_of_getElem? (i := 219) rfl), lw_t1 (List.mem_of_getElem? (i := 220) rfl)⟩
def lw_privs_1 : List (MethodName × Nat) := [(⟨"CycleBasis", "noEdge", "(I)Z"⟩, 16), (⟨"CycleBasis", "startWitnesses", "()V"⟩, 16), (⟨"CycleBasis", "solve", "()V"⟩, 16), (⟨"CycleBasis", "lightest", "(I)V"⟩, 16), (⟨"CycleBasis", "searchFrom", "(III)V"⟩, 16), (⟨"CycleBasis", "relax", "(III)V"⟩, 16), (⟨"CycleBasis", "nearest", "()I"⟩, 16), (⟨"CycleBasis", "addCycle", "(II)V"⟩, 16), (⟨"CycleBasis", "reduce", "(I)I"⟩, 16), (⟨"CycleBasisModel", "refresh", "()V"⟩, 6), (⟨"CycleBasisModel", "even", "(I)Z"⟩, 6), (⟨"CycleBasisModel", "degree", "(II)I"⟩, 6), (⟨"CycleBasisModel", "isVertex", "(I)Z"⟩, 6), (⟨"CycleBasisModel", "isEdge", "(I)Z"⟩, 6), (⟨"CycleBasisModel", "forget", "()V"⟩, 6), (⟨"CycleBasisModel", "lightest", "()I"⟩, 6)]
theorem lw_r1 : ∀ q ∈ lw_privs_1, lw_okq q := List.forall_mem_cons.mpr ⟨lw_p0, List.forall_mem_cons.mpr ⟨lw_p1, List.forall_mem_cons.mpr ⟨lw_p2, List.forall_mem_cons.mpr ⟨lw_p3, List.forall_mem_cons.mpr ⟨lw_p4, List.forall_mem_cons.mpr ⟨lw_p5, List.forall_mem_cons.mpr ⟨lw_p6, List.forall_mem_cons.mpr ⟨lw_p7, List.forall_mem_cons.mpr ⟨lw_p8, List.forall_mem_cons.mpr ⟨lw_p9, List.forall_mem_cons.mpr ⟨lw_p10, List.forall_mem_cons.mpr ⟨lw_p11, List.forall_mem_cons.mpr ⟨lw_p12, List.forall_mem_cons.mpr ⟨lw_p13, List.forall_mem_cons.mpr ⟨lw_p14, List.forall_mem_cons.mpr ⟨lw_p15, fun _ h => absurd h List.not_mem_nil⟩⟩⟩⟩⟩⟩⟩⟩⟩⟩⟩⟩⟩⟩⟩⟩
theorem lw_p16 : lw_okq (⟨"CycleBasisModel", "take", "(I)V"⟩, 6) := ⟨⟨by decide +kernel, by decide +kernel⟩, lw_t1 (List.mem_of_getElem? (i := 150) rfl), lw_t1 (List.mem_of_getElem? (i := 223) rfl), lw_t1 (List.mem_of_getElem? (i := 224) rfl)⟩
def lw_privs_2 : List (MethodName × Nat) := [(⟨"CycleBasisModel", "take", "(I)V"⟩, 6)]
theorem lw_r2 : ∀ q ∈ lw_privs_2, lw_okq q := List.forall_mem_cons.mpr ⟨lw_p16, fun _ h => absurd h List.not_mem_nil⟩
def lw_privs : List (MethodName × Nat) := lw_privs_1 ++ (lw_privs_2)
def lw_tbl : List Cond := k2_sels lw_privs ++ tables_1
theorem lw_privs_ok : ∀ q ∈ lw_privs, lw_okq q := by
  show ∀ q ∈ lw_privs_1 ++ (lw_privs_2), lw_okq q
  exact List.forall_mem_append.mpr ⟨lw_r1, lw_r2⟩
-- ===== ONE list of words for every method: the tables' words that hold all through a run =====
def lw_all : List Cond := lw_tbl.filter goodWord
/-- a word of the tables by its place: claim/WORDS.tsv -/
theorem lw_w {w : Cond} (i : Nat) (h : lw_tbl[i]? = some w) (g : goodWord w = true) : w ∈ lw_all := List.mem_filter.mpr ⟨List.mem_of_getElem? h, g⟩
theorem lw_all_tbl {w : Cond} (h : w ∈ lw_all) : w ∈ lw_tbl := (List.mem_filter.mp h).1
theorem lw_self : GoodIn lw_all lw_all := fun w h => ⟨h, good_of_word (List.mem_filter.mp h).2⟩
/-- a class's field words, by their places -/
theorem lw_in (ws : List Cond) (ps : List Nat) (hp : ws = ps.filterMap (fun i => lw_tbl[i]?)) (hg : ws.all goodWord = true) : ∀ w ∈ ws, w ∈ lw_all := by
  intro w h
  have h1 := List.all_eq_true.mp hg w h
  rw [hp] at h
  obtain ⟨i, -, hi⟩ := List.mem_filterMap.mp h
  exact lw_w i hi h1
/-- the words of a contract for the method y with code b, L locals, answer r -/
abbrev ws_ (y : MethodName) (b : ByteArray) (L : Nat) (r : Option FieldType) : List Cond := Cond.code y b L r :: lw_all
theorem lw_meth {y : MethodName} {b : ByteArray} {L : Nat} {r : Option FieldType} (h : Cond.code y b L r ∈ lw_all) : GoodIn lw_all (ws_ y b L r) := by
  intro w hw
  rcases List.mem_cons.mp hw with e | e
  · rw [e]
    exact lw_self _ h
  · exact lw_self _ e
theorem lw_app {a c : List Cond} (ha : ∀ w ∈ a, w ∈ lw_all) (hc : GoodIn lw_all c) : GoodIn lw_all (a ++ c) := by
  intro w hw
  rcases List.mem_append.mp hw with e | e
  · exact lw_self w (ha w e)
  · exact hc w e
/-- what a call through an object asks: cwV n hts (lw_V ..) -/
theorem lw_V {own : String} {idx : Nat} {C : String} {y : MethodName} {b : ByteArray} {L : Nat} {r : Option FieldType} (h1 : Cond.methodLink own idx y ∈ lw_all) (h2 : Cond.instanceMethod y ∈ lw_all) (h3 : Cond.selects C y y ∈ lw_all) (h4 : Cond.initialized C ∈ lw_all) (h5 : Cond.code y b L r ∈ lw_all) : GoodIn lw_all (wsV own idx C y (ws_ y b L r)) := by
  refine lw_app ?_ (lw_meth h5)
  intro w hw
  simp only [List.mem_cons, List.not_mem_nil, or_false] at hw
  rcases hw with e | e | e | e
  · rw [e]; exact h1
  · rw [e]; exact h2
  · rw [e]; exact h3
  · rw [e]; exact h4
/-- what a static call asks: va_cwS n hts (lw_S ..) -/
theorem lw_S {own : String} {idx : Nat} {y : MethodName} {b : ByteArray} {L : Nat} {r : Option FieldType} (h1 : Cond.methodLink own idx y ∈ lw_all) (h2 : Cond.static y ∈ lw_all) (h3 : Cond.initialized y.cls ∈ lw_all) (h4 : Cond.code y b L r ∈ lw_all) : GoodIn lw_all (va_wsS own idx y (ws_ y b L r)) := by
  refine lw_app ?_ (lw_meth h4)
  intro w hw
  simp only [List.mem_cons, List.not_mem_nil, or_false] at hw
  rcases hw with e | e | e
  · rw [e]; exact h1
  · rw [e]; exact h2
  · rw [e]; exact h3
/-- the words of a contract for a method WITH HANDLERS (hh: its table) -/
abbrev wsW_ (y : MethodName) (b : ByteArray) (L : Nat) (r : Option FieldType) (hh : List (Nat × Nat × Nat × Nat)) : List Cond := Cond.codeWith y b L r hh :: lw_all
theorem lw_methW {y : MethodName} {b : ByteArray} {L : Nat} {r : Option FieldType} {hh : List (Nat × Nat × Nat × Nat)} (h : Cond.codeWith y b L r hh ∈ lw_all) : GoodIn lw_all (wsW_ y b L r hh) := by
  intro w hw
  rcases List.mem_cons.mp hw with e | e
  · rw [e]
    exact lw_self _ h
  · exact lw_self _ e
/-- any list of words by their places (lw_in), good -/
theorem lw_good {ws : List Cond} (h : ∀ w ∈ ws, w ∈ lw_all) : GoodIn lw_all ws := fun w hw => lw_self w (h w hw)
/-- what a call of a method with handlers asks: vx_cwVW n hts (lw_VW ..), vx_cwSW n hts (lw_SW ..) -/
theorem lw_VW {own : String} {idx : Nat} {C : String} {y : MethodName} {b : ByteArray} {L : Nat} {r : Option FieldType} {hh : List (Nat × Nat × Nat × Nat)} (h1 : Cond.methodLink own idx y ∈ lw_all) (h2 : Cond.instanceMethod y ∈ lw_all) (h3 : Cond.selects C y y ∈ lw_all) (h4 : Cond.initialized C ∈ lw_all) (h5 : Cond.codeWith y b L r hh ∈ lw_all) : GoodIn lw_all (wsV own idx C y (wsW_ y b L r hh)) := by
  refine lw_app ?_ (lw_methW h5)
  intro w hw
  simp only [List.mem_cons, List.not_mem_nil, or_false] at hw
  rcases hw with e | e | e | e
  · rw [e]; exact h1
  · rw [e]; exact h2
  · rw [e]; exact h3
  · rw [e]; exact h4
theorem lw_SW {own : String} {idx : Nat} {y : MethodName} {b : ByteArray} {L : Nat} {r : Option FieldType} {hh : List (Nat × Nat × Nat × Nat)} (h1 : Cond.methodLink own idx y ∈ lw_all) (h2 : Cond.static y ∈ lw_all) (h3 : Cond.initialized y.cls ∈ lw_all) (h4 : Cond.codeWith y b L r hh ∈ lw_all) : GoodIn lw_all (va_wsS own idx y (wsW_ y b L r hh)) := by
  refine lw_app ?_ (lw_methW h4)
  intro w hw
  simp only [List.mem_cons, List.not_mem_nil, or_false] at hw
  rcases hw with e | e | e
  · rw [e]; exact h1
  · rw [e]; exact h2
  · rw [e]; exact h3
/-- a word by its place in its run of the tables -/
theorem lw_at {r : List Cond} (hr : ∀ w ∈ r, w ∈ lw_tbl) {w : Cond} (i : Nat) (h : r[i]? = some w) : w ∈ lw_tbl := hr w (List.mem_of_getElem? h)
theorem lw_g {w : Cond} (h : w ∈ lw_tbl) (g : goodWord w = true) : w ∈ lw_all := List.mem_filter.mpr ⟨h, g⟩
theorem lw_ms : ∀ w ∈ k2_sels lw_privs, w ∈ lw_tbl := fun w h => show w ∈ k2_sels lw_privs ++ tables_1 from List.mem_append_left _ h
theorem lw_m1 : ∀ w ∈ tables_1_1, w ∈ lw_tbl := fun w h => show w ∈ k2_sels lw_privs ++ tables_1 from List.mem_append_right (k2_sels lw_privs) (show w ∈ tables_1 from List.mem_append_left _ h)
theorem lw_m2 : ∀ w ∈ tables_1_2, w ∈ lw_tbl := fun w h => show w ∈ k2_sels lw_privs ++ tables_1 from List.mem_append_right (k2_sels lw_privs) (show w ∈ tables_1 from List.mem_append_right _ h)
theorem qs0 : (Cond.selects "CycleBasis" ⟨"CycleBasis", "noEdge", "(I)Z"⟩ ⟨"CycleBasis", "noEdge", "(I)Z"⟩) ∈ lw_all := lw_g (lw_at lw_ms 0 rfl) rfl
theorem qs1 : (Cond.selects "CycleBasis" ⟨"CycleBasis", "startWitnesses", "()V"⟩ ⟨"CycleBasis", "startWitnesses", "()V"⟩) ∈ lw_all := lw_g (lw_at lw_ms 1 rfl) rfl
theorem qs2 : (Cond.selects "CycleBasis" ⟨"CycleBasis", "solve", "()V"⟩ ⟨"CycleBasis", "solve", "()V"⟩) ∈ lw_all := lw_g (lw_at lw_ms 2 rfl) rfl
theorem qs3 : (Cond.selects "CycleBasis" ⟨"CycleBasis", "lightest", "(I)V"⟩ ⟨"CycleBasis", "lightest", "(I)V"⟩) ∈ lw_all := lw_g (lw_at lw_ms 3 rfl) rfl
theorem qs4 : (Cond.selects "CycleBasis" ⟨"CycleBasis", "searchFrom", "(III)V"⟩ ⟨"CycleBasis", "searchFrom", "(III)V"⟩) ∈ lw_all := lw_g (lw_at lw_ms 4 rfl) rfl
theorem qs5 : (Cond.selects "CycleBasis" ⟨"CycleBasis", "relax", "(III)V"⟩ ⟨"CycleBasis", "relax", "(III)V"⟩) ∈ lw_all := lw_g (lw_at lw_ms 5 rfl) rfl
theorem qs6 : (Cond.selects "CycleBasis" ⟨"CycleBasis", "nearest", "()I"⟩ ⟨"CycleBasis", "nearest", "()I"⟩) ∈ lw_all := lw_g (lw_at lw_ms 6 rfl) rfl
theorem qs7 : (Cond.selects "CycleBasis" ⟨"CycleBasis", "addCycle", "(II)V"⟩ ⟨"CycleBasis", "addCycle", "(II)V"⟩) ∈ lw_all := lw_g (lw_at lw_ms 7 rfl) rfl
theorem qs8 : (Cond.selects "CycleBasis" ⟨"CycleBasis", "reduce", "(I)I"⟩ ⟨"CycleBasis", "reduce", "(I)I"⟩) ∈ lw_all := lw_g (lw_at lw_ms 8 rfl) rfl
theorem qs9 : (Cond.selects "CycleBasisModel" ⟨"CycleBasisModel", "refresh", "()V"⟩ ⟨"CycleBasisModel", "refresh", "()V"⟩) ∈ lw_all := lw_g (lw_at lw_ms 9 rfl) rfl
theorem qs10 : (Cond.selects "CycleBasisModel" ⟨"CycleBasisModel", "even", "(I)Z"⟩ ⟨"CycleBasisModel", "even", "(I)Z"⟩) ∈ lw_all := lw_g (lw_at lw_ms 10 rfl) rfl
theorem qs11 : (Cond.selects "CycleBasisModel" ⟨"CycleBasisModel", "degree", "(II)I"⟩ ⟨"CycleBasisModel", "degree", "(II)I"⟩) ∈ lw_all := lw_g (lw_at lw_ms 11 rfl) rfl
theorem qs12 : (Cond.selects "CycleBasisModel" ⟨"CycleBasisModel", "isVertex", "(I)Z"⟩ ⟨"CycleBasisModel", "isVertex", "(I)Z"⟩) ∈ lw_all := lw_g (lw_at lw_ms 12 rfl) rfl
theorem qs13 : (Cond.selects "CycleBasisModel" ⟨"CycleBasisModel", "isEdge", "(I)Z"⟩ ⟨"CycleBasisModel", "isEdge", "(I)Z"⟩) ∈ lw_all := lw_g (lw_at lw_ms 13 rfl) rfl
theorem qs14 : (Cond.selects "CycleBasisModel" ⟨"CycleBasisModel", "forget", "()V"⟩ ⟨"CycleBasisModel", "forget", "()V"⟩) ∈ lw_all := lw_g (lw_at lw_ms 14 rfl) rfl
theorem qs15 : (Cond.selects "CycleBasisModel" ⟨"CycleBasisModel", "lightest", "()I"⟩ ⟨"CycleBasisModel", "lightest", "()I"⟩) ∈ lw_all := lw_g (lw_at lw_ms 15 rfl) rfl
theorem qs16 : (Cond.selects "CycleBasisModel" ⟨"CycleBasisModel", "take", "(I)V"⟩ ⟨"CycleBasisModel", "take", "(I)V"⟩) ∈ lw_all := lw_g (lw_at lw_ms 16 rfl) rfl
end
section
/-! CycleBasis -/
set_option maxRecDepth 100000
def RX0 : String := "CycleBasis"
def TX0 : u_T := fun k => match k with
  | 0 => ("CycleBasis", "count", "I", false)
  | 1 => ("CycleBasis", "from", "[I", true)
  | 2 => ("CycleBasis", "to", "[I", true)
  | 3 => ("CycleBasis", "weights", "[I", true)
  | 4 => ("CycleBasis", "group", "[I", true)
  | 5 => ("CycleBasis", "rank", "I", false)
  | 6 => ("CycleBasis", "witness", "[I", true)
  | 7 => ("CycleBasis", "found", "I", false)
  | 8 => ("CycleBasis", "cycle", "[I", true)
  | 9 => ("CycleBasis", "cycleWeight", "[I", true)
  | 10 => ("CycleBasis", "dist", "[I", true)
  | 11 => ("CycleBasis", "way", "[I", true)
  | 12 => ("CycleBasis", "done", "[Z", true)
  | 13 => ("CycleBasis", "bestWeight", "I", false)
  | 14 => ("CycleBasis", "bestSet", "I", false)
  | _ => ("CycleBasis", "pivot", "[I", true)
def tyX0 : Nat → FieldType := fun k => match k with
  | 0 => .int
  | 1 => .array .int
  | 2 => .array .int
  | 3 => .array .int
  | 4 => .array .int
  | 5 => .int
  | 6 => .array .int
  | 7 => .int
  | 8 => .array .int
  | 9 => .array .int
  | 10 => .array .int
  | 11 => .array .int
  | 12 => .array .boolean
  | 13 => .int
  | 14 => .int
  | _ => .array .int
abbrev wsX00 : List Cond := u_ws RX0 TX0 16
set_option maxRecDepth 100000 in
theorem nmX0 : ∀ a, a < 16 → ∀ b, b < 16 → a ≠ b → (TX0 a).2.1 ≠ (TX0 b).2.1 := by decide +kernel
set_option maxRecDepth 100000 in
theorem tyX0_ok : ∀ k, k < 16 → parseFieldDescriptor (TX0 k).2.2.1 = some (tyX0 k) := by decide +kernel
abbrev cX0_init : ByteArray := prog_1_method_1_code
def yX0_init : MethodName := ⟨RX0, "<init>", "()V"⟩
abbrev cX0_edge : ByteArray := prog_1_method_4_code
def yX0_edge : MethodName := ⟨RX0, "edge", "(III)I"⟩
abbrev cX0_badVertex : ByteArray := prog_1_method_2_code
def yX0_badVertex : MethodName := ⟨RX0, "badVertex", "(I)Z"⟩
abbrev cX0_reweigh : ByteArray := prog_1_method_5_code
def yX0_reweigh : MethodName := ⟨RX0, "reweigh", "(II)I"⟩
abbrev cX0_noEdge : ByteArray := prog_1_method_3_code
def yX0_noEdge : MethodName := ⟨RX0, "noEdge", "(I)Z"⟩
abbrev cX0_dropLast : ByteArray := prog_1_method_6_code
def yX0_dropLast : MethodName := ⟨RX0, "dropLast", "()I"⟩
abbrev cX0_rank : ByteArray := prog_1_method_15_code
def yX0_rank : MethodName := ⟨RX0, "rank", "()I"⟩
abbrev cX0_startWitnesses : ByteArray := prog_1_method_7_code
def yX0_startWitnesses : MethodName := ⟨RX0, "startWitnesses", "()V"⟩
abbrev cX0_total : ByteArray := prog_1_method_16_code
def yX0_total : MethodName := ⟨RX0, "total", "()I"⟩
abbrev cX0_solve : ByteArray := prog_1_method_13_code
def yX0_solve : MethodName := ⟨RX0, "solve", "()V"⟩
abbrev cX0_lightest : ByteArray := prog_1_method_12_code
def yX0_lightest : MethodName := ⟨RX0, "lightest", "(I)V"⟩
abbrev cX0_searchFrom : ByteArray := prog_1_method_11_code
def yX0_searchFrom : MethodName := ⟨RX0, "searchFrom", "(III)V"⟩
abbrev cX0_relax : ByteArray := prog_1_method_10_code
def yX0_relax : MethodName := ⟨RX0, "relax", "(III)V"⟩
abbrev cX0_nearest : ByteArray := prog_1_method_9_code
def yX0_nearest : MethodName := ⟨RX0, "nearest", "()I"⟩
abbrev cX0_addCycle : ByteArray := prog_1_method_14_code
def yX0_addCycle : MethodName := ⟨RX0, "addCycle", "(II)V"⟩
abbrev cX0_oddlyMet : ByteArray := prog_1_method_8_code
def yX0_oddlyMet : MethodName := ⟨RX0, "oddlyMet", "(II)Z"⟩
abbrev cX0_part : ByteArray := prog_1_method_17_code
def yX0_part : MethodName := ⟨RX0, "part", "(I)I"⟩
abbrev cX0_through : ByteArray := prog_1_method_18_code
def yX0_through : MethodName := ⟨RX0, "through", "(I)I"⟩
abbrev cX0_closed : ByteArray := prog_1_method_19_code
def yX0_closed : MethodName := ⟨RX0, "closed", "(I)Z"⟩
abbrev cX0_level : ByteArray := prog_1_method_22_code
def yX0_level : MethodName := ⟨RX0, "level", "(I)I"⟩
abbrev cX0_reduce : ByteArray := prog_1_method_21_code
def yX0_reduce : MethodName := ⟨RX0, "reduce", "(I)I"⟩
abbrev cX0_highest : ByteArray := prog_1_method_20_code
def yX0_highest : MethodName := ⟨RX0, "highest", "(I)I"⟩
abbrev cX0_bridges : ByteArray := prog_1_method_23_code
def yX0_bridges : MethodName := ⟨RX0, "bridges", "()I"⟩
theorem in_X0 : ∀ w ∈ wsX00, w ∈ lw_all := lw_in wsX00 [44, 46, 48, 50, 52, 54, 56, 58, 60, 62, 64, 66, 68, 70, 72, 74] (by decide +kernel) (by decide +kernel)

theorem q18 : (Jvm.Cond.initialized "CycleBasis") ∈ lw_all := lw_g (lw_at lw_m1 1 rfl) rfl
theorem q21 : (Jvm.Cond.instantiable "CycleBasis" (16 : Nat)) ∈ lw_all := lw_g (lw_at lw_m1 4 rfl) rfl
theorem q23 : (Jvm.Cond.instanceMethod ({ cls := "CycleBasis", name := "<init>", desc := "()V" } : Jvm.MethodName)) ∈ lw_all := lw_g (lw_at lw_m1 6 rfl) rfl
theorem q24 : (Jvm.Cond.code ({ cls := "CycleBasis", name := "<init>", desc := "()V" } : Jvm.MethodName) prog_1_method_1_code (1 : Nat) (Option.none : Option Jvm.ClassFile.FieldType)) ∈ lw_all := lw_g (lw_at lw_m1 7 rfl) rfl
theorem q25 : (Jvm.Cond.methodLink "CycleBasis" (1 : Nat) ({ cls := "java/lang/Object", name := "<init>", desc := "()V" } : Jvm.MethodName)) ∈ lw_all := lw_g (lw_at lw_m1 8 rfl) rfl
theorem q28 : (Jvm.Cond.fieldLink "CycleBasis" (44 : Nat) "CycleBasis" "count" "I") ∈ lw_all := lw_g (lw_at lw_m1 11 rfl) rfl
theorem q29 : (Jvm.Cond.fieldLink "CycleBasis" (7 : Nat) "CycleBasis" "from" "[I") ∈ lw_all := lw_g (lw_at lw_m1 12 rfl) rfl
theorem q30 : (Jvm.Cond.fieldLink "CycleBasis" (13 : Nat) "CycleBasis" "to" "[I") ∈ lw_all := lw_g (lw_at lw_m1 13 rfl) rfl
theorem q31 : (Jvm.Cond.fieldLink "CycleBasis" (16 : Nat) "CycleBasis" "weights" "[I") ∈ lw_all := lw_g (lw_at lw_m1 14 rfl) rfl
theorem q32 : (Jvm.Cond.fieldLink "CycleBasis" (19 : Nat) "CycleBasis" "group" "[I") ∈ lw_all := lw_g (lw_at lw_m1 15 rfl) rfl
theorem q33 : (Jvm.Cond.fieldLink "CycleBasis" (55 : Nat) "CycleBasis" "rank" "I") ∈ lw_all := lw_g (lw_at lw_m1 16 rfl) rfl
theorem q34 : (Jvm.Cond.fieldLink "CycleBasis" (22 : Nat) "CycleBasis" "witness" "[I") ∈ lw_all := lw_g (lw_at lw_m1 17 rfl) rfl
theorem q35 : (Jvm.Cond.fieldLink "CycleBasis" (79 : Nat) "CycleBasis" "found" "I") ∈ lw_all := lw_g (lw_at lw_m1 18 rfl) rfl
theorem q36 : (Jvm.Cond.fieldLink "CycleBasis" (25 : Nat) "CycleBasis" "cycle" "[I") ∈ lw_all := lw_g (lw_at lw_m1 19 rfl) rfl
theorem q37 : (Jvm.Cond.fieldLink "CycleBasis" (28 : Nat) "CycleBasis" "cycleWeight" "[I") ∈ lw_all := lw_g (lw_at lw_m1 20 rfl) rfl
theorem q38 : (Jvm.Cond.fieldLink "CycleBasis" (31 : Nat) "CycleBasis" "dist" "[I") ∈ lw_all := lw_g (lw_at lw_m1 21 rfl) rfl
theorem q39 : (Jvm.Cond.fieldLink "CycleBasis" (34 : Nat) "CycleBasis" "way" "[I") ∈ lw_all := lw_g (lw_at lw_m1 22 rfl) rfl
theorem q40 : (Jvm.Cond.fieldLink "CycleBasis" (37 : Nat) "CycleBasis" "done" "[Z") ∈ lw_all := lw_g (lw_at lw_m1 23 rfl) rfl
theorem q41 : (Jvm.Cond.fieldLink "CycleBasis" (67 : Nat) "CycleBasis" "bestWeight" "I") ∈ lw_all := lw_g (lw_at lw_m1 24 rfl) rfl
theorem q42 : (Jvm.Cond.fieldLink "CycleBasis" (70 : Nat) "CycleBasis" "bestSet" "I") ∈ lw_all := lw_g (lw_at lw_m1 25 rfl) rfl
theorem q43 : (Jvm.Cond.fieldLink "CycleBasis" (41 : Nat) "CycleBasis" "pivot" "[I") ∈ lw_all := lw_g (lw_at lw_m1 26 rfl) rfl
theorem q44 : (Jvm.Cond.lays "CycleBasis" "CycleBasis" "count" "I") ∈ lw_all := lw_g (lw_at lw_m1 27 rfl) rfl
theorem q45 : (Jvm.Cond.soleField "CycleBasis" "count") ∈ lw_all := lw_g (lw_at lw_m1 28 rfl) rfl
theorem q46 : (Jvm.Cond.laysFinal "CycleBasis" "CycleBasis" "from" "[I") ∈ lw_all := lw_g (lw_at lw_m1 29 rfl) rfl
theorem q47 : (Jvm.Cond.soleField "CycleBasis" "from") ∈ lw_all := lw_g (lw_at lw_m1 30 rfl) rfl
theorem q48 : (Jvm.Cond.laysFinal "CycleBasis" "CycleBasis" "to" "[I") ∈ lw_all := lw_g (lw_at lw_m1 31 rfl) rfl
theorem q49 : (Jvm.Cond.soleField "CycleBasis" "to") ∈ lw_all := lw_g (lw_at lw_m1 32 rfl) rfl
theorem q50 : (Jvm.Cond.laysFinal "CycleBasis" "CycleBasis" "weights" "[I") ∈ lw_all := lw_g (lw_at lw_m1 33 rfl) rfl
theorem q51 : (Jvm.Cond.soleField "CycleBasis" "weights") ∈ lw_all := lw_g (lw_at lw_m1 34 rfl) rfl
theorem q52 : (Jvm.Cond.laysFinal "CycleBasis" "CycleBasis" "group" "[I") ∈ lw_all := lw_g (lw_at lw_m1 35 rfl) rfl
theorem q53 : (Jvm.Cond.soleField "CycleBasis" "group") ∈ lw_all := lw_g (lw_at lw_m1 36 rfl) rfl
theorem q54 : (Jvm.Cond.lays "CycleBasis" "CycleBasis" "rank" "I") ∈ lw_all := lw_g (lw_at lw_m1 37 rfl) rfl
theorem q55 : (Jvm.Cond.soleField "CycleBasis" "rank") ∈ lw_all := lw_g (lw_at lw_m1 38 rfl) rfl
theorem q56 : (Jvm.Cond.laysFinal "CycleBasis" "CycleBasis" "witness" "[I") ∈ lw_all := lw_g (lw_at lw_m1 39 rfl) rfl
theorem q57 : (Jvm.Cond.soleField "CycleBasis" "witness") ∈ lw_all := lw_g (lw_at lw_m1 40 rfl) rfl
theorem q58 : (Jvm.Cond.lays "CycleBasis" "CycleBasis" "found" "I") ∈ lw_all := lw_g (lw_at lw_m1 41 rfl) rfl
theorem q59 : (Jvm.Cond.soleField "CycleBasis" "found") ∈ lw_all := lw_g (lw_at lw_m1 42 rfl) rfl
theorem q60 : (Jvm.Cond.laysFinal "CycleBasis" "CycleBasis" "cycle" "[I") ∈ lw_all := lw_g (lw_at lw_m1 43 rfl) rfl
theorem q61 : (Jvm.Cond.soleField "CycleBasis" "cycle") ∈ lw_all := lw_g (lw_at lw_m1 44 rfl) rfl
theorem q62 : (Jvm.Cond.laysFinal "CycleBasis" "CycleBasis" "cycleWeight" "[I") ∈ lw_all := lw_g (lw_at lw_m1 45 rfl) rfl
theorem q63 : (Jvm.Cond.soleField "CycleBasis" "cycleWeight") ∈ lw_all := lw_g (lw_at lw_m1 46 rfl) rfl
theorem q64 : (Jvm.Cond.laysFinal "CycleBasis" "CycleBasis" "dist" "[I") ∈ lw_all := lw_g (lw_at lw_m1 47 rfl) rfl
theorem q65 : (Jvm.Cond.soleField "CycleBasis" "dist") ∈ lw_all := lw_g (lw_at lw_m1 48 rfl) rfl
theorem q66 : (Jvm.Cond.laysFinal "CycleBasis" "CycleBasis" "way" "[I") ∈ lw_all := lw_g (lw_at lw_m1 49 rfl) rfl
theorem q67 : (Jvm.Cond.soleField "CycleBasis" "way") ∈ lw_all := lw_g (lw_at lw_m1 50 rfl) rfl
theorem q68 : (Jvm.Cond.laysFinal "CycleBasis" "CycleBasis" "done" "[Z") ∈ lw_all := lw_g (lw_at lw_m1 51 rfl) rfl
theorem q69 : (Jvm.Cond.soleField "CycleBasis" "done") ∈ lw_all := lw_g (lw_at lw_m1 52 rfl) rfl
theorem q70 : (Jvm.Cond.lays "CycleBasis" "CycleBasis" "bestWeight" "I") ∈ lw_all := lw_g (lw_at lw_m1 53 rfl) rfl
theorem q71 : (Jvm.Cond.soleField "CycleBasis" "bestWeight") ∈ lw_all := lw_g (lw_at lw_m1 54 rfl) rfl
theorem q72 : (Jvm.Cond.lays "CycleBasis" "CycleBasis" "bestSet" "I") ∈ lw_all := lw_g (lw_at lw_m1 55 rfl) rfl
theorem q73 : (Jvm.Cond.soleField "CycleBasis" "bestSet") ∈ lw_all := lw_g (lw_at lw_m1 56 rfl) rfl
theorem q74 : (Jvm.Cond.laysFinal "CycleBasis" "CycleBasis" "pivot" "[I") ∈ lw_all := lw_g (lw_at lw_m1 57 rfl) rfl
theorem q75 : (Jvm.Cond.soleField "CycleBasis" "pivot") ∈ lw_all := lw_g (lw_at lw_m1 58 rfl) rfl
theorem q76 : (Jvm.Cond.superclass "CycleBasis" "java/lang/Object") ∈ lw_all := lw_g (lw_at lw_m1 59 rfl) rfl
theorem q80 : (Jvm.Cond.instanceMethod ({ cls := "CycleBasis", name := "edge", desc := "(III)I" } : Jvm.MethodName)) ∈ lw_all := lw_g (lw_at lw_m1 63 rfl) rfl
theorem q81 : (Jvm.Cond.selects "CycleBasis" ({ cls := "CycleBasis", name := "edge", desc := "(III)I" } : Jvm.MethodName) ({ cls := "CycleBasis", name := "edge", desc := "(III)I" } : Jvm.MethodName)) ∈ lw_all := lw_g (lw_at lw_m1 64 rfl) rfl
theorem q82 : (Jvm.Cond.code ({ cls := "CycleBasis", name := "edge", desc := "(III)I" } : Jvm.MethodName) prog_1_method_4_code (5 : Nat) (Option.some Jvm.ClassFile.FieldType.int)) ∈ lw_all := lw_g (lw_at lw_m1 65 rfl) rfl
theorem q83 : (Jvm.Cond.methodLink "CycleBasis" (48 : Nat) ({ cls := "CycleBasis", name := "badVertex", desc := "(I)Z" } : Jvm.MethodName)) ∈ lw_all := lw_g (lw_at lw_m1 66 rfl) rfl
theorem q84 : (Jvm.Cond.static ({ cls := "CycleBasis", name := "badVertex", desc := "(I)Z" } : Jvm.MethodName)) ∈ lw_all := lw_g (lw_at lw_m1 67 rfl) rfl
theorem q85 : (Jvm.Cond.code ({ cls := "CycleBasis", name := "badVertex", desc := "(I)Z" } : Jvm.MethodName) prog_1_method_2_code (1 : Nat) (Option.some Jvm.ClassFile.FieldType.boolean)) ∈ lw_all := lw_g (lw_at lw_m1 68 rfl) rfl
theorem q87 : (Jvm.Cond.instanceMethod ({ cls := "CycleBasis", name := "reweigh", desc := "(II)I" } : Jvm.MethodName)) ∈ lw_all := lw_g (lw_at lw_m1 70 rfl) rfl
theorem q88 : (Jvm.Cond.selects "CycleBasis" ({ cls := "CycleBasis", name := "reweigh", desc := "(II)I" } : Jvm.MethodName) ({ cls := "CycleBasis", name := "reweigh", desc := "(II)I" } : Jvm.MethodName)) ∈ lw_all := lw_g (lw_at lw_m1 71 rfl) rfl
theorem q89 : (Jvm.Cond.code ({ cls := "CycleBasis", name := "reweigh", desc := "(II)I" } : Jvm.MethodName) prog_1_method_5_code (4 : Nat) (Option.some Jvm.ClassFile.FieldType.int)) ∈ lw_all := lw_g (lw_at lw_m1 72 rfl) rfl
theorem q90 : (Jvm.Cond.methodLink "CycleBasis" (52 : Nat) ({ cls := "CycleBasis", name := "noEdge", desc := "(I)Z" } : Jvm.MethodName)) ∈ lw_all := lw_g (lw_at lw_m1 73 rfl) rfl
theorem q91 : (Jvm.Cond.privateMethod ({ cls := "CycleBasis", name := "noEdge", desc := "(I)Z" } : Jvm.MethodName)) ∈ lw_tbl := lw_at lw_m1 74 rfl
theorem q92 : (Jvm.Cond.instanceMethod ({ cls := "CycleBasis", name := "noEdge", desc := "(I)Z" } : Jvm.MethodName)) ∈ lw_all := lw_g (lw_at lw_m1 75 rfl) rfl
theorem q93 : (Jvm.Cond.code ({ cls := "CycleBasis", name := "noEdge", desc := "(I)Z" } : Jvm.MethodName) prog_1_method_3_code (2 : Nat) (Option.some Jvm.ClassFile.FieldType.boolean)) ∈ lw_all := lw_g (lw_at lw_m1 76 rfl) rfl
theorem q95 : (Jvm.Cond.instanceMethod ({ cls := "CycleBasis", name := "dropLast", desc := "()I" } : Jvm.MethodName)) ∈ lw_all := lw_g (lw_at lw_m1 78 rfl) rfl
theorem q96 : (Jvm.Cond.selects "CycleBasis" ({ cls := "CycleBasis", name := "dropLast", desc := "()I" } : Jvm.MethodName) ({ cls := "CycleBasis", name := "dropLast", desc := "()I" } : Jvm.MethodName)) ∈ lw_all := lw_g (lw_at lw_m1 79 rfl) rfl
theorem q97 : (Jvm.Cond.code ({ cls := "CycleBasis", name := "dropLast", desc := "()I" } : Jvm.MethodName) prog_1_method_6_code (1 : Nat) (Option.some Jvm.ClassFile.FieldType.int)) ∈ lw_all := lw_g (lw_at lw_m1 80 rfl) rfl
theorem q99 : (Jvm.Cond.instanceMethod ({ cls := "CycleBasis", name := "rank", desc := "()I" } : Jvm.MethodName)) ∈ lw_all := lw_g (lw_at lw_m1 82 rfl) rfl
theorem q100 : (Jvm.Cond.selects "CycleBasis" ({ cls := "CycleBasis", name := "rank", desc := "()I" } : Jvm.MethodName) ({ cls := "CycleBasis", name := "rank", desc := "()I" } : Jvm.MethodName)) ∈ lw_all := lw_g (lw_at lw_m1 83 rfl) rfl
theorem q101 : (Jvm.Cond.code ({ cls := "CycleBasis", name := "rank", desc := "()I" } : Jvm.MethodName) prog_1_method_15_code (1 : Nat) (Option.some Jvm.ClassFile.FieldType.int)) ∈ lw_all := lw_g (lw_at lw_m1 84 rfl) rfl
theorem q102 : (Jvm.Cond.methodLink "CycleBasis" (76 : Nat) ({ cls := "CycleBasis", name := "startWitnesses", desc := "()V" } : Jvm.MethodName)) ∈ lw_all := lw_g (lw_at lw_m1 85 rfl) rfl
theorem q103 : (Jvm.Cond.privateMethod ({ cls := "CycleBasis", name := "startWitnesses", desc := "()V" } : Jvm.MethodName)) ∈ lw_tbl := lw_at lw_m1 86 rfl
theorem q104 : (Jvm.Cond.instanceMethod ({ cls := "CycleBasis", name := "startWitnesses", desc := "()V" } : Jvm.MethodName)) ∈ lw_all := lw_g (lw_at lw_m1 87 rfl) rfl
theorem q105 : (Jvm.Cond.code ({ cls := "CycleBasis", name := "startWitnesses", desc := "()V" } : Jvm.MethodName) prog_1_method_7_code (5 : Nat) (Option.none : Option Jvm.ClassFile.FieldType)) ∈ lw_all := lw_g (lw_at lw_m1 88 rfl) rfl
theorem q107 : (Jvm.Cond.instanceMethod ({ cls := "CycleBasis", name := "total", desc := "()I" } : Jvm.MethodName)) ∈ lw_all := lw_g (lw_at lw_m1 90 rfl) rfl
theorem q108 : (Jvm.Cond.selects "CycleBasis" ({ cls := "CycleBasis", name := "total", desc := "()I" } : Jvm.MethodName) ({ cls := "CycleBasis", name := "total", desc := "()I" } : Jvm.MethodName)) ∈ lw_all := lw_g (lw_at lw_m1 91 rfl) rfl
theorem q109 : (Jvm.Cond.code ({ cls := "CycleBasis", name := "total", desc := "()I" } : Jvm.MethodName) prog_1_method_16_code (3 : Nat) (Option.some Jvm.ClassFile.FieldType.int)) ∈ lw_all := lw_g (lw_at lw_m1 92 rfl) rfl
theorem q110 : (Jvm.Cond.methodLink "CycleBasis" (94 : Nat) ({ cls := "CycleBasis", name := "solve", desc := "()V" } : Jvm.MethodName)) ∈ lw_all := lw_g (lw_at lw_m1 93 rfl) rfl
theorem q111 : (Jvm.Cond.privateMethod ({ cls := "CycleBasis", name := "solve", desc := "()V" } : Jvm.MethodName)) ∈ lw_tbl := lw_at lw_m1 94 rfl
theorem q112 : (Jvm.Cond.instanceMethod ({ cls := "CycleBasis", name := "solve", desc := "()V" } : Jvm.MethodName)) ∈ lw_all := lw_g (lw_at lw_m1 95 rfl) rfl
theorem q113 : (Jvm.Cond.code ({ cls := "CycleBasis", name := "solve", desc := "()V" } : Jvm.MethodName) prog_1_method_13_code (4 : Nat) (Option.none : Option Jvm.ClassFile.FieldType)) ∈ lw_all := lw_g (lw_at lw_m1 96 rfl) rfl
theorem q114 : (Jvm.Cond.methodLink "CycleBasis" (82 : Nat) ({ cls := "CycleBasis", name := "lightest", desc := "(I)V" } : Jvm.MethodName)) ∈ lw_all := lw_g (lw_at lw_m1 97 rfl) rfl
theorem q115 : (Jvm.Cond.privateMethod ({ cls := "CycleBasis", name := "lightest", desc := "(I)V" } : Jvm.MethodName)) ∈ lw_tbl := lw_at lw_m1 98 rfl
theorem q116 : (Jvm.Cond.instanceMethod ({ cls := "CycleBasis", name := "lightest", desc := "(I)V" } : Jvm.MethodName)) ∈ lw_all := lw_g (lw_at lw_m1 99 rfl) rfl
theorem q117 : (Jvm.Cond.code ({ cls := "CycleBasis", name := "lightest", desc := "(I)V" } : Jvm.MethodName) prog_1_method_12_code (3 : Nat) (Option.none : Option Jvm.ClassFile.FieldType)) ∈ lw_all := lw_g (lw_at lw_m1 100 rfl) rfl
theorem q118 : (Jvm.Cond.constant "CycleBasis" (58 : Nat) (1000000 : Int32)) ∈ lw_all := lw_g (lw_at lw_m1 101 rfl) rfl
theorem q119 : (Jvm.Cond.methodLink "CycleBasis" (73 : Nat) ({ cls := "CycleBasis", name := "searchFrom", desc := "(III)V" } : Jvm.MethodName)) ∈ lw_all := lw_g (lw_at lw_m1 102 rfl) rfl
theorem q120 : (Jvm.Cond.privateMethod ({ cls := "CycleBasis", name := "searchFrom", desc := "(III)V" } : Jvm.MethodName)) ∈ lw_tbl := lw_at lw_m1 103 rfl
theorem q121 : (Jvm.Cond.instanceMethod ({ cls := "CycleBasis", name := "searchFrom", desc := "(III)V" } : Jvm.MethodName)) ∈ lw_all := lw_g (lw_at lw_m1 104 rfl) rfl
theorem q122 : (Jvm.Cond.code ({ cls := "CycleBasis", name := "searchFrom", desc := "(III)V" } : Jvm.MethodName) prog_1_method_11_code (7 : Nat) (Option.none : Option Jvm.ClassFile.FieldType)) ∈ lw_all := lw_g (lw_at lw_m1 105 rfl) rfl
theorem q123 : (Jvm.Cond.methodLink "CycleBasis" (59 : Nat) ({ cls := "CycleBasis", name := "relax", desc := "(III)V" } : Jvm.MethodName)) ∈ lw_all := lw_g (lw_at lw_m1 106 rfl) rfl
theorem q124 : (Jvm.Cond.privateMethod ({ cls := "CycleBasis", name := "relax", desc := "(III)V" } : Jvm.MethodName)) ∈ lw_tbl := lw_at lw_m1 107 rfl
theorem q125 : (Jvm.Cond.instanceMethod ({ cls := "CycleBasis", name := "relax", desc := "(III)V" } : Jvm.MethodName)) ∈ lw_all := lw_g (lw_at lw_m1 108 rfl) rfl
theorem q126 : (Jvm.Cond.code ({ cls := "CycleBasis", name := "relax", desc := "(III)V" } : Jvm.MethodName) prog_1_method_10_code (9 : Nat) (Option.none : Option Jvm.ClassFile.FieldType)) ∈ lw_all := lw_g (lw_at lw_m1 109 rfl) rfl
theorem q127 : (Jvm.Cond.methodLink "CycleBasis" (63 : Nat) ({ cls := "CycleBasis", name := "nearest", desc := "()I" } : Jvm.MethodName)) ∈ lw_all := lw_g (lw_at lw_m1 110 rfl) rfl
theorem q128 : (Jvm.Cond.privateMethod ({ cls := "CycleBasis", name := "nearest", desc := "()I" } : Jvm.MethodName)) ∈ lw_tbl := lw_at lw_m1 111 rfl
theorem q129 : (Jvm.Cond.instanceMethod ({ cls := "CycleBasis", name := "nearest", desc := "()I" } : Jvm.MethodName)) ∈ lw_all := lw_g (lw_at lw_m1 112 rfl) rfl
theorem q130 : (Jvm.Cond.code ({ cls := "CycleBasis", name := "nearest", desc := "()I" } : Jvm.MethodName) prog_1_method_9_code (3 : Nat) (Option.some Jvm.ClassFile.FieldType.int)) ∈ lw_all := lw_g (lw_at lw_m1 113 rfl) rfl
theorem q131 : (Jvm.Cond.methodLink "CycleBasis" (86 : Nat) ({ cls := "CycleBasis", name := "addCycle", desc := "(II)V" } : Jvm.MethodName)) ∈ lw_all := lw_g (lw_at lw_m1 114 rfl) rfl
theorem q132 : (Jvm.Cond.privateMethod ({ cls := "CycleBasis", name := "addCycle", desc := "(II)V" } : Jvm.MethodName)) ∈ lw_tbl := lw_at lw_m1 115 rfl
theorem q133 : (Jvm.Cond.instanceMethod ({ cls := "CycleBasis", name := "addCycle", desc := "(II)V" } : Jvm.MethodName)) ∈ lw_all := lw_g (lw_at lw_m1 116 rfl) rfl
theorem q134 : (Jvm.Cond.code ({ cls := "CycleBasis", name := "addCycle", desc := "(II)V" } : Jvm.MethodName) prog_1_method_14_code (4 : Nat) (Option.none : Option Jvm.ClassFile.FieldType)) ∈ lw_all := lw_g (lw_at lw_m1 117 rfl) rfl
theorem q135 : (Jvm.Cond.methodLink "CycleBasis" (90 : Nat) ({ cls := "CycleBasis", name := "oddlyMet", desc := "(II)Z" } : Jvm.MethodName)) ∈ lw_all := lw_g (lw_at lw_m1 118 rfl) rfl
theorem q136 : (Jvm.Cond.static ({ cls := "CycleBasis", name := "oddlyMet", desc := "(II)Z" } : Jvm.MethodName)) ∈ lw_all := lw_g (lw_at lw_m1 119 rfl) rfl
theorem q137 : (Jvm.Cond.code ({ cls := "CycleBasis", name := "oddlyMet", desc := "(II)Z" } : Jvm.MethodName) prog_1_method_8_code (5 : Nat) (Option.some Jvm.ClassFile.FieldType.boolean)) ∈ lw_all := lw_g (lw_at lw_m1 120 rfl) rfl
theorem q139 : (Jvm.Cond.instanceMethod ({ cls := "CycleBasis", name := "part", desc := "(I)I" } : Jvm.MethodName)) ∈ lw_all := lw_g (lw_at lw_m1 122 rfl) rfl
theorem q140 : (Jvm.Cond.selects "CycleBasis" ({ cls := "CycleBasis", name := "part", desc := "(I)I" } : Jvm.MethodName) ({ cls := "CycleBasis", name := "part", desc := "(I)I" } : Jvm.MethodName)) ∈ lw_all := lw_g (lw_at lw_m1 123 rfl) rfl
theorem q141 : (Jvm.Cond.code ({ cls := "CycleBasis", name := "part", desc := "(I)I" } : Jvm.MethodName) prog_1_method_17_code (2 : Nat) (Option.some Jvm.ClassFile.FieldType.int)) ∈ lw_all := lw_g (lw_at lw_m1 124 rfl) rfl
theorem q143 : (Jvm.Cond.instanceMethod ({ cls := "CycleBasis", name := "through", desc := "(I)I" } : Jvm.MethodName)) ∈ lw_all := lw_g (lw_at lw_m1 126 rfl) rfl
theorem q144 : (Jvm.Cond.selects "CycleBasis" ({ cls := "CycleBasis", name := "through", desc := "(I)I" } : Jvm.MethodName) ({ cls := "CycleBasis", name := "through", desc := "(I)I" } : Jvm.MethodName)) ∈ lw_all := lw_g (lw_at lw_m1 127 rfl) rfl
theorem q145 : (Jvm.Cond.code ({ cls := "CycleBasis", name := "through", desc := "(I)I" } : Jvm.MethodName) prog_1_method_18_code (2 : Nat) (Option.some Jvm.ClassFile.FieldType.int)) ∈ lw_all := lw_g (lw_at lw_m1 128 rfl) rfl
theorem q147 : (Jvm.Cond.instanceMethod ({ cls := "CycleBasis", name := "closed", desc := "(I)Z" } : Jvm.MethodName)) ∈ lw_all := lw_g (lw_at lw_m1 130 rfl) rfl
theorem q148 : (Jvm.Cond.selects "CycleBasis" ({ cls := "CycleBasis", name := "closed", desc := "(I)Z" } : Jvm.MethodName) ({ cls := "CycleBasis", name := "closed", desc := "(I)Z" } : Jvm.MethodName)) ∈ lw_all := lw_g (lw_at lw_m1 131 rfl) rfl
theorem q149 : (Jvm.Cond.code ({ cls := "CycleBasis", name := "closed", desc := "(I)Z" } : Jvm.MethodName) prog_1_method_19_code (4 : Nat) (Option.some Jvm.ClassFile.FieldType.boolean)) ∈ lw_all := lw_g (lw_at lw_m1 132 rfl) rfl
theorem q151 : (Jvm.Cond.instanceMethod ({ cls := "CycleBasis", name := "level", desc := "(I)I" } : Jvm.MethodName)) ∈ lw_all := lw_g (lw_at lw_m1 134 rfl) rfl
theorem q152 : (Jvm.Cond.selects "CycleBasis" ({ cls := "CycleBasis", name := "level", desc := "(I)I" } : Jvm.MethodName) ({ cls := "CycleBasis", name := "level", desc := "(I)I" } : Jvm.MethodName)) ∈ lw_all := lw_g (lw_at lw_m1 135 rfl) rfl
theorem q153 : (Jvm.Cond.code ({ cls := "CycleBasis", name := "level", desc := "(I)I" } : Jvm.MethodName) prog_1_method_22_code (7 : Nat) (Option.some Jvm.ClassFile.FieldType.int)) ∈ lw_all := lw_g (lw_at lw_m1 136 rfl) rfl
theorem q154 : (Jvm.Cond.methodLink "CycleBasis" (97 : Nat) ({ cls := "CycleBasis", name := "closed", desc := "(I)Z" } : Jvm.MethodName)) ∈ lw_all := lw_g (lw_at lw_m1 137 rfl) rfl
theorem q155 : (Jvm.Cond.methodLink "CycleBasis" (100 : Nat) ({ cls := "CycleBasis", name := "reduce", desc := "(I)I" } : Jvm.MethodName)) ∈ lw_all := lw_g (lw_at lw_m1 138 rfl) rfl
theorem q156 : (Jvm.Cond.privateMethod ({ cls := "CycleBasis", name := "reduce", desc := "(I)I" } : Jvm.MethodName)) ∈ lw_tbl := lw_at lw_m1 139 rfl
theorem q157 : (Jvm.Cond.instanceMethod ({ cls := "CycleBasis", name := "reduce", desc := "(I)I" } : Jvm.MethodName)) ∈ lw_all := lw_g (lw_at lw_m1 140 rfl) rfl
theorem q158 : (Jvm.Cond.code ({ cls := "CycleBasis", name := "reduce", desc := "(I)I" } : Jvm.MethodName) prog_1_method_21_code (4 : Nat) (Option.some Jvm.ClassFile.FieldType.int)) ∈ lw_all := lw_g (lw_at lw_m1 141 rfl) rfl
theorem q159 : (Jvm.Cond.methodLink "CycleBasis" (104 : Nat) ({ cls := "CycleBasis", name := "highest", desc := "(I)I" } : Jvm.MethodName)) ∈ lw_all := lw_g (lw_at lw_m1 142 rfl) rfl
theorem q160 : (Jvm.Cond.static ({ cls := "CycleBasis", name := "highest", desc := "(I)I" } : Jvm.MethodName)) ∈ lw_all := lw_g (lw_at lw_m1 143 rfl) rfl
theorem q161 : (Jvm.Cond.code ({ cls := "CycleBasis", name := "highest", desc := "(I)I" } : Jvm.MethodName) prog_1_method_20_code (2 : Nat) (Option.some Jvm.ClassFile.FieldType.int)) ∈ lw_all := lw_g (lw_at lw_m1 144 rfl) rfl
theorem q163 : (Jvm.Cond.instanceMethod ({ cls := "CycleBasis", name := "bridges", desc := "()I" } : Jvm.MethodName)) ∈ lw_all := lw_g (lw_at lw_m1 146 rfl) rfl
theorem q164 : (Jvm.Cond.selects "CycleBasis" ({ cls := "CycleBasis", name := "bridges", desc := "()I" } : Jvm.MethodName) ({ cls := "CycleBasis", name := "bridges", desc := "()I" } : Jvm.MethodName)) ∈ lw_all := lw_g (lw_at lw_m1 147 rfl) rfl
theorem q165 : (Jvm.Cond.code ({ cls := "CycleBasis", name := "bridges", desc := "()I" } : Jvm.MethodName) prog_1_method_23_code (3 : Nat) (Option.some Jvm.ClassFile.FieldType.int)) ∈ lw_all := lw_g (lw_at lw_m1 148 rfl) rfl
end
section
set_option maxRecDepth 100000
theorem dX0_init_0 : decode cX0_init 0 = .ok (.aload_n 0, 1) := by decide +kernel
theorem dX0_init_1 : decode cX0_init 1 = .ok (.invokespecial 1, 3) := by decide +kernel
theorem dX0_init_4 : decode cX0_init 4 = .ok (.aload_n 0, 1) := by decide +kernel
theorem dX0_init_5 : decode cX0_init 5 = .ok (.bipush 12, 2) := by decide +kernel
theorem dX0_init_7 : decode cX0_init 7 = .ok (.newarray .int, 2) := by decide +kernel
theorem dX0_init_9 : decode cX0_init 9 = .ok (.putfield 7, 3) := by decide +kernel
theorem dX0_init_12 : decode cX0_init 12 = .ok (.aload_n 0, 1) := by decide +kernel
theorem dX0_init_13 : decode cX0_init 13 = .ok (.bipush 12, 2) := by decide +kernel
theorem dX0_init_15 : decode cX0_init 15 = .ok (.newarray .int, 2) := by decide +kernel
theorem dX0_init_17 : decode cX0_init 17 = .ok (.putfield 13, 3) := by decide +kernel
theorem dX0_init_20 : decode cX0_init 20 = .ok (.aload_n 0, 1) := by decide +kernel
theorem dX0_init_21 : decode cX0_init 21 = .ok (.bipush 12, 2) := by decide +kernel
theorem dX0_init_23 : decode cX0_init 23 = .ok (.newarray .int, 2) := by decide +kernel
theorem dX0_init_25 : decode cX0_init 25 = .ok (.putfield 16, 3) := by decide +kernel
theorem dX0_init_28 : decode cX0_init 28 = .ok (.aload_n 0, 1) := by decide +kernel
theorem dX0_init_29 : decode cX0_init 29 = .ok (.bipush 7, 2) := by decide +kernel
theorem dX0_init_31 : decode cX0_init 31 = .ok (.newarray .int, 2) := by decide +kernel
theorem dX0_init_33 : decode cX0_init 33 = .ok (.putfield 19, 3) := by decide +kernel
theorem dX0_init_36 : decode cX0_init 36 = .ok (.aload_n 0, 1) := by decide +kernel
theorem dX0_init_37 : decode cX0_init 37 = .ok (.bipush 12, 2) := by decide +kernel
theorem dX0_init_39 : decode cX0_init 39 = .ok (.newarray .int, 2) := by decide +kernel
theorem dX0_init_41 : decode cX0_init 41 = .ok (.putfield 22, 3) := by decide +kernel
theorem dX0_init_44 : decode cX0_init 44 = .ok (.aload_n 0, 1) := by decide +kernel
theorem dX0_init_45 : decode cX0_init 45 = .ok (.bipush 12, 2) := by decide +kernel
theorem dX0_init_47 : decode cX0_init 47 = .ok (.newarray .int, 2) := by decide +kernel
theorem dX0_init_49 : decode cX0_init 49 = .ok (.putfield 25, 3) := by decide +kernel
theorem dX0_init_52 : decode cX0_init 52 = .ok (.aload_n 0, 1) := by decide +kernel
theorem dX0_init_53 : decode cX0_init 53 = .ok (.bipush 12, 2) := by decide +kernel
theorem dX0_init_55 : decode cX0_init 55 = .ok (.newarray .int, 2) := by decide +kernel
theorem dX0_init_57 : decode cX0_init 57 = .ok (.putfield 28, 3) := by decide +kernel
theorem dX0_init_60 : decode cX0_init 60 = .ok (.aload_n 0, 1) := by decide +kernel
theorem dX0_init_61 : decode cX0_init 61 = .ok (.bipush 14, 2) := by decide +kernel
theorem dX0_init_63 : decode cX0_init 63 = .ok (.newarray .int, 2) := by decide +kernel
theorem dX0_init_65 : decode cX0_init 65 = .ok (.putfield 31, 3) := by decide +kernel
theorem dX0_init_68 : decode cX0_init 68 = .ok (.aload_n 0, 1) := by decide +kernel
theorem dX0_init_69 : decode cX0_init 69 = .ok (.bipush 14, 2) := by decide +kernel
theorem dX0_init_71 : decode cX0_init 71 = .ok (.newarray .int, 2) := by decide +kernel
theorem dX0_init_73 : decode cX0_init 73 = .ok (.putfield 34, 3) := by decide +kernel
theorem dX0_init_76 : decode cX0_init 76 = .ok (.aload_n 0, 1) := by decide +kernel
theorem dX0_init_77 : decode cX0_init 77 = .ok (.bipush 14, 2) := by decide +kernel
theorem dX0_init_79 : decode cX0_init 79 = .ok (.newarray .boolean, 2) := by decide +kernel
theorem dX0_init_81 : decode cX0_init 81 = .ok (.putfield 37, 3) := by decide +kernel
theorem dX0_init_84 : decode cX0_init 84 = .ok (.aload_n 0, 1) := by decide +kernel
theorem dX0_init_85 : decode cX0_init 85 = .ok (.bipush 12, 2) := by decide +kernel
theorem dX0_init_87 : decode cX0_init 87 = .ok (.newarray .int, 2) := by decide +kernel
theorem dX0_init_89 : decode cX0_init 89 = .ok (.putfield 41, 3) := by decide +kernel
theorem dX0_init_92 : decode cX0_init 92 = .ok (.aload_n 0, 1) := by decide +kernel
theorem dX0_init_93 : decode cX0_init 93 = .ok (.iconst 0, 1) := by decide +kernel
theorem dX0_init_94 : decode cX0_init 94 = .ok (.putfield 44, 3) := by decide +kernel
theorem dX0_init_97 : decode cX0_init 97 = .ok (.return_, 1) := by decide +kernel
theorem dX0_edge_0 : decode cX0_edge 0 = .ok (.iload_n 1, 1) := by decide +kernel
theorem dX0_edge_1 : decode cX0_edge 1 = .ok (.invokestatic 48, 3) := by decide +kernel
theorem dX0_edge_4 : decode cX0_edge 4 = .ok (.ifCond .ne 15, 3) := by decide +kernel
theorem dX0_edge_7 : decode cX0_edge 7 = .ok (.iload_n 2, 1) := by decide +kernel
theorem dX0_edge_8 : decode cX0_edge 8 = .ok (.invokestatic 48, 3) := by decide +kernel
theorem dX0_edge_11 : decode cX0_edge 11 = .ok (.ifCond .ne 8, 3) := by decide +kernel
theorem dX0_edge_14 : decode cX0_edge 14 = .ok (.iload_n 1, 1) := by decide +kernel
theorem dX0_edge_15 : decode cX0_edge 15 = .ok (.iload_n 2, 1) := by decide +kernel
theorem dX0_edge_16 : decode cX0_edge 16 = .ok (.if_icmp .ne 5, 3) := by decide +kernel
theorem dX0_edge_19 : decode cX0_edge 19 = .ok (.iconst (-1), 1) := by decide +kernel
theorem dX0_edge_20 : decode cX0_edge 20 = .ok (.ireturn, 1) := by decide +kernel
theorem dX0_edge_21 : decode cX0_edge 21 = .ok (.iload_n 3, 1) := by decide +kernel
theorem dX0_edge_22 : decode cX0_edge 22 = .ok (.iconst 1, 1) := by decide +kernel
theorem dX0_edge_23 : decode cX0_edge 23 = .ok (.if_icmp .lt 9, 3) := by decide +kernel
theorem dX0_edge_26 : decode cX0_edge 26 = .ok (.iload_n 3, 1) := by decide +kernel
theorem dX0_edge_27 : decode cX0_edge 27 = .ok (.bipush 100, 2) := by decide +kernel
theorem dX0_edge_29 : decode cX0_edge 29 = .ok (.if_icmp .le 6, 3) := by decide +kernel
theorem dX0_edge_32 : decode cX0_edge 32 = .ok (.bipush (-2), 2) := by decide +kernel
theorem dX0_edge_34 : decode cX0_edge 34 = .ok (.ireturn, 1) := by decide +kernel
theorem dX0_edge_35 : decode cX0_edge 35 = .ok (.aload_n 0, 1) := by decide +kernel
theorem dX0_edge_36 : decode cX0_edge 36 = .ok (.getfield 44, 3) := by decide +kernel
theorem dX0_edge_39 : decode cX0_edge 39 = .ok (.bipush 12, 2) := by decide +kernel
theorem dX0_edge_41 : decode cX0_edge 41 = .ok (.if_icmp .lt 6, 3) := by decide +kernel
theorem dX0_edge_44 : decode cX0_edge 44 = .ok (.bipush (-3), 2) := by decide +kernel
theorem dX0_edge_46 : decode cX0_edge 46 = .ok (.ireturn, 1) := by decide +kernel
theorem dX0_edge_47 : decode cX0_edge 47 = .ok (.aload_n 0, 1) := by decide +kernel
theorem dX0_edge_48 : decode cX0_edge 48 = .ok (.getfield 44, 3) := by decide +kernel
theorem dX0_edge_51 : decode cX0_edge 51 = .ok (.istore 4, 2) := by decide +kernel
theorem dX0_edge_53 : decode cX0_edge 53 = .ok (.aload_n 0, 1) := by decide +kernel
theorem dX0_edge_54 : decode cX0_edge 54 = .ok (.getfield 7, 3) := by decide +kernel
theorem dX0_edge_57 : decode cX0_edge 57 = .ok (.iload 4, 2) := by decide +kernel
theorem dX0_edge_59 : decode cX0_edge 59 = .ok (.iload_n 1, 1) := by decide +kernel
theorem dX0_edge_60 : decode cX0_edge 60 = .ok (.iastore, 1) := by decide +kernel
theorem dX0_edge_61 : decode cX0_edge 61 = .ok (.aload_n 0, 1) := by decide +kernel
theorem dX0_edge_62 : decode cX0_edge 62 = .ok (.getfield 13, 3) := by decide +kernel
theorem dX0_edge_65 : decode cX0_edge 65 = .ok (.iload 4, 2) := by decide +kernel
theorem dX0_edge_67 : decode cX0_edge 67 = .ok (.iload_n 2, 1) := by decide +kernel
theorem dX0_edge_68 : decode cX0_edge 68 = .ok (.iastore, 1) := by decide +kernel
theorem dX0_edge_69 : decode cX0_edge 69 = .ok (.aload_n 0, 1) := by decide +kernel
theorem dX0_edge_70 : decode cX0_edge 70 = .ok (.getfield 16, 3) := by decide +kernel
theorem dX0_edge_73 : decode cX0_edge 73 = .ok (.iload 4, 2) := by decide +kernel
theorem dX0_edge_75 : decode cX0_edge 75 = .ok (.iload_n 3, 1) := by decide +kernel
theorem dX0_edge_76 : decode cX0_edge 76 = .ok (.iastore, 1) := by decide +kernel
theorem dX0_edge_77 : decode cX0_edge 77 = .ok (.aload_n 0, 1) := by decide +kernel
theorem dX0_edge_78 : decode cX0_edge 78 = .ok (.dup, 1) := by decide +kernel
theorem dX0_edge_79 : decode cX0_edge 79 = .ok (.getfield 44, 3) := by decide +kernel
theorem dX0_edge_82 : decode cX0_edge 82 = .ok (.iconst 1, 1) := by decide +kernel
theorem dX0_edge_83 : decode cX0_edge 83 = .ok (.iadd, 1) := by decide +kernel
theorem dX0_edge_84 : decode cX0_edge 84 = .ok (.putfield 44, 3) := by decide +kernel
theorem dX0_edge_87 : decode cX0_edge 87 = .ok (.iload 4, 2) := by decide +kernel
theorem dX0_edge_89 : decode cX0_edge 89 = .ok (.ireturn, 1) := by decide +kernel
theorem dX0_badVertex_0 : decode cX0_badVertex 0 = .ok (.iload_n 0, 1) := by decide +kernel
theorem dX0_badVertex_1 : decode cX0_badVertex 1 = .ok (.ifCond .lt 9, 3) := by decide +kernel
theorem dX0_badVertex_4 : decode cX0_badVertex 4 = .ok (.iload_n 0, 1) := by decide +kernel
theorem dX0_badVertex_5 : decode cX0_badVertex 5 = .ok (.bipush 7, 2) := by decide +kernel
theorem dX0_badVertex_7 : decode cX0_badVertex 7 = .ok (.if_icmp .lt 7, 3) := by decide +kernel
theorem dX0_badVertex_10 : decode cX0_badVertex 10 = .ok (.iconst 1, 1) := by decide +kernel
theorem dX0_badVertex_11 : decode cX0_badVertex 11 = .ok (.goto 4, 3) := by decide +kernel
theorem dX0_badVertex_14 : decode cX0_badVertex 14 = .ok (.iconst 0, 1) := by decide +kernel
theorem dX0_badVertex_15 : decode cX0_badVertex 15 = .ok (.ireturn, 1) := by decide +kernel
theorem dX0_reweigh_0 : decode cX0_reweigh 0 = .ok (.aload_n 0, 1) := by decide +kernel
theorem dX0_reweigh_1 : decode cX0_reweigh 1 = .ok (.iload_n 1, 1) := by decide +kernel
theorem dX0_reweigh_2 : decode cX0_reweigh 2 = .ok (.invokevirtual 52, 3) := by decide +kernel
theorem dX0_reweigh_5 : decode cX0_reweigh 5 = .ok (.ifCond .eq 6, 3) := by decide +kernel
theorem dX0_reweigh_8 : decode cX0_reweigh 8 = .ok (.bipush (-4), 2) := by decide +kernel
theorem dX0_reweigh_10 : decode cX0_reweigh 10 = .ok (.ireturn, 1) := by decide +kernel
theorem dX0_reweigh_11 : decode cX0_reweigh 11 = .ok (.iload_n 2, 1) := by decide +kernel
theorem dX0_reweigh_12 : decode cX0_reweigh 12 = .ok (.iconst 1, 1) := by decide +kernel
theorem dX0_reweigh_13 : decode cX0_reweigh 13 = .ok (.if_icmp .lt 9, 3) := by decide +kernel
theorem dX0_reweigh_16 : decode cX0_reweigh 16 = .ok (.iload_n 2, 1) := by decide +kernel
theorem dX0_reweigh_17 : decode cX0_reweigh 17 = .ok (.bipush 100, 2) := by decide +kernel
theorem dX0_reweigh_19 : decode cX0_reweigh 19 = .ok (.if_icmp .le 6, 3) := by decide +kernel
theorem dX0_reweigh_22 : decode cX0_reweigh 22 = .ok (.bipush (-2), 2) := by decide +kernel
theorem dX0_reweigh_24 : decode cX0_reweigh 24 = .ok (.ireturn, 1) := by decide +kernel
theorem dX0_reweigh_25 : decode cX0_reweigh 25 = .ok (.aload_n 0, 1) := by decide +kernel
theorem dX0_reweigh_26 : decode cX0_reweigh 26 = .ok (.getfield 16, 3) := by decide +kernel
theorem dX0_reweigh_29 : decode cX0_reweigh 29 = .ok (.iload_n 1, 1) := by decide +kernel
theorem dX0_reweigh_30 : decode cX0_reweigh 30 = .ok (.iaload, 1) := by decide +kernel
theorem dX0_reweigh_31 : decode cX0_reweigh 31 = .ok (.istore_n 3, 1) := by decide +kernel
theorem dX0_reweigh_32 : decode cX0_reweigh 32 = .ok (.aload_n 0, 1) := by decide +kernel
theorem dX0_reweigh_33 : decode cX0_reweigh 33 = .ok (.getfield 16, 3) := by decide +kernel
theorem dX0_reweigh_36 : decode cX0_reweigh 36 = .ok (.iload_n 1, 1) := by decide +kernel
theorem dX0_reweigh_37 : decode cX0_reweigh 37 = .ok (.iload_n 2, 1) := by decide +kernel
theorem dX0_reweigh_38 : decode cX0_reweigh 38 = .ok (.iastore, 1) := by decide +kernel
theorem dX0_reweigh_39 : decode cX0_reweigh 39 = .ok (.iload_n 3, 1) := by decide +kernel
theorem dX0_reweigh_40 : decode cX0_reweigh 40 = .ok (.ireturn, 1) := by decide +kernel
theorem dX0_noEdge_0 : decode cX0_noEdge 0 = .ok (.iload_n 1, 1) := by decide +kernel
theorem dX0_noEdge_1 : decode cX0_noEdge 1 = .ok (.ifCond .lt 11, 3) := by decide +kernel
theorem dX0_noEdge_4 : decode cX0_noEdge 4 = .ok (.iload_n 1, 1) := by decide +kernel
theorem dX0_noEdge_5 : decode cX0_noEdge 5 = .ok (.aload_n 0, 1) := by decide +kernel
theorem dX0_noEdge_6 : decode cX0_noEdge 6 = .ok (.getfield 44, 3) := by decide +kernel
theorem dX0_noEdge_9 : decode cX0_noEdge 9 = .ok (.if_icmp .lt 7, 3) := by decide +kernel
theorem dX0_noEdge_12 : decode cX0_noEdge 12 = .ok (.iconst 1, 1) := by decide +kernel
theorem dX0_noEdge_13 : decode cX0_noEdge 13 = .ok (.goto 4, 3) := by decide +kernel
theorem dX0_noEdge_16 : decode cX0_noEdge 16 = .ok (.iconst 0, 1) := by decide +kernel
theorem dX0_noEdge_17 : decode cX0_noEdge 17 = .ok (.ireturn, 1) := by decide +kernel
theorem dX0_dropLast_0 : decode cX0_dropLast 0 = .ok (.aload_n 0, 1) := by decide +kernel
theorem dX0_dropLast_1 : decode cX0_dropLast 1 = .ok (.getfield 44, 3) := by decide +kernel
theorem dX0_dropLast_4 : decode cX0_dropLast 4 = .ok (.ifCond .ne 6, 3) := by decide +kernel
theorem dX0_dropLast_7 : decode cX0_dropLast 7 = .ok (.bipush (-4), 2) := by decide +kernel
theorem dX0_dropLast_9 : decode cX0_dropLast 9 = .ok (.ireturn, 1) := by decide +kernel
theorem dX0_dropLast_10 : decode cX0_dropLast 10 = .ok (.aload_n 0, 1) := by decide +kernel
theorem dX0_dropLast_11 : decode cX0_dropLast 11 = .ok (.dup, 1) := by decide +kernel
theorem dX0_dropLast_12 : decode cX0_dropLast 12 = .ok (.getfield 44, 3) := by decide +kernel
theorem dX0_dropLast_15 : decode cX0_dropLast 15 = .ok (.iconst 1, 1) := by decide +kernel
theorem dX0_dropLast_16 : decode cX0_dropLast 16 = .ok (.isub, 1) := by decide +kernel
theorem dX0_dropLast_17 : decode cX0_dropLast 17 = .ok (.putfield 44, 3) := by decide +kernel
theorem dX0_dropLast_20 : decode cX0_dropLast 20 = .ok (.aload_n 0, 1) := by decide +kernel
theorem dX0_dropLast_21 : decode cX0_dropLast 21 = .ok (.getfield 44, 3) := by decide +kernel
theorem dX0_dropLast_24 : decode cX0_dropLast 24 = .ok (.ireturn, 1) := by decide +kernel
theorem dX0_rank_0 : decode cX0_rank 0 = .ok (.aload_n 0, 1) := by decide +kernel
theorem dX0_rank_1 : decode cX0_rank 1 = .ok (.invokevirtual 76, 3) := by decide +kernel
theorem dX0_rank_4 : decode cX0_rank 4 = .ok (.aload_n 0, 1) := by decide +kernel
theorem dX0_rank_5 : decode cX0_rank 5 = .ok (.getfield 55, 3) := by decide +kernel
theorem dX0_rank_8 : decode cX0_rank 8 = .ok (.ireturn, 1) := by decide +kernel
theorem dX0_startWitnesses_0 : decode cX0_startWitnesses 0 = .ok (.aload_n 0, 1) := by decide +kernel
theorem dX0_startWitnesses_1 : decode cX0_startWitnesses 1 = .ok (.iconst 0, 1) := by decide +kernel
theorem dX0_startWitnesses_2 : decode cX0_startWitnesses 2 = .ok (.putfield 55, 3) := by decide +kernel
theorem dX0_startWitnesses_5 : decode cX0_startWitnesses 5 = .ok (.iconst 0, 1) := by decide +kernel
theorem dX0_startWitnesses_6 : decode cX0_startWitnesses 6 = .ok (.istore_n 1, 1) := by decide +kernel
theorem dX0_startWitnesses_7 : decode cX0_startWitnesses 7 = .ok (.iload_n 1, 1) := by decide +kernel
theorem dX0_startWitnesses_8 : decode cX0_startWitnesses 8 = .ok (.bipush 7, 2) := by decide +kernel
theorem dX0_startWitnesses_10 : decode cX0_startWitnesses 10 = .ok (.if_icmp .ge 16, 3) := by decide +kernel
theorem dX0_startWitnesses_13 : decode cX0_startWitnesses 13 = .ok (.aload_n 0, 1) := by decide +kernel
theorem dX0_startWitnesses_14 : decode cX0_startWitnesses 14 = .ok (.getfield 19, 3) := by decide +kernel
theorem dX0_startWitnesses_17 : decode cX0_startWitnesses 17 = .ok (.iload_n 1, 1) := by decide +kernel
theorem dX0_startWitnesses_18 : decode cX0_startWitnesses 18 = .ok (.iload_n 1, 1) := by decide +kernel
theorem dX0_startWitnesses_19 : decode cX0_startWitnesses 19 = .ok (.iastore, 1) := by decide +kernel
theorem dX0_startWitnesses_20 : decode cX0_startWitnesses 20 = .ok (.iinc 1 1, 3) := by decide +kernel
theorem dX0_startWitnesses_23 : decode cX0_startWitnesses 23 = .ok (.goto (-16), 3) := by decide +kernel
theorem dX0_startWitnesses_26 : decode cX0_startWitnesses 26 = .ok (.iconst 0, 1) := by decide +kernel
theorem dX0_startWitnesses_27 : decode cX0_startWitnesses 27 = .ok (.istore_n 1, 1) := by decide +kernel
theorem dX0_startWitnesses_28 : decode cX0_startWitnesses 28 = .ok (.iload_n 1, 1) := by decide +kernel
theorem dX0_startWitnesses_29 : decode cX0_startWitnesses 29 = .ok (.aload_n 0, 1) := by decide +kernel
theorem dX0_startWitnesses_30 : decode cX0_startWitnesses 30 = .ok (.getfield 44, 3) := by decide +kernel
theorem dX0_startWitnesses_33 : decode cX0_startWitnesses 33 = .ok (.if_icmp .ge 98, 3) := by decide +kernel
theorem dX0_startWitnesses_36 : decode cX0_startWitnesses 36 = .ok (.aload_n 0, 1) := by decide +kernel
theorem dX0_startWitnesses_37 : decode cX0_startWitnesses 37 = .ok (.getfield 19, 3) := by decide +kernel
theorem dX0_startWitnesses_40 : decode cX0_startWitnesses 40 = .ok (.aload_n 0, 1) := by decide +kernel
theorem dX0_startWitnesses_41 : decode cX0_startWitnesses 41 = .ok (.getfield 7, 3) := by decide +kernel
theorem dX0_startWitnesses_44 : decode cX0_startWitnesses 44 = .ok (.iload_n 1, 1) := by decide +kernel
theorem dX0_startWitnesses_45 : decode cX0_startWitnesses 45 = .ok (.iaload, 1) := by decide +kernel
theorem dX0_startWitnesses_46 : decode cX0_startWitnesses 46 = .ok (.iaload, 1) := by decide +kernel
theorem dX0_startWitnesses_47 : decode cX0_startWitnesses 47 = .ok (.istore_n 2, 1) := by decide +kernel
theorem dX0_startWitnesses_48 : decode cX0_startWitnesses 48 = .ok (.aload_n 0, 1) := by decide +kernel
theorem dX0_startWitnesses_49 : decode cX0_startWitnesses 49 = .ok (.getfield 19, 3) := by decide +kernel
theorem dX0_startWitnesses_52 : decode cX0_startWitnesses 52 = .ok (.aload_n 0, 1) := by decide +kernel
theorem dX0_startWitnesses_53 : decode cX0_startWitnesses 53 = .ok (.getfield 13, 3) := by decide +kernel
theorem dX0_startWitnesses_56 : decode cX0_startWitnesses 56 = .ok (.iload_n 1, 1) := by decide +kernel
theorem dX0_startWitnesses_57 : decode cX0_startWitnesses 57 = .ok (.iaload, 1) := by decide +kernel
theorem dX0_startWitnesses_58 : decode cX0_startWitnesses 58 = .ok (.iaload, 1) := by decide +kernel
theorem dX0_startWitnesses_59 : decode cX0_startWitnesses 59 = .ok (.istore_n 3, 1) := by decide +kernel
theorem dX0_startWitnesses_60 : decode cX0_startWitnesses 60 = .ok (.iload_n 2, 1) := by decide +kernel
theorem dX0_startWitnesses_61 : decode cX0_startWitnesses 61 = .ok (.iload_n 3, 1) := by decide +kernel
theorem dX0_startWitnesses_62 : decode cX0_startWitnesses 62 = .ok (.if_icmp .ne 28, 3) := by decide +kernel
theorem dX0_startWitnesses_65 : decode cX0_startWitnesses 65 = .ok (.aload_n 0, 1) := by decide +kernel
theorem dX0_startWitnesses_66 : decode cX0_startWitnesses 66 = .ok (.getfield 22, 3) := by decide +kernel
theorem dX0_startWitnesses_69 : decode cX0_startWitnesses 69 = .ok (.aload_n 0, 1) := by decide +kernel
theorem dX0_startWitnesses_70 : decode cX0_startWitnesses 70 = .ok (.getfield 55, 3) := by decide +kernel
theorem dX0_startWitnesses_73 : decode cX0_startWitnesses 73 = .ok (.iconst 1, 1) := by decide +kernel
theorem dX0_startWitnesses_74 : decode cX0_startWitnesses 74 = .ok (.iload_n 1, 1) := by decide +kernel
theorem dX0_startWitnesses_75 : decode cX0_startWitnesses 75 = .ok (.ishl, 1) := by decide +kernel
theorem dX0_startWitnesses_76 : decode cX0_startWitnesses 76 = .ok (.iastore, 1) := by decide +kernel
theorem dX0_startWitnesses_77 : decode cX0_startWitnesses 77 = .ok (.aload_n 0, 1) := by decide +kernel
theorem dX0_startWitnesses_78 : decode cX0_startWitnesses 78 = .ok (.dup, 1) := by decide +kernel
theorem dX0_startWitnesses_79 : decode cX0_startWitnesses 79 = .ok (.getfield 55, 3) := by decide +kernel
theorem dX0_startWitnesses_82 : decode cX0_startWitnesses 82 = .ok (.iconst 1, 1) := by decide +kernel
theorem dX0_startWitnesses_83 : decode cX0_startWitnesses 83 = .ok (.iadd, 1) := by decide +kernel
theorem dX0_startWitnesses_84 : decode cX0_startWitnesses 84 = .ok (.putfield 55, 3) := by decide +kernel
theorem dX0_startWitnesses_87 : decode cX0_startWitnesses 87 = .ok (.goto 38, 3) := by decide +kernel
theorem dX0_startWitnesses_90 : decode cX0_startWitnesses 90 = .ok (.iconst 0, 1) := by decide +kernel
theorem dX0_startWitnesses_91 : decode cX0_startWitnesses 91 = .ok (.istore 4, 2) := by decide +kernel
theorem dX0_startWitnesses_93 : decode cX0_startWitnesses 93 = .ok (.iload 4, 2) := by decide +kernel
theorem dX0_startWitnesses_95 : decode cX0_startWitnesses 95 = .ok (.bipush 7, 2) := by decide +kernel
theorem dX0_startWitnesses_97 : decode cX0_startWitnesses 97 = .ok (.if_icmp .ge 28, 3) := by decide +kernel
theorem dX0_startWitnesses_100 : decode cX0_startWitnesses 100 = .ok (.aload_n 0, 1) := by decide +kernel
theorem dX0_startWitnesses_101 : decode cX0_startWitnesses 101 = .ok (.getfield 19, 3) := by decide +kernel
theorem dX0_startWitnesses_104 : decode cX0_startWitnesses 104 = .ok (.iload 4, 2) := by decide +kernel
theorem dX0_startWitnesses_106 : decode cX0_startWitnesses 106 = .ok (.iaload, 1) := by decide +kernel
theorem dX0_startWitnesses_107 : decode cX0_startWitnesses 107 = .ok (.iload_n 3, 1) := by decide +kernel
theorem dX0_startWitnesses_108 : decode cX0_startWitnesses 108 = .ok (.if_icmp .ne 11, 3) := by decide +kernel
theorem dX0_startWitnesses_111 : decode cX0_startWitnesses 111 = .ok (.aload_n 0, 1) := by decide +kernel
theorem dX0_startWitnesses_112 : decode cX0_startWitnesses 112 = .ok (.getfield 19, 3) := by decide +kernel
theorem dX0_startWitnesses_115 : decode cX0_startWitnesses 115 = .ok (.iload 4, 2) := by decide +kernel
theorem dX0_startWitnesses_117 : decode cX0_startWitnesses 117 = .ok (.iload_n 2, 1) := by decide +kernel
theorem dX0_startWitnesses_118 : decode cX0_startWitnesses 118 = .ok (.iastore, 1) := by decide +kernel
theorem dX0_startWitnesses_119 : decode cX0_startWitnesses 119 = .ok (.iinc 4 1, 3) := by decide +kernel
theorem dX0_startWitnesses_122 : decode cX0_startWitnesses 122 = .ok (.goto (-29), 3) := by decide +kernel
theorem dX0_startWitnesses_125 : decode cX0_startWitnesses 125 = .ok (.iinc 1 1, 3) := by decide +kernel
theorem dX0_startWitnesses_128 : decode cX0_startWitnesses 128 = .ok (.goto (-100), 3) := by decide +kernel
theorem dX0_startWitnesses_131 : decode cX0_startWitnesses 131 = .ok (.return_, 1) := by decide +kernel
theorem dX0_total_0 : decode cX0_total 0 = .ok (.aload_n 0, 1) := by decide +kernel
theorem dX0_total_1 : decode cX0_total 1 = .ok (.invokevirtual 94, 3) := by decide +kernel
theorem dX0_total_4 : decode cX0_total 4 = .ok (.iconst 0, 1) := by decide +kernel
theorem dX0_total_5 : decode cX0_total 5 = .ok (.istore_n 1, 1) := by decide +kernel
theorem dX0_total_6 : decode cX0_total 6 = .ok (.iconst 0, 1) := by decide +kernel
theorem dX0_total_7 : decode cX0_total 7 = .ok (.istore_n 2, 1) := by decide +kernel
theorem dX0_total_8 : decode cX0_total 8 = .ok (.iload_n 2, 1) := by decide +kernel
theorem dX0_total_9 : decode cX0_total 9 = .ok (.aload_n 0, 1) := by decide +kernel
theorem dX0_total_10 : decode cX0_total 10 = .ok (.getfield 79, 3) := by decide +kernel
theorem dX0_total_13 : decode cX0_total 13 = .ok (.if_icmp .ge 18, 3) := by decide +kernel
theorem dX0_total_16 : decode cX0_total 16 = .ok (.iload_n 1, 1) := by decide +kernel
theorem dX0_total_17 : decode cX0_total 17 = .ok (.aload_n 0, 1) := by decide +kernel
theorem dX0_total_18 : decode cX0_total 18 = .ok (.getfield 28, 3) := by decide +kernel
theorem dX0_total_21 : decode cX0_total 21 = .ok (.iload_n 2, 1) := by decide +kernel
theorem dX0_total_22 : decode cX0_total 22 = .ok (.iaload, 1) := by decide +kernel
theorem dX0_total_23 : decode cX0_total 23 = .ok (.iadd, 1) := by decide +kernel
theorem dX0_total_24 : decode cX0_total 24 = .ok (.istore_n 1, 1) := by decide +kernel
theorem dX0_total_25 : decode cX0_total 25 = .ok (.iinc 2 1, 3) := by decide +kernel
theorem dX0_total_28 : decode cX0_total 28 = .ok (.goto (-20), 3) := by decide +kernel
theorem dX0_total_31 : decode cX0_total 31 = .ok (.iload_n 1, 1) := by decide +kernel
theorem dX0_total_32 : decode cX0_total 32 = .ok (.ireturn, 1) := by decide +kernel
theorem dX0_solve_0 : decode cX0_solve 0 = .ok (.aload_n 0, 1) := by decide +kernel
theorem dX0_solve_1 : decode cX0_solve 1 = .ok (.invokevirtual 76, 3) := by decide +kernel
theorem dX0_solve_4 : decode cX0_solve 4 = .ok (.aload_n 0, 1) := by decide +kernel
theorem dX0_solve_5 : decode cX0_solve 5 = .ok (.iconst 0, 1) := by decide +kernel
theorem dX0_solve_6 : decode cX0_solve 6 = .ok (.putfield 79, 3) := by decide +kernel
theorem dX0_solve_9 : decode cX0_solve 9 = .ok (.iconst 0, 1) := by decide +kernel
theorem dX0_solve_10 : decode cX0_solve 10 = .ok (.istore_n 1, 1) := by decide +kernel
theorem dX0_solve_11 : decode cX0_solve 11 = .ok (.iload_n 1, 1) := by decide +kernel
theorem dX0_solve_12 : decode cX0_solve 12 = .ok (.aload_n 0, 1) := by decide +kernel
theorem dX0_solve_13 : decode cX0_solve 13 = .ok (.getfield 55, 3) := by decide +kernel
theorem dX0_solve_16 : decode cX0_solve 16 = .ok (.if_icmp .ge 82, 3) := by decide +kernel
theorem dX0_solve_19 : decode cX0_solve 19 = .ok (.aload_n 0, 1) := by decide +kernel
theorem dX0_solve_20 : decode cX0_solve 20 = .ok (.aload_n 0, 1) := by decide +kernel
theorem dX0_solve_21 : decode cX0_solve 21 = .ok (.getfield 22, 3) := by decide +kernel
theorem dX0_solve_24 : decode cX0_solve 24 = .ok (.iload_n 1, 1) := by decide +kernel
theorem dX0_solve_25 : decode cX0_solve 25 = .ok (.iaload, 1) := by decide +kernel
theorem dX0_solve_26 : decode cX0_solve 26 = .ok (.invokevirtual 82, 3) := by decide +kernel
theorem dX0_solve_29 : decode cX0_solve 29 = .ok (.aload_n 0, 1) := by decide +kernel
theorem dX0_solve_30 : decode cX0_solve 30 = .ok (.aload_n 0, 1) := by decide +kernel
theorem dX0_solve_31 : decode cX0_solve 31 = .ok (.getfield 70, 3) := by decide +kernel
theorem dX0_solve_34 : decode cX0_solve 34 = .ok (.aload_n 0, 1) := by decide +kernel
theorem dX0_solve_35 : decode cX0_solve 35 = .ok (.getfield 67, 3) := by decide +kernel
theorem dX0_solve_38 : decode cX0_solve 38 = .ok (.invokevirtual 86, 3) := by decide +kernel
theorem dX0_solve_41 : decode cX0_solve 41 = .ok (.iload_n 1, 1) := by decide +kernel
theorem dX0_solve_42 : decode cX0_solve 42 = .ok (.iconst 1, 1) := by decide +kernel
theorem dX0_solve_43 : decode cX0_solve 43 = .ok (.iadd, 1) := by decide +kernel
theorem dX0_solve_44 : decode cX0_solve 44 = .ok (.istore_n 2, 1) := by decide +kernel
theorem dX0_solve_45 : decode cX0_solve 45 = .ok (.iload_n 2, 1) := by decide +kernel
theorem dX0_solve_46 : decode cX0_solve 46 = .ok (.aload_n 0, 1) := by decide +kernel
theorem dX0_solve_47 : decode cX0_solve 47 = .ok (.getfield 55, 3) := by decide +kernel
theorem dX0_solve_50 : decode cX0_solve 50 = .ok (.if_icmp .ge 42, 3) := by decide +kernel
theorem dX0_solve_53 : decode cX0_solve 53 = .ok (.aload_n 0, 1) := by decide +kernel
theorem dX0_solve_54 : decode cX0_solve 54 = .ok (.getfield 22, 3) := by decide +kernel
end
section
set_option maxRecDepth 100000
theorem dX0_solve_57 : decode cX0_solve 57 = .ok (.iload_n 2, 1) := by decide +kernel
theorem dX0_solve_58 : decode cX0_solve 58 = .ok (.iaload, 1) := by decide +kernel
theorem dX0_solve_59 : decode cX0_solve 59 = .ok (.aload_n 0, 1) := by decide +kernel
theorem dX0_solve_60 : decode cX0_solve 60 = .ok (.getfield 70, 3) := by decide +kernel
theorem dX0_solve_63 : decode cX0_solve 63 = .ok (.invokestatic 90, 3) := by decide +kernel
theorem dX0_solve_66 : decode cX0_solve 66 = .ok (.istore_n 3, 1) := by decide +kernel
theorem dX0_solve_67 : decode cX0_solve 67 = .ok (.iload_n 3, 1) := by decide +kernel
theorem dX0_solve_68 : decode cX0_solve 68 = .ok (.ifCond .eq 18, 3) := by decide +kernel
theorem dX0_solve_71 : decode cX0_solve 71 = .ok (.aload_n 0, 1) := by decide +kernel
theorem dX0_solve_72 : decode cX0_solve 72 = .ok (.getfield 22, 3) := by decide +kernel
theorem dX0_solve_75 : decode cX0_solve 75 = .ok (.iload_n 2, 1) := by decide +kernel
theorem dX0_solve_76 : decode cX0_solve 76 = .ok (.dup2, 1) := by decide +kernel
theorem dX0_solve_77 : decode cX0_solve 77 = .ok (.iaload, 1) := by decide +kernel
theorem dX0_solve_78 : decode cX0_solve 78 = .ok (.aload_n 0, 1) := by decide +kernel
theorem dX0_solve_79 : decode cX0_solve 79 = .ok (.getfield 22, 3) := by decide +kernel
theorem dX0_solve_82 : decode cX0_solve 82 = .ok (.iload_n 1, 1) := by decide +kernel
theorem dX0_solve_83 : decode cX0_solve 83 = .ok (.iaload, 1) := by decide +kernel
theorem dX0_solve_84 : decode cX0_solve 84 = .ok (.ixor, 1) := by decide +kernel
theorem dX0_solve_85 : decode cX0_solve 85 = .ok (.iastore, 1) := by decide +kernel
theorem dX0_solve_86 : decode cX0_solve 86 = .ok (.iinc 2 1, 3) := by decide +kernel
theorem dX0_solve_89 : decode cX0_solve 89 = .ok (.goto (-44), 3) := by decide +kernel
theorem dX0_solve_92 : decode cX0_solve 92 = .ok (.iinc 1 1, 3) := by decide +kernel
theorem dX0_solve_95 : decode cX0_solve 95 = .ok (.goto (-84), 3) := by decide +kernel
theorem dX0_solve_98 : decode cX0_solve 98 = .ok (.return_, 1) := by decide +kernel
theorem dX0_lightest_0 : decode cX0_lightest 0 = .ok (.aload_n 0, 1) := by decide +kernel
theorem dX0_lightest_1 : decode cX0_lightest 1 = .ok (.ldc 58, 2) := by decide +kernel
theorem dX0_lightest_3 : decode cX0_lightest 3 = .ok (.putfield 67, 3) := by decide +kernel
theorem dX0_lightest_6 : decode cX0_lightest 6 = .ok (.aload_n 0, 1) := by decide +kernel
theorem dX0_lightest_7 : decode cX0_lightest 7 = .ok (.iconst 0, 1) := by decide +kernel
theorem dX0_lightest_8 : decode cX0_lightest 8 = .ok (.putfield 70, 3) := by decide +kernel
theorem dX0_lightest_11 : decode cX0_lightest 11 = .ok (.iconst 0, 1) := by decide +kernel
theorem dX0_lightest_12 : decode cX0_lightest 12 = .ok (.istore_n 2, 1) := by decide +kernel
theorem dX0_lightest_13 : decode cX0_lightest 13 = .ok (.iload_n 2, 1) := by decide +kernel
theorem dX0_lightest_14 : decode cX0_lightest 14 = .ok (.bipush 7, 2) := by decide +kernel
theorem dX0_lightest_16 : decode cX0_lightest 16 = .ok (.if_icmp .ge 58, 3) := by decide +kernel
theorem dX0_lightest_19 : decode cX0_lightest 19 = .ok (.aload_n 0, 1) := by decide +kernel
theorem dX0_lightest_20 : decode cX0_lightest 20 = .ok (.iload_n 2, 1) := by decide +kernel
theorem dX0_lightest_21 : decode cX0_lightest 21 = .ok (.iload_n 1, 1) := by decide +kernel
theorem dX0_lightest_22 : decode cX0_lightest 22 = .ok (.iconst (-1), 1) := by decide +kernel
theorem dX0_lightest_23 : decode cX0_lightest 23 = .ok (.invokevirtual 73, 3) := by decide +kernel
theorem dX0_lightest_26 : decode cX0_lightest 26 = .ok (.aload_n 0, 1) := by decide +kernel
theorem dX0_lightest_27 : decode cX0_lightest 27 = .ok (.getfield 31, 3) := by decide +kernel
theorem dX0_lightest_30 : decode cX0_lightest 30 = .ok (.iload_n 2, 1) := by decide +kernel
theorem dX0_lightest_31 : decode cX0_lightest 31 = .ok (.bipush 7, 2) := by decide +kernel
theorem dX0_lightest_33 : decode cX0_lightest 33 = .ok (.iadd, 1) := by decide +kernel
theorem dX0_lightest_34 : decode cX0_lightest 34 = .ok (.iaload, 1) := by decide +kernel
theorem dX0_lightest_35 : decode cX0_lightest 35 = .ok (.aload_n 0, 1) := by decide +kernel
theorem dX0_lightest_36 : decode cX0_lightest 36 = .ok (.getfield 67, 3) := by decide +kernel
theorem dX0_lightest_39 : decode cX0_lightest 39 = .ok (.if_icmp .ge 29, 3) := by decide +kernel
theorem dX0_lightest_42 : decode cX0_lightest 42 = .ok (.aload_n 0, 1) := by decide +kernel
theorem dX0_lightest_43 : decode cX0_lightest 43 = .ok (.aload_n 0, 1) := by decide +kernel
theorem dX0_lightest_44 : decode cX0_lightest 44 = .ok (.getfield 31, 3) := by decide +kernel
theorem dX0_lightest_47 : decode cX0_lightest 47 = .ok (.iload_n 2, 1) := by decide +kernel
theorem dX0_lightest_48 : decode cX0_lightest 48 = .ok (.bipush 7, 2) := by decide +kernel
theorem dX0_lightest_50 : decode cX0_lightest 50 = .ok (.iadd, 1) := by decide +kernel
theorem dX0_lightest_51 : decode cX0_lightest 51 = .ok (.iaload, 1) := by decide +kernel
theorem dX0_lightest_52 : decode cX0_lightest 52 = .ok (.putfield 67, 3) := by decide +kernel
theorem dX0_lightest_55 : decode cX0_lightest 55 = .ok (.aload_n 0, 1) := by decide +kernel
theorem dX0_lightest_56 : decode cX0_lightest 56 = .ok (.aload_n 0, 1) := by decide +kernel
theorem dX0_lightest_57 : decode cX0_lightest 57 = .ok (.getfield 34, 3) := by decide +kernel
theorem dX0_lightest_60 : decode cX0_lightest 60 = .ok (.iload_n 2, 1) := by decide +kernel
theorem dX0_lightest_61 : decode cX0_lightest 61 = .ok (.bipush 7, 2) := by decide +kernel
theorem dX0_lightest_63 : decode cX0_lightest 63 = .ok (.iadd, 1) := by decide +kernel
theorem dX0_lightest_64 : decode cX0_lightest 64 = .ok (.iaload, 1) := by decide +kernel
theorem dX0_lightest_65 : decode cX0_lightest 65 = .ok (.putfield 70, 3) := by decide +kernel
theorem dX0_lightest_68 : decode cX0_lightest 68 = .ok (.iinc 2 1, 3) := by decide +kernel
theorem dX0_lightest_71 : decode cX0_lightest 71 = .ok (.goto (-58), 3) := by decide +kernel
theorem dX0_lightest_74 : decode cX0_lightest 74 = .ok (.return_, 1) := by decide +kernel
theorem dX0_searchFrom_0 : decode cX0_searchFrom 0 = .ok (.iconst 0, 1) := by decide +kernel
theorem dX0_searchFrom_1 : decode cX0_searchFrom 1 = .ok (.istore 4, 2) := by decide +kernel
theorem dX0_searchFrom_3 : decode cX0_searchFrom 3 = .ok (.iload 4, 2) := by decide +kernel
theorem dX0_searchFrom_5 : decode cX0_searchFrom 5 = .ok (.bipush 14, 2) := by decide +kernel
theorem dX0_searchFrom_7 : decode cX0_searchFrom 7 = .ok (.if_icmp .ge 34, 3) := by decide +kernel
theorem dX0_searchFrom_10 : decode cX0_searchFrom 10 = .ok (.aload_n 0, 1) := by decide +kernel
theorem dX0_searchFrom_11 : decode cX0_searchFrom 11 = .ok (.getfield 31, 3) := by decide +kernel
theorem dX0_searchFrom_14 : decode cX0_searchFrom 14 = .ok (.iload 4, 2) := by decide +kernel
theorem dX0_searchFrom_16 : decode cX0_searchFrom 16 = .ok (.ldc 58, 2) := by decide +kernel
theorem dX0_searchFrom_18 : decode cX0_searchFrom 18 = .ok (.iastore, 1) := by decide +kernel
theorem dX0_searchFrom_19 : decode cX0_searchFrom 19 = .ok (.aload_n 0, 1) := by decide +kernel
theorem dX0_searchFrom_20 : decode cX0_searchFrom 20 = .ok (.getfield 34, 3) := by decide +kernel
theorem dX0_searchFrom_23 : decode cX0_searchFrom 23 = .ok (.iload 4, 2) := by decide +kernel
theorem dX0_searchFrom_25 : decode cX0_searchFrom 25 = .ok (.iconst 0, 1) := by decide +kernel
theorem dX0_searchFrom_26 : decode cX0_searchFrom 26 = .ok (.iastore, 1) := by decide +kernel
theorem dX0_searchFrom_27 : decode cX0_searchFrom 27 = .ok (.aload_n 0, 1) := by decide +kernel
theorem dX0_searchFrom_28 : decode cX0_searchFrom 28 = .ok (.getfield 37, 3) := by decide +kernel
theorem dX0_searchFrom_31 : decode cX0_searchFrom 31 = .ok (.iload 4, 2) := by decide +kernel
theorem dX0_searchFrom_33 : decode cX0_searchFrom 33 = .ok (.iconst 0, 1) := by decide +kernel
theorem dX0_searchFrom_34 : decode cX0_searchFrom 34 = .ok (.bastore, 1) := by decide +kernel
theorem dX0_searchFrom_35 : decode cX0_searchFrom 35 = .ok (.iinc 4 1, 3) := by decide +kernel
theorem dX0_searchFrom_38 : decode cX0_searchFrom 38 = .ok (.goto (-35), 3) := by decide +kernel
theorem dX0_searchFrom_41 : decode cX0_searchFrom 41 = .ok (.aload_n 0, 1) := by decide +kernel
theorem dX0_searchFrom_42 : decode cX0_searchFrom 42 = .ok (.getfield 31, 3) := by decide +kernel
theorem dX0_searchFrom_45 : decode cX0_searchFrom 45 = .ok (.iload_n 1, 1) := by decide +kernel
theorem dX0_searchFrom_46 : decode cX0_searchFrom 46 = .ok (.iconst 0, 1) := by decide +kernel
theorem dX0_searchFrom_47 : decode cX0_searchFrom 47 = .ok (.iastore, 1) := by decide +kernel
theorem dX0_searchFrom_48 : decode cX0_searchFrom 48 = .ok (.iload_n 1, 1) := by decide +kernel
theorem dX0_searchFrom_49 : decode cX0_searchFrom 49 = .ok (.istore 4, 2) := by decide +kernel
theorem dX0_searchFrom_51 : decode cX0_searchFrom 51 = .ok (.iconst 0, 1) := by decide +kernel
theorem dX0_searchFrom_52 : decode cX0_searchFrom 52 = .ok (.istore 5, 2) := by decide +kernel
theorem dX0_searchFrom_54 : decode cX0_searchFrom 54 = .ok (.iload 5, 2) := by decide +kernel
theorem dX0_searchFrom_56 : decode cX0_searchFrom 56 = .ok (.bipush 14, 2) := by decide +kernel
theorem dX0_searchFrom_58 : decode cX0_searchFrom 58 = .ok (.if_icmp .ge 61, 3) := by decide +kernel
theorem dX0_searchFrom_61 : decode cX0_searchFrom 61 = .ok (.iload 4, 2) := by decide +kernel
theorem dX0_searchFrom_63 : decode cX0_searchFrom 63 = .ok (.ifCond .lt 56, 3) := by decide +kernel
theorem dX0_searchFrom_66 : decode cX0_searchFrom 66 = .ok (.aload_n 0, 1) := by decide +kernel
theorem dX0_searchFrom_67 : decode cX0_searchFrom 67 = .ok (.getfield 37, 3) := by decide +kernel
theorem dX0_searchFrom_70 : decode cX0_searchFrom 70 = .ok (.iload 4, 2) := by decide +kernel
theorem dX0_searchFrom_72 : decode cX0_searchFrom 72 = .ok (.iconst 1, 1) := by decide +kernel
theorem dX0_searchFrom_73 : decode cX0_searchFrom 73 = .ok (.bastore, 1) := by decide +kernel
theorem dX0_searchFrom_74 : decode cX0_searchFrom 74 = .ok (.iconst 0, 1) := by decide +kernel
theorem dX0_searchFrom_75 : decode cX0_searchFrom 75 = .ok (.istore 6, 2) := by decide +kernel
theorem dX0_searchFrom_77 : decode cX0_searchFrom 77 = .ok (.iload 6, 2) := by decide +kernel
theorem dX0_searchFrom_79 : decode cX0_searchFrom 79 = .ok (.aload_n 0, 1) := by decide +kernel
theorem dX0_searchFrom_80 : decode cX0_searchFrom 80 = .ok (.getfield 44, 3) := by decide +kernel
theorem dX0_searchFrom_83 : decode cX0_searchFrom 83 = .ok (.if_icmp .ge 24, 3) := by decide +kernel
theorem dX0_searchFrom_86 : decode cX0_searchFrom 86 = .ok (.iload 6, 2) := by decide +kernel
theorem dX0_searchFrom_88 : decode cX0_searchFrom 88 = .ok (.iload_n 3, 1) := by decide +kernel
theorem dX0_searchFrom_89 : decode cX0_searchFrom 89 = .ok (.if_icmp .eq 12, 3) := by decide +kernel
theorem dX0_searchFrom_92 : decode cX0_searchFrom 92 = .ok (.aload_n 0, 1) := by decide +kernel
theorem dX0_searchFrom_93 : decode cX0_searchFrom 93 = .ok (.iload 4, 2) := by decide +kernel
theorem dX0_searchFrom_95 : decode cX0_searchFrom 95 = .ok (.iload 6, 2) := by decide +kernel
theorem dX0_searchFrom_97 : decode cX0_searchFrom 97 = .ok (.iload_n 2, 1) := by decide +kernel
theorem dX0_searchFrom_98 : decode cX0_searchFrom 98 = .ok (.invokevirtual 59, 3) := by decide +kernel
theorem dX0_searchFrom_101 : decode cX0_searchFrom 101 = .ok (.iinc 6 1, 3) := by decide +kernel
theorem dX0_searchFrom_104 : decode cX0_searchFrom 104 = .ok (.goto (-27), 3) := by decide +kernel
theorem dX0_searchFrom_107 : decode cX0_searchFrom 107 = .ok (.aload_n 0, 1) := by decide +kernel
theorem dX0_searchFrom_108 : decode cX0_searchFrom 108 = .ok (.invokevirtual 63, 3) := by decide +kernel
theorem dX0_searchFrom_111 : decode cX0_searchFrom 111 = .ok (.istore 4, 2) := by decide +kernel
theorem dX0_searchFrom_113 : decode cX0_searchFrom 113 = .ok (.iinc 5 1, 3) := by decide +kernel
theorem dX0_searchFrom_116 : decode cX0_searchFrom 116 = .ok (.goto (-62), 3) := by decide +kernel
theorem dX0_searchFrom_119 : decode cX0_searchFrom 119 = .ok (.return_, 1) := by decide +kernel
theorem dX0_relax_0 : decode cX0_relax 0 = .ok (.iload_n 1, 1) := by decide +kernel
theorem dX0_relax_1 : decode cX0_relax 1 = .ok (.bipush 7, 2) := by decide +kernel
theorem dX0_relax_3 : decode cX0_relax 3 = .ok (.irem, 1) := by decide +kernel
theorem dX0_relax_4 : decode cX0_relax 4 = .ok (.istore 4, 2) := by decide +kernel
theorem dX0_relax_6 : decode cX0_relax 6 = .ok (.iload 4, 2) := by decide +kernel
theorem dX0_relax_8 : decode cX0_relax 8 = .ok (.aload_n 0, 1) := by decide +kernel
theorem dX0_relax_9 : decode cX0_relax 9 = .ok (.getfield 7, 3) := by decide +kernel
theorem dX0_relax_12 : decode cX0_relax 12 = .ok (.iload_n 2, 1) := by decide +kernel
theorem dX0_relax_13 : decode cX0_relax 13 = .ok (.iaload, 1) := by decide +kernel
theorem dX0_relax_14 : decode cX0_relax 14 = .ok (.if_icmp .eq 15, 3) := by decide +kernel
theorem dX0_relax_17 : decode cX0_relax 17 = .ok (.iload 4, 2) := by decide +kernel
theorem dX0_relax_19 : decode cX0_relax 19 = .ok (.aload_n 0, 1) := by decide +kernel
theorem dX0_relax_20 : decode cX0_relax 20 = .ok (.getfield 13, 3) := by decide +kernel
theorem dX0_relax_23 : decode cX0_relax 23 = .ok (.iload_n 2, 1) := by decide +kernel
theorem dX0_relax_24 : decode cX0_relax 24 = .ok (.iaload, 1) := by decide +kernel
theorem dX0_relax_25 : decode cX0_relax 25 = .ok (.if_icmp .eq 4, 3) := by decide +kernel
theorem dX0_relax_28 : decode cX0_relax 28 = .ok (.return_, 1) := by decide +kernel
theorem dX0_relax_29 : decode cX0_relax 29 = .ok (.iload 4, 2) := by decide +kernel
theorem dX0_relax_31 : decode cX0_relax 31 = .ok (.aload_n 0, 1) := by decide +kernel
theorem dX0_relax_32 : decode cX0_relax 32 = .ok (.getfield 7, 3) := by decide +kernel
theorem dX0_relax_35 : decode cX0_relax 35 = .ok (.iload_n 2, 1) := by decide +kernel
theorem dX0_relax_36 : decode cX0_relax 36 = .ok (.iaload, 1) := by decide +kernel
theorem dX0_relax_37 : decode cX0_relax 37 = .ok (.if_icmp .ne 12, 3) := by decide +kernel
theorem dX0_relax_40 : decode cX0_relax 40 = .ok (.aload_n 0, 1) := by decide +kernel
theorem dX0_relax_41 : decode cX0_relax 41 = .ok (.getfield 13, 3) := by decide +kernel
theorem dX0_relax_44 : decode cX0_relax 44 = .ok (.iload_n 2, 1) := by decide +kernel
theorem dX0_relax_45 : decode cX0_relax 45 = .ok (.iaload, 1) := by decide +kernel
theorem dX0_relax_46 : decode cX0_relax 46 = .ok (.goto 9, 3) := by decide +kernel
theorem dX0_relax_49 : decode cX0_relax 49 = .ok (.aload_n 0, 1) := by decide +kernel
theorem dX0_relax_50 : decode cX0_relax 50 = .ok (.getfield 7, 3) := by decide +kernel
theorem dX0_relax_53 : decode cX0_relax 53 = .ok (.iload_n 2, 1) := by decide +kernel
theorem dX0_relax_54 : decode cX0_relax 54 = .ok (.iaload, 1) := by decide +kernel
theorem dX0_relax_55 : decode cX0_relax 55 = .ok (.istore 5, 2) := by decide +kernel
theorem dX0_relax_57 : decode cX0_relax 57 = .ok (.iload_n 3, 1) := by decide +kernel
theorem dX0_relax_58 : decode cX0_relax 58 = .ok (.iload_n 2, 1) := by decide +kernel
theorem dX0_relax_59 : decode cX0_relax 59 = .ok (.ishr, 1) := by decide +kernel
theorem dX0_relax_60 : decode cX0_relax 60 = .ok (.iconst 1, 1) := by decide +kernel
theorem dX0_relax_61 : decode cX0_relax 61 = .ok (.iand, 1) := by decide +kernel
theorem dX0_relax_62 : decode cX0_relax 62 = .ok (.iconst 1, 1) := by decide +kernel
theorem dX0_relax_63 : decode cX0_relax 63 = .ok (.if_icmp .ne 7, 3) := by decide +kernel
theorem dX0_relax_66 : decode cX0_relax 66 = .ok (.iconst 1, 1) := by decide +kernel
theorem dX0_relax_67 : decode cX0_relax 67 = .ok (.goto 4, 3) := by decide +kernel
theorem dX0_relax_70 : decode cX0_relax 70 = .ok (.iconst 0, 1) := by decide +kernel
theorem dX0_relax_71 : decode cX0_relax 71 = .ok (.istore 6, 2) := by decide +kernel
theorem dX0_relax_73 : decode cX0_relax 73 = .ok (.iload_n 1, 1) := by decide +kernel
theorem dX0_relax_74 : decode cX0_relax 74 = .ok (.bipush 7, 2) := by decide +kernel
theorem dX0_relax_76 : decode cX0_relax 76 = .ok (.if_icmp .lt 7, 3) := by decide +kernel
theorem dX0_relax_79 : decode cX0_relax 79 = .ok (.iconst 1, 1) := by decide +kernel
theorem dX0_relax_80 : decode cX0_relax 80 = .ok (.goto 4, 3) := by decide +kernel
theorem dX0_relax_83 : decode cX0_relax 83 = .ok (.iconst 0, 1) := by decide +kernel
theorem dX0_relax_84 : decode cX0_relax 84 = .ok (.iload 6, 2) := by decide +kernel
theorem dX0_relax_86 : decode cX0_relax 86 = .ok (.if_icmp .eq 7, 3) := by decide +kernel
theorem dX0_relax_89 : decode cX0_relax 89 = .ok (.iconst 1, 1) := by decide +kernel
theorem dX0_relax_90 : decode cX0_relax 90 = .ok (.goto 4, 3) := by decide +kernel
theorem dX0_relax_93 : decode cX0_relax 93 = .ok (.iconst 0, 1) := by decide +kernel
theorem dX0_relax_94 : decode cX0_relax 94 = .ok (.istore 7, 2) := by decide +kernel
theorem dX0_relax_96 : decode cX0_relax 96 = .ok (.iload 7, 2) := by decide +kernel
theorem dX0_relax_98 : decode cX0_relax 98 = .ok (.ifCond .eq 11, 3) := by decide +kernel
theorem dX0_relax_101 : decode cX0_relax 101 = .ok (.iload 5, 2) := by decide +kernel
theorem dX0_relax_103 : decode cX0_relax 103 = .ok (.bipush 7, 2) := by decide +kernel
theorem dX0_relax_105 : decode cX0_relax 105 = .ok (.iadd, 1) := by decide +kernel
theorem dX0_relax_106 : decode cX0_relax 106 = .ok (.goto 5, 3) := by decide +kernel
theorem dX0_relax_109 : decode cX0_relax 109 = .ok (.iload 5, 2) := by decide +kernel
theorem dX0_relax_111 : decode cX0_relax 111 = .ok (.istore 8, 2) := by decide +kernel
theorem dX0_relax_113 : decode cX0_relax 113 = .ok (.aload_n 0, 1) := by decide +kernel
theorem dX0_relax_114 : decode cX0_relax 114 = .ok (.getfield 31, 3) := by decide +kernel
theorem dX0_relax_117 : decode cX0_relax 117 = .ok (.iload_n 1, 1) := by decide +kernel
theorem dX0_relax_118 : decode cX0_relax 118 = .ok (.iaload, 1) := by decide +kernel
theorem dX0_relax_119 : decode cX0_relax 119 = .ok (.aload_n 0, 1) := by decide +kernel
theorem dX0_relax_120 : decode cX0_relax 120 = .ok (.getfield 16, 3) := by decide +kernel
theorem dX0_relax_123 : decode cX0_relax 123 = .ok (.iload_n 2, 1) := by decide +kernel
theorem dX0_relax_124 : decode cX0_relax 124 = .ok (.iaload, 1) := by decide +kernel
theorem dX0_relax_125 : decode cX0_relax 125 = .ok (.iadd, 1) := by decide +kernel
theorem dX0_relax_126 : decode cX0_relax 126 = .ok (.aload_n 0, 1) := by decide +kernel
theorem dX0_relax_127 : decode cX0_relax 127 = .ok (.getfield 31, 3) := by decide +kernel
theorem dX0_relax_130 : decode cX0_relax 130 = .ok (.iload 8, 2) := by decide +kernel
theorem dX0_relax_132 : decode cX0_relax 132 = .ok (.iaload, 1) := by decide +kernel
theorem dX0_relax_133 : decode cX0_relax 133 = .ok (.if_icmp .ge 40, 3) := by decide +kernel
theorem dX0_relax_136 : decode cX0_relax 136 = .ok (.aload_n 0, 1) := by decide +kernel
theorem dX0_relax_137 : decode cX0_relax 137 = .ok (.getfield 31, 3) := by decide +kernel
theorem dX0_relax_140 : decode cX0_relax 140 = .ok (.iload 8, 2) := by decide +kernel
theorem dX0_relax_142 : decode cX0_relax 142 = .ok (.aload_n 0, 1) := by decide +kernel
theorem dX0_relax_143 : decode cX0_relax 143 = .ok (.getfield 31, 3) := by decide +kernel
theorem dX0_relax_146 : decode cX0_relax 146 = .ok (.iload_n 1, 1) := by decide +kernel
theorem dX0_relax_147 : decode cX0_relax 147 = .ok (.iaload, 1) := by decide +kernel
theorem dX0_relax_148 : decode cX0_relax 148 = .ok (.aload_n 0, 1) := by decide +kernel
theorem dX0_relax_149 : decode cX0_relax 149 = .ok (.getfield 16, 3) := by decide +kernel
theorem dX0_relax_152 : decode cX0_relax 152 = .ok (.iload_n 2, 1) := by decide +kernel
theorem dX0_relax_153 : decode cX0_relax 153 = .ok (.iaload, 1) := by decide +kernel
theorem dX0_relax_154 : decode cX0_relax 154 = .ok (.iadd, 1) := by decide +kernel
theorem dX0_relax_155 : decode cX0_relax 155 = .ok (.iastore, 1) := by decide +kernel
theorem dX0_relax_156 : decode cX0_relax 156 = .ok (.aload_n 0, 1) := by decide +kernel
theorem dX0_relax_157 : decode cX0_relax 157 = .ok (.getfield 34, 3) := by decide +kernel
theorem dX0_relax_160 : decode cX0_relax 160 = .ok (.iload 8, 2) := by decide +kernel
theorem dX0_relax_162 : decode cX0_relax 162 = .ok (.aload_n 0, 1) := by decide +kernel
theorem dX0_relax_163 : decode cX0_relax 163 = .ok (.getfield 34, 3) := by decide +kernel
theorem dX0_relax_166 : decode cX0_relax 166 = .ok (.iload_n 1, 1) := by decide +kernel
theorem dX0_relax_167 : decode cX0_relax 167 = .ok (.iaload, 1) := by decide +kernel
theorem dX0_relax_168 : decode cX0_relax 168 = .ok (.iconst 1, 1) := by decide +kernel
theorem dX0_relax_169 : decode cX0_relax 169 = .ok (.iload_n 2, 1) := by decide +kernel
theorem dX0_relax_170 : decode cX0_relax 170 = .ok (.ishl, 1) := by decide +kernel
theorem dX0_relax_171 : decode cX0_relax 171 = .ok (.ixor, 1) := by decide +kernel
theorem dX0_relax_172 : decode cX0_relax 172 = .ok (.iastore, 1) := by decide +kernel
theorem dX0_relax_173 : decode cX0_relax 173 = .ok (.return_, 1) := by decide +kernel
theorem dX0_nearest_0 : decode cX0_nearest 0 = .ok (.iconst (-1), 1) := by decide +kernel
theorem dX0_nearest_1 : decode cX0_nearest 1 = .ok (.istore_n 1, 1) := by decide +kernel
theorem dX0_nearest_2 : decode cX0_nearest 2 = .ok (.iconst 0, 1) := by decide +kernel
theorem dX0_nearest_3 : decode cX0_nearest 3 = .ok (.istore_n 2, 1) := by decide +kernel
theorem dX0_nearest_4 : decode cX0_nearest 4 = .ok (.iload_n 2, 1) := by decide +kernel
theorem dX0_nearest_5 : decode cX0_nearest 5 = .ok (.bipush 14, 2) := by decide +kernel
theorem dX0_nearest_7 : decode cX0_nearest 7 = .ok (.if_icmp .ge 50, 3) := by decide +kernel
theorem dX0_nearest_10 : decode cX0_nearest 10 = .ok (.aload_n 0, 1) := by decide +kernel
theorem dX0_nearest_11 : decode cX0_nearest 11 = .ok (.getfield 37, 3) := by decide +kernel
theorem dX0_nearest_14 : decode cX0_nearest 14 = .ok (.iload_n 2, 1) := by decide +kernel
theorem dX0_nearest_15 : decode cX0_nearest 15 = .ok (.baload, 1) := by decide +kernel
theorem dX0_nearest_16 : decode cX0_nearest 16 = .ok (.ifCond .ne 35, 3) := by decide +kernel
theorem dX0_nearest_19 : decode cX0_nearest 19 = .ok (.aload_n 0, 1) := by decide +kernel
theorem dX0_nearest_20 : decode cX0_nearest 20 = .ok (.getfield 31, 3) := by decide +kernel
theorem dX0_nearest_23 : decode cX0_nearest 23 = .ok (.iload_n 2, 1) := by decide +kernel
theorem dX0_nearest_24 : decode cX0_nearest 24 = .ok (.iaload, 1) := by decide +kernel
theorem dX0_nearest_25 : decode cX0_nearest 25 = .ok (.ldc 58, 2) := by decide +kernel
theorem dX0_nearest_27 : decode cX0_nearest 27 = .ok (.if_icmp .ge 24, 3) := by decide +kernel
theorem dX0_nearest_30 : decode cX0_nearest 30 = .ok (.iload_n 1, 1) := by decide +kernel
theorem dX0_nearest_31 : decode cX0_nearest 31 = .ok (.ifCond .lt 18, 3) := by decide +kernel
theorem dX0_nearest_34 : decode cX0_nearest 34 = .ok (.aload_n 0, 1) := by decide +kernel
theorem dX0_nearest_35 : decode cX0_nearest 35 = .ok (.getfield 31, 3) := by decide +kernel
theorem dX0_nearest_38 : decode cX0_nearest 38 = .ok (.iload_n 2, 1) := by decide +kernel
theorem dX0_nearest_39 : decode cX0_nearest 39 = .ok (.iaload, 1) := by decide +kernel
theorem dX0_nearest_40 : decode cX0_nearest 40 = .ok (.aload_n 0, 1) := by decide +kernel
theorem dX0_nearest_41 : decode cX0_nearest 41 = .ok (.getfield 31, 3) := by decide +kernel
theorem dX0_nearest_44 : decode cX0_nearest 44 = .ok (.iload_n 1, 1) := by decide +kernel
theorem dX0_nearest_45 : decode cX0_nearest 45 = .ok (.iaload, 1) := by decide +kernel
theorem dX0_nearest_46 : decode cX0_nearest 46 = .ok (.if_icmp .ge 5, 3) := by decide +kernel
theorem dX0_nearest_49 : decode cX0_nearest 49 = .ok (.iload_n 2, 1) := by decide +kernel
theorem dX0_nearest_50 : decode cX0_nearest 50 = .ok (.istore_n 1, 1) := by decide +kernel
theorem dX0_nearest_51 : decode cX0_nearest 51 = .ok (.iinc 2 1, 3) := by decide +kernel
theorem dX0_nearest_54 : decode cX0_nearest 54 = .ok (.goto (-50), 3) := by decide +kernel
theorem dX0_nearest_57 : decode cX0_nearest 57 = .ok (.iload_n 1, 1) := by decide +kernel
theorem dX0_nearest_58 : decode cX0_nearest 58 = .ok (.ireturn, 1) := by decide +kernel
theorem dX0_addCycle_0 : decode cX0_addCycle 0 = .ok (.aload_n 0, 1) := by decide +kernel
theorem dX0_addCycle_1 : decode cX0_addCycle 1 = .ok (.getfield 79, 3) := by decide +kernel
theorem dX0_addCycle_4 : decode cX0_addCycle 4 = .ok (.istore_n 3, 1) := by decide +kernel
theorem dX0_addCycle_5 : decode cX0_addCycle 5 = .ok (.iload_n 3, 1) := by decide +kernel
theorem dX0_addCycle_6 : decode cX0_addCycle 6 = .ok (.ifCond .le 49, 3) := by decide +kernel
theorem dX0_addCycle_9 : decode cX0_addCycle 9 = .ok (.aload_n 0, 1) := by decide +kernel
theorem dX0_addCycle_10 : decode cX0_addCycle 10 = .ok (.getfield 28, 3) := by decide +kernel
theorem dX0_addCycle_13 : decode cX0_addCycle 13 = .ok (.iload_n 3, 1) := by decide +kernel
theorem dX0_addCycle_14 : decode cX0_addCycle 14 = .ok (.iconst 1, 1) := by decide +kernel
theorem dX0_addCycle_15 : decode cX0_addCycle 15 = .ok (.isub, 1) := by decide +kernel
theorem dX0_addCycle_16 : decode cX0_addCycle 16 = .ok (.iaload, 1) := by decide +kernel
theorem dX0_addCycle_17 : decode cX0_addCycle 17 = .ok (.iload_n 2, 1) := by decide +kernel
theorem dX0_addCycle_18 : decode cX0_addCycle 18 = .ok (.if_icmp .le 37, 3) := by decide +kernel
theorem dX0_addCycle_21 : decode cX0_addCycle 21 = .ok (.aload_n 0, 1) := by decide +kernel
theorem dX0_addCycle_22 : decode cX0_addCycle 22 = .ok (.getfield 25, 3) := by decide +kernel
theorem dX0_addCycle_25 : decode cX0_addCycle 25 = .ok (.iload_n 3, 1) := by decide +kernel
theorem dX0_addCycle_26 : decode cX0_addCycle 26 = .ok (.aload_n 0, 1) := by decide +kernel
theorem dX0_addCycle_27 : decode cX0_addCycle 27 = .ok (.getfield 25, 3) := by decide +kernel
theorem dX0_addCycle_30 : decode cX0_addCycle 30 = .ok (.iload_n 3, 1) := by decide +kernel
theorem dX0_addCycle_31 : decode cX0_addCycle 31 = .ok (.iconst 1, 1) := by decide +kernel
theorem dX0_addCycle_32 : decode cX0_addCycle 32 = .ok (.isub, 1) := by decide +kernel
theorem dX0_addCycle_33 : decode cX0_addCycle 33 = .ok (.iaload, 1) := by decide +kernel
theorem dX0_addCycle_34 : decode cX0_addCycle 34 = .ok (.iastore, 1) := by decide +kernel
theorem dX0_addCycle_35 : decode cX0_addCycle 35 = .ok (.aload_n 0, 1) := by decide +kernel
theorem dX0_addCycle_36 : decode cX0_addCycle 36 = .ok (.getfield 28, 3) := by decide +kernel
end
section
set_option maxRecDepth 100000
theorem dX0_addCycle_39 : decode cX0_addCycle 39 = .ok (.iload_n 3, 1) := by decide +kernel
theorem dX0_addCycle_40 : decode cX0_addCycle 40 = .ok (.aload_n 0, 1) := by decide +kernel
theorem dX0_addCycle_41 : decode cX0_addCycle 41 = .ok (.getfield 28, 3) := by decide +kernel
theorem dX0_addCycle_44 : decode cX0_addCycle 44 = .ok (.iload_n 3, 1) := by decide +kernel
theorem dX0_addCycle_45 : decode cX0_addCycle 45 = .ok (.iconst 1, 1) := by decide +kernel
theorem dX0_addCycle_46 : decode cX0_addCycle 46 = .ok (.isub, 1) := by decide +kernel
theorem dX0_addCycle_47 : decode cX0_addCycle 47 = .ok (.iaload, 1) := by decide +kernel
theorem dX0_addCycle_48 : decode cX0_addCycle 48 = .ok (.iastore, 1) := by decide +kernel
theorem dX0_addCycle_49 : decode cX0_addCycle 49 = .ok (.iinc 3 (-1), 3) := by decide +kernel
theorem dX0_addCycle_52 : decode cX0_addCycle 52 = .ok (.goto (-47), 3) := by decide +kernel
theorem dX0_addCycle_55 : decode cX0_addCycle 55 = .ok (.aload_n 0, 1) := by decide +kernel
theorem dX0_addCycle_56 : decode cX0_addCycle 56 = .ok (.getfield 25, 3) := by decide +kernel
theorem dX0_addCycle_59 : decode cX0_addCycle 59 = .ok (.iload_n 3, 1) := by decide +kernel
theorem dX0_addCycle_60 : decode cX0_addCycle 60 = .ok (.iload_n 1, 1) := by decide +kernel
theorem dX0_addCycle_61 : decode cX0_addCycle 61 = .ok (.iastore, 1) := by decide +kernel
theorem dX0_addCycle_62 : decode cX0_addCycle 62 = .ok (.aload_n 0, 1) := by decide +kernel
theorem dX0_addCycle_63 : decode cX0_addCycle 63 = .ok (.getfield 28, 3) := by decide +kernel
theorem dX0_addCycle_66 : decode cX0_addCycle 66 = .ok (.iload_n 3, 1) := by decide +kernel
theorem dX0_addCycle_67 : decode cX0_addCycle 67 = .ok (.iload_n 2, 1) := by decide +kernel
theorem dX0_addCycle_68 : decode cX0_addCycle 68 = .ok (.iastore, 1) := by decide +kernel
theorem dX0_addCycle_69 : decode cX0_addCycle 69 = .ok (.aload_n 0, 1) := by decide +kernel
theorem dX0_addCycle_70 : decode cX0_addCycle 70 = .ok (.dup, 1) := by decide +kernel
theorem dX0_addCycle_71 : decode cX0_addCycle 71 = .ok (.getfield 79, 3) := by decide +kernel
theorem dX0_addCycle_74 : decode cX0_addCycle 74 = .ok (.iconst 1, 1) := by decide +kernel
theorem dX0_addCycle_75 : decode cX0_addCycle 75 = .ok (.iadd, 1) := by decide +kernel
theorem dX0_addCycle_76 : decode cX0_addCycle 76 = .ok (.putfield 79, 3) := by decide +kernel
theorem dX0_addCycle_79 : decode cX0_addCycle 79 = .ok (.return_, 1) := by decide +kernel
theorem dX0_oddlyMet_0 : decode cX0_oddlyMet 0 = .ok (.iload_n 0, 1) := by decide +kernel
theorem dX0_oddlyMet_1 : decode cX0_oddlyMet 1 = .ok (.iload_n 1, 1) := by decide +kernel
theorem dX0_oddlyMet_2 : decode cX0_oddlyMet 2 = .ok (.iand, 1) := by decide +kernel
theorem dX0_oddlyMet_3 : decode cX0_oddlyMet 3 = .ok (.istore_n 2, 1) := by decide +kernel
theorem dX0_oddlyMet_4 : decode cX0_oddlyMet 4 = .ok (.iconst 0, 1) := by decide +kernel
theorem dX0_oddlyMet_5 : decode cX0_oddlyMet 5 = .ok (.istore_n 3, 1) := by decide +kernel
theorem dX0_oddlyMet_6 : decode cX0_oddlyMet 6 = .ok (.iconst 0, 1) := by decide +kernel
theorem dX0_oddlyMet_7 : decode cX0_oddlyMet 7 = .ok (.istore 4, 2) := by decide +kernel
theorem dX0_oddlyMet_9 : decode cX0_oddlyMet 9 = .ok (.iload 4, 2) := by decide +kernel
theorem dX0_oddlyMet_11 : decode cX0_oddlyMet 11 = .ok (.bipush 12, 2) := by decide +kernel
theorem dX0_oddlyMet_13 : decode cX0_oddlyMet 13 = .ok (.if_icmp .ge 18, 3) := by decide +kernel
theorem dX0_oddlyMet_16 : decode cX0_oddlyMet 16 = .ok (.iload_n 3, 1) := by decide +kernel
theorem dX0_oddlyMet_17 : decode cX0_oddlyMet 17 = .ok (.iload_n 2, 1) := by decide +kernel
theorem dX0_oddlyMet_18 : decode cX0_oddlyMet 18 = .ok (.iload 4, 2) := by decide +kernel
theorem dX0_oddlyMet_20 : decode cX0_oddlyMet 20 = .ok (.ishr, 1) := by decide +kernel
theorem dX0_oddlyMet_21 : decode cX0_oddlyMet 21 = .ok (.iconst 1, 1) := by decide +kernel
theorem dX0_oddlyMet_22 : decode cX0_oddlyMet 22 = .ok (.iand, 1) := by decide +kernel
theorem dX0_oddlyMet_23 : decode cX0_oddlyMet 23 = .ok (.ixor, 1) := by decide +kernel
theorem dX0_oddlyMet_24 : decode cX0_oddlyMet 24 = .ok (.istore_n 3, 1) := by decide +kernel
theorem dX0_oddlyMet_25 : decode cX0_oddlyMet 25 = .ok (.iinc 4 1, 3) := by decide +kernel
theorem dX0_oddlyMet_28 : decode cX0_oddlyMet 28 = .ok (.goto (-19), 3) := by decide +kernel
theorem dX0_oddlyMet_31 : decode cX0_oddlyMet 31 = .ok (.iload_n 3, 1) := by decide +kernel
theorem dX0_oddlyMet_32 : decode cX0_oddlyMet 32 = .ok (.iconst 1, 1) := by decide +kernel
theorem dX0_oddlyMet_33 : decode cX0_oddlyMet 33 = .ok (.if_icmp .ne 7, 3) := by decide +kernel
theorem dX0_oddlyMet_36 : decode cX0_oddlyMet 36 = .ok (.iconst 1, 1) := by decide +kernel
theorem dX0_oddlyMet_37 : decode cX0_oddlyMet 37 = .ok (.goto 4, 3) := by decide +kernel
theorem dX0_oddlyMet_40 : decode cX0_oddlyMet 40 = .ok (.iconst 0, 1) := by decide +kernel
theorem dX0_oddlyMet_41 : decode cX0_oddlyMet 41 = .ok (.ireturn, 1) := by decide +kernel
theorem dX0_part_0 : decode cX0_part 0 = .ok (.aload_n 0, 1) := by decide +kernel
theorem dX0_part_1 : decode cX0_part 1 = .ok (.invokevirtual 94, 3) := by decide +kernel
theorem dX0_part_4 : decode cX0_part 4 = .ok (.iload_n 1, 1) := by decide +kernel
theorem dX0_part_5 : decode cX0_part 5 = .ok (.ifCond .lt 11, 3) := by decide +kernel
theorem dX0_part_8 : decode cX0_part 8 = .ok (.iload_n 1, 1) := by decide +kernel
theorem dX0_part_9 : decode cX0_part 9 = .ok (.aload_n 0, 1) := by decide +kernel
theorem dX0_part_10 : decode cX0_part 10 = .ok (.getfield 79, 3) := by decide +kernel
theorem dX0_part_13 : decode cX0_part 13 = .ok (.if_icmp .lt 8, 3) := by decide +kernel
theorem dX0_part_16 : decode cX0_part 16 = .ok (.bipush (-5), 2) := by decide +kernel
theorem dX0_part_18 : decode cX0_part 18 = .ok (.goto 9, 3) := by decide +kernel
theorem dX0_part_21 : decode cX0_part 21 = .ok (.aload_n 0, 1) := by decide +kernel
theorem dX0_part_22 : decode cX0_part 22 = .ok (.getfield 28, 3) := by decide +kernel
theorem dX0_part_25 : decode cX0_part 25 = .ok (.iload_n 1, 1) := by decide +kernel
theorem dX0_part_26 : decode cX0_part 26 = .ok (.iaload, 1) := by decide +kernel
theorem dX0_part_27 : decode cX0_part 27 = .ok (.ireturn, 1) := by decide +kernel
theorem dX0_through_0 : decode cX0_through 0 = .ok (.aload_n 0, 1) := by decide +kernel
theorem dX0_through_1 : decode cX0_through 1 = .ok (.iload_n 1, 1) := by decide +kernel
theorem dX0_through_2 : decode cX0_through 2 = .ok (.invokevirtual 52, 3) := by decide +kernel
theorem dX0_through_5 : decode cX0_through 5 = .ok (.ifCond .eq 6, 3) := by decide +kernel
theorem dX0_through_8 : decode cX0_through 8 = .ok (.bipush (-4), 2) := by decide +kernel
theorem dX0_through_10 : decode cX0_through 10 = .ok (.ireturn, 1) := by decide +kernel
theorem dX0_through_11 : decode cX0_through 11 = .ok (.aload_n 0, 1) := by decide +kernel
theorem dX0_through_12 : decode cX0_through 12 = .ok (.aload_n 0, 1) := by decide +kernel
theorem dX0_through_13 : decode cX0_through 13 = .ok (.getfield 7, 3) := by decide +kernel
theorem dX0_through_16 : decode cX0_through 16 = .ok (.iload_n 1, 1) := by decide +kernel
theorem dX0_through_17 : decode cX0_through 17 = .ok (.iaload, 1) := by decide +kernel
theorem dX0_through_18 : decode cX0_through 18 = .ok (.iconst 0, 1) := by decide +kernel
theorem dX0_through_19 : decode cX0_through 19 = .ok (.iload_n 1, 1) := by decide +kernel
theorem dX0_through_20 : decode cX0_through 20 = .ok (.invokevirtual 73, 3) := by decide +kernel
theorem dX0_through_23 : decode cX0_through 23 = .ok (.aload_n 0, 1) := by decide +kernel
theorem dX0_through_24 : decode cX0_through 24 = .ok (.getfield 31, 3) := by decide +kernel
theorem dX0_through_27 : decode cX0_through 27 = .ok (.aload_n 0, 1) := by decide +kernel
theorem dX0_through_28 : decode cX0_through 28 = .ok (.getfield 13, 3) := by decide +kernel
theorem dX0_through_31 : decode cX0_through 31 = .ok (.iload_n 1, 1) := by decide +kernel
theorem dX0_through_32 : decode cX0_through 32 = .ok (.iaload, 1) := by decide +kernel
theorem dX0_through_33 : decode cX0_through 33 = .ok (.iaload, 1) := by decide +kernel
theorem dX0_through_34 : decode cX0_through 34 = .ok (.ldc 58, 2) := by decide +kernel
theorem dX0_through_36 : decode cX0_through 36 = .ok (.if_icmp .lt 8, 3) := by decide +kernel
theorem dX0_through_39 : decode cX0_through 39 = .ok (.bipush (-5), 2) := by decide +kernel
theorem dX0_through_41 : decode cX0_through 41 = .ok (.goto 21, 3) := by decide +kernel
theorem dX0_through_44 : decode cX0_through 44 = .ok (.aload_n 0, 1) := by decide +kernel
theorem dX0_through_45 : decode cX0_through 45 = .ok (.getfield 31, 3) := by decide +kernel
theorem dX0_through_48 : decode cX0_through 48 = .ok (.aload_n 0, 1) := by decide +kernel
theorem dX0_through_49 : decode cX0_through 49 = .ok (.getfield 13, 3) := by decide +kernel
theorem dX0_through_52 : decode cX0_through 52 = .ok (.iload_n 1, 1) := by decide +kernel
theorem dX0_through_53 : decode cX0_through 53 = .ok (.iaload, 1) := by decide +kernel
theorem dX0_through_54 : decode cX0_through 54 = .ok (.iaload, 1) := by decide +kernel
theorem dX0_through_55 : decode cX0_through 55 = .ok (.aload_n 0, 1) := by decide +kernel
theorem dX0_through_56 : decode cX0_through 56 = .ok (.getfield 16, 3) := by decide +kernel
theorem dX0_through_59 : decode cX0_through 59 = .ok (.iload_n 1, 1) := by decide +kernel
theorem dX0_through_60 : decode cX0_through 60 = .ok (.iaload, 1) := by decide +kernel
theorem dX0_through_61 : decode cX0_through 61 = .ok (.iadd, 1) := by decide +kernel
theorem dX0_through_62 : decode cX0_through 62 = .ok (.ireturn, 1) := by decide +kernel
theorem dX0_closed_0 : decode cX0_closed 0 = .ok (.iload_n 1, 1) := by decide +kernel
theorem dX0_closed_1 : decode cX0_closed 1 = .ok (.ifCond .lt 12, 3) := by decide +kernel
theorem dX0_closed_4 : decode cX0_closed 4 = .ok (.iload_n 1, 1) := by decide +kernel
theorem dX0_closed_5 : decode cX0_closed 5 = .ok (.aload_n 0, 1) := by decide +kernel
theorem dX0_closed_6 : decode cX0_closed 6 = .ok (.getfield 44, 3) := by decide +kernel
theorem dX0_closed_9 : decode cX0_closed 9 = .ok (.ishr, 1) := by decide +kernel
theorem dX0_closed_10 : decode cX0_closed 10 = .ok (.ifCond .eq 5, 3) := by decide +kernel
theorem dX0_closed_13 : decode cX0_closed 13 = .ok (.iconst 0, 1) := by decide +kernel
theorem dX0_closed_14 : decode cX0_closed 14 = .ok (.ireturn, 1) := by decide +kernel
theorem dX0_closed_15 : decode cX0_closed 15 = .ok (.iconst 0, 1) := by decide +kernel
theorem dX0_closed_16 : decode cX0_closed 16 = .ok (.istore_n 2, 1) := by decide +kernel
theorem dX0_closed_17 : decode cX0_closed 17 = .ok (.iconst 0, 1) := by decide +kernel
theorem dX0_closed_18 : decode cX0_closed 18 = .ok (.istore_n 3, 1) := by decide +kernel
theorem dX0_closed_19 : decode cX0_closed 19 = .ok (.iload_n 3, 1) := by decide +kernel
theorem dX0_closed_20 : decode cX0_closed 20 = .ok (.aload_n 0, 1) := by decide +kernel
theorem dX0_closed_21 : decode cX0_closed 21 = .ok (.getfield 44, 3) := by decide +kernel
theorem dX0_closed_24 : decode cX0_closed 24 = .ok (.if_icmp .ge 38, 3) := by decide +kernel
theorem dX0_closed_27 : decode cX0_closed 27 = .ok (.iload_n 1, 1) := by decide +kernel
theorem dX0_closed_28 : decode cX0_closed 28 = .ok (.iload_n 3, 1) := by decide +kernel
theorem dX0_closed_29 : decode cX0_closed 29 = .ok (.ishr, 1) := by decide +kernel
theorem dX0_closed_30 : decode cX0_closed 30 = .ok (.iconst 1, 1) := by decide +kernel
theorem dX0_closed_31 : decode cX0_closed 31 = .ok (.iand, 1) := by decide +kernel
theorem dX0_closed_32 : decode cX0_closed 32 = .ok (.iconst 1, 1) := by decide +kernel
theorem dX0_closed_33 : decode cX0_closed 33 = .ok (.if_icmp .ne 23, 3) := by decide +kernel
theorem dX0_closed_36 : decode cX0_closed 36 = .ok (.iload_n 2, 1) := by decide +kernel
theorem dX0_closed_37 : decode cX0_closed 37 = .ok (.iconst 1, 1) := by decide +kernel
theorem dX0_closed_38 : decode cX0_closed 38 = .ok (.aload_n 0, 1) := by decide +kernel
theorem dX0_closed_39 : decode cX0_closed 39 = .ok (.getfield 7, 3) := by decide +kernel
theorem dX0_closed_42 : decode cX0_closed 42 = .ok (.iload_n 3, 1) := by decide +kernel
theorem dX0_closed_43 : decode cX0_closed 43 = .ok (.iaload, 1) := by decide +kernel
theorem dX0_closed_44 : decode cX0_closed 44 = .ok (.ishl, 1) := by decide +kernel
theorem dX0_closed_45 : decode cX0_closed 45 = .ok (.iconst 1, 1) := by decide +kernel
theorem dX0_closed_46 : decode cX0_closed 46 = .ok (.aload_n 0, 1) := by decide +kernel
theorem dX0_closed_47 : decode cX0_closed 47 = .ok (.getfield 13, 3) := by decide +kernel
theorem dX0_closed_50 : decode cX0_closed 50 = .ok (.iload_n 3, 1) := by decide +kernel
theorem dX0_closed_51 : decode cX0_closed 51 = .ok (.iaload, 1) := by decide +kernel
theorem dX0_closed_52 : decode cX0_closed 52 = .ok (.ishl, 1) := by decide +kernel
theorem dX0_closed_53 : decode cX0_closed 53 = .ok (.ixor, 1) := by decide +kernel
theorem dX0_closed_54 : decode cX0_closed 54 = .ok (.ixor, 1) := by decide +kernel
theorem dX0_closed_55 : decode cX0_closed 55 = .ok (.istore_n 2, 1) := by decide +kernel
theorem dX0_closed_56 : decode cX0_closed 56 = .ok (.iinc 3 1, 3) := by decide +kernel
theorem dX0_closed_59 : decode cX0_closed 59 = .ok (.goto (-40), 3) := by decide +kernel
theorem dX0_closed_62 : decode cX0_closed 62 = .ok (.iload_n 2, 1) := by decide +kernel
theorem dX0_closed_63 : decode cX0_closed 63 = .ok (.ifCond .ne 7, 3) := by decide +kernel
theorem dX0_closed_66 : decode cX0_closed 66 = .ok (.iconst 1, 1) := by decide +kernel
theorem dX0_closed_67 : decode cX0_closed 67 = .ok (.goto 4, 3) := by decide +kernel
theorem dX0_closed_70 : decode cX0_closed 70 = .ok (.iconst 0, 1) := by decide +kernel
theorem dX0_closed_71 : decode cX0_closed 71 = .ok (.ireturn, 1) := by decide +kernel
theorem dX0_level_0 : decode cX0_level 0 = .ok (.aload_n 0, 1) := by decide +kernel
theorem dX0_level_1 : decode cX0_level 1 = .ok (.iload_n 1, 1) := by decide +kernel
theorem dX0_level_2 : decode cX0_level 2 = .ok (.invokevirtual 97, 3) := by decide +kernel
theorem dX0_level_5 : decode cX0_level 5 = .ok (.istore_n 2, 1) := by decide +kernel
theorem dX0_level_6 : decode cX0_level 6 = .ok (.iload_n 2, 1) := by decide +kernel
theorem dX0_level_7 : decode cX0_level 7 = .ok (.ifCond .ne 6, 3) := by decide +kernel
theorem dX0_level_10 : decode cX0_level 10 = .ok (.bipush (-5), 2) := by decide +kernel
theorem dX0_level_12 : decode cX0_level 12 = .ok (.ireturn, 1) := by decide +kernel
theorem dX0_level_13 : decode cX0_level 13 = .ok (.iload_n 1, 1) := by decide +kernel
theorem dX0_level_14 : decode cX0_level 14 = .ok (.ifCond .ne 5, 3) := by decide +kernel
theorem dX0_level_17 : decode cX0_level 17 = .ok (.iconst 0, 1) := by decide +kernel
theorem dX0_level_18 : decode cX0_level 18 = .ok (.ireturn, 1) := by decide +kernel
theorem dX0_level_19 : decode cX0_level 19 = .ok (.aload_n 0, 1) := by decide +kernel
theorem dX0_level_20 : decode cX0_level 20 = .ok (.invokevirtual 94, 3) := by decide +kernel
theorem dX0_level_23 : decode cX0_level 23 = .ok (.iconst 0, 1) := by decide +kernel
theorem dX0_level_24 : decode cX0_level 24 = .ok (.istore_n 3, 1) := by decide +kernel
theorem dX0_level_25 : decode cX0_level 25 = .ok (.iload_n 3, 1) := by decide +kernel
theorem dX0_level_26 : decode cX0_level 26 = .ok (.bipush 12, 2) := by decide +kernel
theorem dX0_level_28 : decode cX0_level 28 = .ok (.if_icmp .ge 16, 3) := by decide +kernel
theorem dX0_level_31 : decode cX0_level 31 = .ok (.aload_n 0, 1) := by decide +kernel
theorem dX0_level_32 : decode cX0_level 32 = .ok (.getfield 41, 3) := by decide +kernel
theorem dX0_level_35 : decode cX0_level 35 = .ok (.iload_n 3, 1) := by decide +kernel
theorem dX0_level_36 : decode cX0_level 36 = .ok (.iconst 0, 1) := by decide +kernel
theorem dX0_level_37 : decode cX0_level 37 = .ok (.iastore, 1) := by decide +kernel
theorem dX0_level_38 : decode cX0_level 38 = .ok (.iinc 3 1, 3) := by decide +kernel
theorem dX0_level_41 : decode cX0_level 41 = .ok (.goto (-16), 3) := by decide +kernel
theorem dX0_level_44 : decode cX0_level 44 = .ok (.iconst 0, 1) := by decide +kernel
theorem dX0_level_45 : decode cX0_level 45 = .ok (.istore_n 3, 1) := by decide +kernel
theorem dX0_level_46 : decode cX0_level 46 = .ok (.iload_n 3, 1) := by decide +kernel
theorem dX0_level_47 : decode cX0_level 47 = .ok (.aload_n 0, 1) := by decide +kernel
theorem dX0_level_48 : decode cX0_level 48 = .ok (.getfield 79, 3) := by decide +kernel
theorem dX0_level_51 : decode cX0_level 51 = .ok (.if_icmp .ge 61, 3) := by decide +kernel
theorem dX0_level_54 : decode cX0_level 54 = .ok (.aload_n 0, 1) := by decide +kernel
theorem dX0_level_55 : decode cX0_level 55 = .ok (.aload_n 0, 1) := by decide +kernel
theorem dX0_level_56 : decode cX0_level 56 = .ok (.getfield 25, 3) := by decide +kernel
theorem dX0_level_59 : decode cX0_level 59 = .ok (.iload_n 3, 1) := by decide +kernel
theorem dX0_level_60 : decode cX0_level 60 = .ok (.iaload, 1) := by decide +kernel
theorem dX0_level_61 : decode cX0_level 61 = .ok (.invokevirtual 100, 3) := by decide +kernel
theorem dX0_level_64 : decode cX0_level 64 = .ok (.istore 4, 2) := by decide +kernel
theorem dX0_level_66 : decode cX0_level 66 = .ok (.iload 4, 2) := by decide +kernel
theorem dX0_level_68 : decode cX0_level 68 = .ok (.invokestatic 104, 3) := by decide +kernel
theorem dX0_level_71 : decode cX0_level 71 = .ok (.istore 5, 2) := by decide +kernel
theorem dX0_level_73 : decode cX0_level 73 = .ok (.iload 5, 2) := by decide +kernel
theorem dX0_level_75 : decode cX0_level 75 = .ok (.ifCond .lt 12, 3) := by decide +kernel
theorem dX0_level_78 : decode cX0_level 78 = .ok (.aload_n 0, 1) := by decide +kernel
theorem dX0_level_79 : decode cX0_level 79 = .ok (.getfield 41, 3) := by decide +kernel
theorem dX0_level_82 : decode cX0_level 82 = .ok (.iload 5, 2) := by decide +kernel
theorem dX0_level_84 : decode cX0_level 84 = .ok (.iload 4, 2) := by decide +kernel
theorem dX0_level_86 : decode cX0_level 86 = .ok (.iastore, 1) := by decide +kernel
theorem dX0_level_87 : decode cX0_level 87 = .ok (.aload_n 0, 1) := by decide +kernel
theorem dX0_level_88 : decode cX0_level 88 = .ok (.iload_n 1, 1) := by decide +kernel
theorem dX0_level_89 : decode cX0_level 89 = .ok (.invokevirtual 100, 3) := by decide +kernel
theorem dX0_level_92 : decode cX0_level 92 = .ok (.istore 6, 2) := by decide +kernel
theorem dX0_level_94 : decode cX0_level 94 = .ok (.iload 6, 2) := by decide +kernel
theorem dX0_level_96 : decode cX0_level 96 = .ok (.ifCond .ne 10, 3) := by decide +kernel
theorem dX0_level_99 : decode cX0_level 99 = .ok (.aload_n 0, 1) := by decide +kernel
theorem dX0_level_100 : decode cX0_level 100 = .ok (.getfield 28, 3) := by decide +kernel
theorem dX0_level_103 : decode cX0_level 103 = .ok (.iload_n 3, 1) := by decide +kernel
theorem dX0_level_104 : decode cX0_level 104 = .ok (.iaload, 1) := by decide +kernel
theorem dX0_level_105 : decode cX0_level 105 = .ok (.ireturn, 1) := by decide +kernel
theorem dX0_level_106 : decode cX0_level 106 = .ok (.iinc 3 1, 3) := by decide +kernel
theorem dX0_level_109 : decode cX0_level 109 = .ok (.goto (-63), 3) := by decide +kernel
theorem dX0_level_112 : decode cX0_level 112 = .ok (.bipush (-5), 2) := by decide +kernel
theorem dX0_level_114 : decode cX0_level 114 = .ok (.ireturn, 1) := by decide +kernel
theorem dX0_reduce_0 : decode cX0_reduce 0 = .ok (.iload_n 1, 1) := by decide +kernel
theorem dX0_reduce_1 : decode cX0_reduce 1 = .ok (.istore_n 2, 1) := by decide +kernel
theorem dX0_reduce_2 : decode cX0_reduce 2 = .ok (.bipush 11, 2) := by decide +kernel
theorem dX0_reduce_4 : decode cX0_reduce 4 = .ok (.istore_n 3, 1) := by decide +kernel
theorem dX0_reduce_5 : decode cX0_reduce 5 = .ok (.iload_n 3, 1) := by decide +kernel
theorem dX0_reduce_6 : decode cX0_reduce 6 = .ok (.ifCond .lt 36, 3) := by decide +kernel
theorem dX0_reduce_9 : decode cX0_reduce 9 = .ok (.iload_n 2, 1) := by decide +kernel
theorem dX0_reduce_10 : decode cX0_reduce 10 = .ok (.iload_n 3, 1) := by decide +kernel
theorem dX0_reduce_11 : decode cX0_reduce 11 = .ok (.ishr, 1) := by decide +kernel
theorem dX0_reduce_12 : decode cX0_reduce 12 = .ok (.iconst 1, 1) := by decide +kernel
theorem dX0_reduce_13 : decode cX0_reduce 13 = .ok (.iand, 1) := by decide +kernel
theorem dX0_reduce_14 : decode cX0_reduce 14 = .ok (.iconst 1, 1) := by decide +kernel
theorem dX0_reduce_15 : decode cX0_reduce 15 = .ok (.if_icmp .ne 21, 3) := by decide +kernel
theorem dX0_reduce_18 : decode cX0_reduce 18 = .ok (.aload_n 0, 1) := by decide +kernel
theorem dX0_reduce_19 : decode cX0_reduce 19 = .ok (.getfield 41, 3) := by decide +kernel
theorem dX0_reduce_22 : decode cX0_reduce 22 = .ok (.iload_n 3, 1) := by decide +kernel
theorem dX0_reduce_23 : decode cX0_reduce 23 = .ok (.iaload, 1) := by decide +kernel
theorem dX0_reduce_24 : decode cX0_reduce 24 = .ok (.ifCond .eq 12, 3) := by decide +kernel
theorem dX0_reduce_27 : decode cX0_reduce 27 = .ok (.iload_n 2, 1) := by decide +kernel
theorem dX0_reduce_28 : decode cX0_reduce 28 = .ok (.aload_n 0, 1) := by decide +kernel
theorem dX0_reduce_29 : decode cX0_reduce 29 = .ok (.getfield 41, 3) := by decide +kernel
theorem dX0_reduce_32 : decode cX0_reduce 32 = .ok (.iload_n 3, 1) := by decide +kernel
theorem dX0_reduce_33 : decode cX0_reduce 33 = .ok (.iaload, 1) := by decide +kernel
theorem dX0_reduce_34 : decode cX0_reduce 34 = .ok (.ixor, 1) := by decide +kernel
theorem dX0_reduce_35 : decode cX0_reduce 35 = .ok (.istore_n 2, 1) := by decide +kernel
theorem dX0_reduce_36 : decode cX0_reduce 36 = .ok (.iinc 3 (-1), 3) := by decide +kernel
theorem dX0_reduce_39 : decode cX0_reduce 39 = .ok (.goto (-34), 3) := by decide +kernel
theorem dX0_reduce_42 : decode cX0_reduce 42 = .ok (.iload_n 2, 1) := by decide +kernel
theorem dX0_reduce_43 : decode cX0_reduce 43 = .ok (.ireturn, 1) := by decide +kernel
theorem dX0_highest_0 : decode cX0_highest 0 = .ok (.bipush 11, 2) := by decide +kernel
theorem dX0_highest_2 : decode cX0_highest 2 = .ok (.istore_n 1, 1) := by decide +kernel
theorem dX0_highest_3 : decode cX0_highest 3 = .ok (.iload_n 1, 1) := by decide +kernel
theorem dX0_highest_4 : decode cX0_highest 4 = .ok (.ifCond .lt 17, 3) := by decide +kernel
theorem dX0_highest_7 : decode cX0_highest 7 = .ok (.iload_n 0, 1) := by decide +kernel
theorem dX0_highest_8 : decode cX0_highest 8 = .ok (.iload_n 1, 1) := by decide +kernel
theorem dX0_highest_9 : decode cX0_highest 9 = .ok (.ishr, 1) := by decide +kernel
theorem dX0_highest_10 : decode cX0_highest 10 = .ok (.iconst 1, 1) := by decide +kernel
theorem dX0_highest_11 : decode cX0_highest 11 = .ok (.iand, 1) := by decide +kernel
theorem dX0_highest_12 : decode cX0_highest 12 = .ok (.ifCond .ne 9, 3) := by decide +kernel
theorem dX0_highest_15 : decode cX0_highest 15 = .ok (.iinc 1 (-1), 3) := by decide +kernel
theorem dX0_highest_18 : decode cX0_highest 18 = .ok (.goto (-15), 3) := by decide +kernel
theorem dX0_highest_21 : decode cX0_highest 21 = .ok (.iload_n 1, 1) := by decide +kernel
theorem dX0_highest_22 : decode cX0_highest 22 = .ok (.ireturn, 1) := by decide +kernel
theorem dX0_bridges_0 : decode cX0_bridges 0 = .ok (.iconst 0, 1) := by decide +kernel
theorem dX0_bridges_1 : decode cX0_bridges 1 = .ok (.istore_n 1, 1) := by decide +kernel
theorem dX0_bridges_2 : decode cX0_bridges 2 = .ok (.iconst 0, 1) := by decide +kernel
theorem dX0_bridges_3 : decode cX0_bridges 3 = .ok (.istore_n 2, 1) := by decide +kernel
theorem dX0_bridges_4 : decode cX0_bridges 4 = .ok (.iload_n 2, 1) := by decide +kernel
theorem dX0_bridges_5 : decode cX0_bridges 5 = .ok (.aload_n 0, 1) := by decide +kernel
theorem dX0_bridges_6 : decode cX0_bridges 6 = .ok (.getfield 44, 3) := by decide +kernel
theorem dX0_bridges_9 : decode cX0_bridges 9 = .ok (.if_icmp .ge 40, 3) := by decide +kernel
theorem dX0_bridges_12 : decode cX0_bridges 12 = .ok (.aload_n 0, 1) := by decide +kernel
theorem dX0_bridges_13 : decode cX0_bridges 13 = .ok (.aload_n 0, 1) := by decide +kernel
theorem dX0_bridges_14 : decode cX0_bridges 14 = .ok (.getfield 7, 3) := by decide +kernel
theorem dX0_bridges_17 : decode cX0_bridges 17 = .ok (.iload_n 2, 1) := by decide +kernel
theorem dX0_bridges_18 : decode cX0_bridges 18 = .ok (.iaload, 1) := by decide +kernel
theorem dX0_bridges_19 : decode cX0_bridges 19 = .ok (.iconst 0, 1) := by decide +kernel
theorem dX0_bridges_20 : decode cX0_bridges 20 = .ok (.iload_n 2, 1) := by decide +kernel
theorem dX0_bridges_21 : decode cX0_bridges 21 = .ok (.invokevirtual 73, 3) := by decide +kernel
theorem dX0_bridges_24 : decode cX0_bridges 24 = .ok (.aload_n 0, 1) := by decide +kernel
theorem dX0_bridges_25 : decode cX0_bridges 25 = .ok (.getfield 31, 3) := by decide +kernel
theorem dX0_bridges_28 : decode cX0_bridges 28 = .ok (.aload_n 0, 1) := by decide +kernel
theorem dX0_bridges_29 : decode cX0_bridges 29 = .ok (.getfield 13, 3) := by decide +kernel
theorem dX0_bridges_32 : decode cX0_bridges 32 = .ok (.iload_n 2, 1) := by decide +kernel
theorem dX0_bridges_33 : decode cX0_bridges 33 = .ok (.iaload, 1) := by decide +kernel
theorem dX0_bridges_34 : decode cX0_bridges 34 = .ok (.iaload, 1) := by decide +kernel
theorem dX0_bridges_35 : decode cX0_bridges 35 = .ok (.ldc 58, 2) := by decide +kernel
theorem dX0_bridges_37 : decode cX0_bridges 37 = .ok (.if_icmp .lt 6, 3) := by decide +kernel
theorem dX0_bridges_40 : decode cX0_bridges 40 = .ok (.iinc 1 1, 3) := by decide +kernel
theorem dX0_bridges_43 : decode cX0_bridges 43 = .ok (.iinc 2 1, 3) := by decide +kernel
theorem dX0_bridges_46 : decode cX0_bridges 46 = .ok (.goto (-42), 3) := by decide +kernel
theorem dX0_bridges_49 : decode cX0_bridges 49 = .ok (.iload_n 1, 1) := by decide +kernel
theorem dX0_bridges_50 : decode cX0_bridges 50 = .ok (.ireturn, 1) := by decide +kernel
end
section
/-! CycleBasisModel -/
set_option maxRecDepth 100000
def RX1 : String := "CycleBasisModel"
def TX1 : u_T := fun k => match k with
  | 0 => ("CycleBasisModel", "us", "[I", true)
  | 1 => ("CycleBasisModel", "vs", "[I", true)
  | 2 => ("CycleBasisModel", "weights", "[I", true)
  | 3 => ("CycleBasisModel", "count", "I", false)
  | 4 => ("CycleBasisModel", "sums", "[Z", true)
  | _ => ("CycleBasisModel", "closedWeight", "[I", true)
def tyX1 : Nat → FieldType := fun k => match k with
  | 0 => .array .int
  | 1 => .array .int
  | 2 => .array .int
  | 3 => .int
  | 4 => .array .boolean
  | _ => .array .int
abbrev wsX10 : List Cond := u_ws RX1 TX1 6
theorem nmX1 : ∀ a, a < 6 → ∀ b, b < 6 → a ≠ b → (TX1 a).2.1 ≠ (TX1 b).2.1 := by decide +kernel
theorem tyX1_ok : ∀ k, k < 6 → parseFieldDescriptor (TX1 k).2.2.1 = some (tyX1 k) := by decide +kernel
abbrev cX1_init : ByteArray := prog_3_method_1_code
def yX1_init : MethodName := ⟨RX1, "<init>", "()V"⟩
abbrev cX1_refresh : ByteArray := prog_3_method_9_code
def yX1_refresh : MethodName := ⟨RX1, "refresh", "()V"⟩
abbrev cX1_even : ByteArray := prog_3_method_8_code
def yX1_even : MethodName := ⟨RX1, "even", "(I)Z"⟩
abbrev cX1_degree : ByteArray := prog_3_method_7_code
def yX1_degree : MethodName := ⟨RX1, "degree", "(II)I"⟩
abbrev cX1_edge : ByteArray := prog_3_method_4_code
def yX1_edge : MethodName := ⟨RX1, "edge", "(III)I"⟩
abbrev cX1_isVertex : ByteArray := prog_3_method_2_code
def yX1_isVertex : MethodName := ⟨RX1, "isVertex", "(I)Z"⟩
abbrev cX1_reweigh : ByteArray := prog_3_method_5_code
def yX1_reweigh : MethodName := ⟨RX1, "reweigh", "(II)I"⟩
abbrev cX1_isEdge : ByteArray := prog_3_method_3_code
def yX1_isEdge : MethodName := ⟨RX1, "isEdge", "(I)Z"⟩
abbrev cX1_dropLast : ByteArray := prog_3_method_6_code
def yX1_dropLast : MethodName := ⟨RX1, "dropLast", "()I"⟩
abbrev cX1_rank : ByteArray := prog_3_method_13_code
def yX1_rank : MethodName := ⟨RX1, "rank", "()I"⟩
abbrev cX1_total : ByteArray := prog_3_method_14_code
def yX1_total : MethodName := ⟨RX1, "total", "()I"⟩
abbrev cX1_forget : ByteArray := prog_3_method_10_code
def yX1_forget : MethodName := ⟨RX1, "forget", "()V"⟩
abbrev cX1_lightest : ByteArray := prog_3_method_11_code
def yX1_lightest : MethodName := ⟨RX1, "lightest", "()I"⟩
abbrev cX1_take : ByteArray := prog_3_method_12_code
def yX1_take : MethodName := ⟨RX1, "take", "(I)V"⟩
abbrev cX1_part : ByteArray := prog_3_method_15_code
def yX1_part : MethodName := ⟨RX1, "part", "(I)I"⟩
abbrev cX1_through : ByteArray := prog_3_method_16_code
def yX1_through : MethodName := ⟨RX1, "through", "(I)I"⟩
abbrev cX1_closed : ByteArray := prog_3_method_17_code
def yX1_closed : MethodName := ⟨RX1, "closed", "(I)Z"⟩
abbrev cX1_level : ByteArray := prog_3_method_18_code
def yX1_level : MethodName := ⟨RX1, "level", "(I)I"⟩
abbrev cX1_bridges : ByteArray := prog_3_method_19_code
def yX1_bridges : MethodName := ⟨RX1, "bridges", "()I"⟩
theorem in_X1 : ∀ w ∈ wsX10, w ∈ lw_all := lw_in wsX10 [190, 192, 194, 196, 198, 200] (by decide +kernel) (by decide +kernel)

theorem q19 : (Jvm.Cond.initialized "CycleBasisModel") ∈ lw_all := lw_g (lw_at lw_m1 2 rfl) rfl
theorem q167 : (Jvm.Cond.instantiable "CycleBasisModel" (6 : Nat)) ∈ lw_all := lw_g (lw_at lw_m1 150 rfl) rfl
theorem q169 : (Jvm.Cond.instanceMethod ({ cls := "CycleBasisModel", name := "<init>", desc := "()V" } : Jvm.MethodName)) ∈ lw_all := lw_g (lw_at lw_m1 152 rfl) rfl
theorem q170 : (Jvm.Cond.code ({ cls := "CycleBasisModel", name := "<init>", desc := "()V" } : Jvm.MethodName) prog_3_method_1_code (1 : Nat) (Option.none : Option Jvm.ClassFile.FieldType)) ∈ lw_all := lw_g (lw_at lw_m1 153 rfl) rfl
theorem q171 : (Jvm.Cond.methodLink "CycleBasisModel" (1 : Nat) ({ cls := "java/lang/Object", name := "<init>", desc := "()V" } : Jvm.MethodName)) ∈ lw_all := lw_g (lw_at lw_m1 154 rfl) rfl
theorem q172 : (Jvm.Cond.methodLink "CycleBasisModel" (26 : Nat) ({ cls := "CycleBasisModel", name := "refresh", desc := "()V" } : Jvm.MethodName)) ∈ lw_all := lw_g (lw_at lw_m1 155 rfl) rfl
theorem q173 : (Jvm.Cond.privateMethod ({ cls := "CycleBasisModel", name := "refresh", desc := "()V" } : Jvm.MethodName)) ∈ lw_tbl := lw_at lw_m1 156 rfl
theorem q174 : (Jvm.Cond.instanceMethod ({ cls := "CycleBasisModel", name := "refresh", desc := "()V" } : Jvm.MethodName)) ∈ lw_all := lw_g (lw_at lw_m1 157 rfl) rfl
theorem q175 : (Jvm.Cond.code ({ cls := "CycleBasisModel", name := "refresh", desc := "()V" } : Jvm.MethodName) prog_3_method_9_code (4 : Nat) (Option.none : Option Jvm.ClassFile.FieldType)) ∈ lw_all := lw_g (lw_at lw_m1 158 rfl) rfl
theorem q176 : (Jvm.Cond.methodLink "CycleBasisModel" (44 : Nat) ({ cls := "CycleBasisModel", name := "even", desc := "(I)Z" } : Jvm.MethodName)) ∈ lw_all := lw_g (lw_at lw_m1 159 rfl) rfl
theorem q177 : (Jvm.Cond.privateMethod ({ cls := "CycleBasisModel", name := "even", desc := "(I)Z" } : Jvm.MethodName)) ∈ lw_tbl := lw_at lw_m1 160 rfl
theorem q178 : (Jvm.Cond.instanceMethod ({ cls := "CycleBasisModel", name := "even", desc := "(I)Z" } : Jvm.MethodName)) ∈ lw_all := lw_g (lw_at lw_m1 161 rfl) rfl
theorem q179 : (Jvm.Cond.code ({ cls := "CycleBasisModel", name := "even", desc := "(I)Z" } : Jvm.MethodName) prog_3_method_8_code (3 : Nat) (Option.some Jvm.ClassFile.FieldType.boolean)) ∈ lw_all := lw_g (lw_at lw_m1 162 rfl) rfl
theorem q180 : (Jvm.Cond.methodLink "CycleBasisModel" (40 : Nat) ({ cls := "CycleBasisModel", name := "degree", desc := "(II)I" } : Jvm.MethodName)) ∈ lw_all := lw_g (lw_at lw_m1 163 rfl) rfl
theorem q181 : (Jvm.Cond.privateMethod ({ cls := "CycleBasisModel", name := "degree", desc := "(II)I" } : Jvm.MethodName)) ∈ lw_tbl := lw_at lw_m1 164 rfl
theorem q182 : (Jvm.Cond.instanceMethod ({ cls := "CycleBasisModel", name := "degree", desc := "(II)I" } : Jvm.MethodName)) ∈ lw_all := lw_g (lw_at lw_m1 165 rfl) rfl
theorem q183 : (Jvm.Cond.code ({ cls := "CycleBasisModel", name := "degree", desc := "(II)I" } : Jvm.MethodName) prog_3_method_7_code (5 : Nat) (Option.some Jvm.ClassFile.FieldType.int)) ∈ lw_all := lw_g (lw_at lw_m1 166 rfl) rfl
theorem q184 : (Jvm.Cond.fieldLink "CycleBasisModel" (7 : Nat) "CycleBasisModel" "us" "[I") ∈ lw_all := lw_g (lw_at lw_m1 167 rfl) rfl
theorem q185 : (Jvm.Cond.fieldLink "CycleBasisModel" (13 : Nat) "CycleBasisModel" "vs" "[I") ∈ lw_all := lw_g (lw_at lw_m1 168 rfl) rfl
theorem q186 : (Jvm.Cond.fieldLink "CycleBasisModel" (16 : Nat) "CycleBasisModel" "weights" "[I") ∈ lw_all := lw_g (lw_at lw_m1 169 rfl) rfl
theorem q187 : (Jvm.Cond.fieldLink "CycleBasisModel" (29 : Nat) "CycleBasisModel" "count" "I") ∈ lw_all := lw_g (lw_at lw_m1 170 rfl) rfl
theorem q188 : (Jvm.Cond.fieldLink "CycleBasisModel" (19 : Nat) "CycleBasisModel" "sums" "[Z") ∈ lw_all := lw_g (lw_at lw_m1 171 rfl) rfl
theorem q189 : (Jvm.Cond.fieldLink "CycleBasisModel" (23 : Nat) "CycleBasisModel" "closedWeight" "[I") ∈ lw_all := lw_g (lw_at lw_m1 172 rfl) rfl
theorem q190 : (Jvm.Cond.laysFinal "CycleBasisModel" "CycleBasisModel" "us" "[I") ∈ lw_all := lw_g (lw_at lw_m1 173 rfl) rfl
theorem q191 : (Jvm.Cond.soleField "CycleBasisModel" "us") ∈ lw_all := lw_g (lw_at lw_m1 174 rfl) rfl
theorem q192 : (Jvm.Cond.laysFinal "CycleBasisModel" "CycleBasisModel" "vs" "[I") ∈ lw_all := lw_g (lw_at lw_m1 175 rfl) rfl
theorem q193 : (Jvm.Cond.soleField "CycleBasisModel" "vs") ∈ lw_all := lw_g (lw_at lw_m1 176 rfl) rfl
theorem q194 : (Jvm.Cond.laysFinal "CycleBasisModel" "CycleBasisModel" "weights" "[I") ∈ lw_all := lw_g (lw_at lw_m1 177 rfl) rfl
theorem q195 : (Jvm.Cond.soleField "CycleBasisModel" "weights") ∈ lw_all := lw_g (lw_at lw_m1 178 rfl) rfl
theorem q196 : (Jvm.Cond.lays "CycleBasisModel" "CycleBasisModel" "count" "I") ∈ lw_all := lw_g (lw_at lw_m1 179 rfl) rfl
theorem q197 : (Jvm.Cond.soleField "CycleBasisModel" "count") ∈ lw_all := lw_g (lw_at lw_m1 180 rfl) rfl
theorem q198 : (Jvm.Cond.laysFinal "CycleBasisModel" "CycleBasisModel" "sums" "[Z") ∈ lw_all := lw_g (lw_at lw_m1 181 rfl) rfl
theorem q199 : (Jvm.Cond.soleField "CycleBasisModel" "sums") ∈ lw_all := lw_g (lw_at lw_m1 182 rfl) rfl
theorem q200 : (Jvm.Cond.laysFinal "CycleBasisModel" "CycleBasisModel" "closedWeight" "[I") ∈ lw_all := lw_g (lw_at lw_m1 183 rfl) rfl
theorem q201 : (Jvm.Cond.soleField "CycleBasisModel" "closedWeight") ∈ lw_all := lw_g (lw_at lw_m1 184 rfl) rfl
theorem q202 : (Jvm.Cond.superclass "CycleBasisModel" "java/lang/Object") ∈ lw_all := lw_g (lw_at lw_m1 185 rfl) rfl
theorem q204 : (Jvm.Cond.instanceMethod ({ cls := "CycleBasisModel", name := "edge", desc := "(III)I" } : Jvm.MethodName)) ∈ lw_all := lw_g (lw_at lw_m1 187 rfl) rfl
theorem q205 : (Jvm.Cond.selects "CycleBasisModel" ({ cls := "CycleBasisModel", name := "edge", desc := "(III)I" } : Jvm.MethodName) ({ cls := "CycleBasisModel", name := "edge", desc := "(III)I" } : Jvm.MethodName)) ∈ lw_all := lw_g (lw_at lw_m1 188 rfl) rfl
theorem q206 : (Jvm.Cond.code ({ cls := "CycleBasisModel", name := "edge", desc := "(III)I" } : Jvm.MethodName) prog_3_method_4_code (4 : Nat) (Option.some Jvm.ClassFile.FieldType.int)) ∈ lw_all := lw_g (lw_at lw_m1 189 rfl) rfl
theorem q207 : (Jvm.Cond.methodLink "CycleBasisModel" (33 : Nat) ({ cls := "CycleBasisModel", name := "isVertex", desc := "(I)Z" } : Jvm.MethodName)) ∈ lw_all := lw_g (lw_at lw_m1 190 rfl) rfl
theorem q208 : (Jvm.Cond.privateMethod ({ cls := "CycleBasisModel", name := "isVertex", desc := "(I)Z" } : Jvm.MethodName)) ∈ lw_tbl := lw_at lw_m1 191 rfl
theorem q209 : (Jvm.Cond.instanceMethod ({ cls := "CycleBasisModel", name := "isVertex", desc := "(I)Z" } : Jvm.MethodName)) ∈ lw_all := lw_g (lw_at lw_m1 192 rfl) rfl
theorem q210 : (Jvm.Cond.code ({ cls := "CycleBasisModel", name := "isVertex", desc := "(I)Z" } : Jvm.MethodName) prog_3_method_2_code (2 : Nat) (Option.some Jvm.ClassFile.FieldType.boolean)) ∈ lw_all := lw_g (lw_at lw_m1 193 rfl) rfl
theorem q212 : (Jvm.Cond.instanceMethod ({ cls := "CycleBasisModel", name := "reweigh", desc := "(II)I" } : Jvm.MethodName)) ∈ lw_all := lw_g (lw_at lw_m1 195 rfl) rfl
theorem q213 : (Jvm.Cond.selects "CycleBasisModel" ({ cls := "CycleBasisModel", name := "reweigh", desc := "(II)I" } : Jvm.MethodName) ({ cls := "CycleBasisModel", name := "reweigh", desc := "(II)I" } : Jvm.MethodName)) ∈ lw_all := lw_g (lw_at lw_m1 196 rfl) rfl
theorem q214 : (Jvm.Cond.code ({ cls := "CycleBasisModel", name := "reweigh", desc := "(II)I" } : Jvm.MethodName) prog_3_method_5_code (4 : Nat) (Option.some Jvm.ClassFile.FieldType.int)) ∈ lw_all := lw_g (lw_at lw_m1 197 rfl) rfl
theorem q215 : (Jvm.Cond.methodLink "CycleBasisModel" (37 : Nat) ({ cls := "CycleBasisModel", name := "isEdge", desc := "(I)Z" } : Jvm.MethodName)) ∈ lw_all := lw_g (lw_at lw_m1 198 rfl) rfl
theorem q216 : (Jvm.Cond.privateMethod ({ cls := "CycleBasisModel", name := "isEdge", desc := "(I)Z" } : Jvm.MethodName)) ∈ lw_tbl := lw_at lw_m1 199 rfl
theorem q217 : (Jvm.Cond.instanceMethod ({ cls := "CycleBasisModel", name := "isEdge", desc := "(I)Z" } : Jvm.MethodName)) ∈ lw_all := lw_g (lw_at lw_m1 200 rfl) rfl
theorem q218 : (Jvm.Cond.code ({ cls := "CycleBasisModel", name := "isEdge", desc := "(I)Z" } : Jvm.MethodName) prog_3_method_3_code (2 : Nat) (Option.some Jvm.ClassFile.FieldType.boolean)) ∈ lw_all := lw_g (lw_at lw_m1 201 rfl) rfl
theorem q220 : (Jvm.Cond.instanceMethod ({ cls := "CycleBasisModel", name := "dropLast", desc := "()I" } : Jvm.MethodName)) ∈ lw_all := lw_g (lw_at lw_m1 203 rfl) rfl
theorem q221 : (Jvm.Cond.selects "CycleBasisModel" ({ cls := "CycleBasisModel", name := "dropLast", desc := "()I" } : Jvm.MethodName) ({ cls := "CycleBasisModel", name := "dropLast", desc := "()I" } : Jvm.MethodName)) ∈ lw_all := lw_g (lw_at lw_m1 204 rfl) rfl
theorem q222 : (Jvm.Cond.code ({ cls := "CycleBasisModel", name := "dropLast", desc := "()I" } : Jvm.MethodName) prog_3_method_6_code (1 : Nat) (Option.some Jvm.ClassFile.FieldType.int)) ∈ lw_all := lw_g (lw_at lw_m1 205 rfl) rfl
theorem q224 : (Jvm.Cond.instanceMethod ({ cls := "CycleBasisModel", name := "rank", desc := "()I" } : Jvm.MethodName)) ∈ lw_all := lw_g (lw_at lw_m1 207 rfl) rfl
theorem q225 : (Jvm.Cond.selects "CycleBasisModel" ({ cls := "CycleBasisModel", name := "rank", desc := "()I" } : Jvm.MethodName) ({ cls := "CycleBasisModel", name := "rank", desc := "()I" } : Jvm.MethodName)) ∈ lw_all := lw_g (lw_at lw_m1 208 rfl) rfl
theorem q226 : (Jvm.Cond.code ({ cls := "CycleBasisModel", name := "rank", desc := "()I" } : Jvm.MethodName) prog_3_method_13_code (3 : Nat) (Option.some Jvm.ClassFile.FieldType.int)) ∈ lw_all := lw_g (lw_at lw_m1 209 rfl) rfl
theorem q228 : (Jvm.Cond.instanceMethod ({ cls := "CycleBasisModel", name := "total", desc := "()I" } : Jvm.MethodName)) ∈ lw_all := lw_g (lw_at lw_m1 211 rfl) rfl
theorem q229 : (Jvm.Cond.selects "CycleBasisModel" ({ cls := "CycleBasisModel", name := "total", desc := "()I" } : Jvm.MethodName) ({ cls := "CycleBasisModel", name := "total", desc := "()I" } : Jvm.MethodName)) ∈ lw_all := lw_g (lw_at lw_m1 212 rfl) rfl
theorem q230 : (Jvm.Cond.code ({ cls := "CycleBasisModel", name := "total", desc := "()I" } : Jvm.MethodName) prog_3_method_14_code (4 : Nat) (Option.some Jvm.ClassFile.FieldType.int)) ∈ lw_all := lw_g (lw_at lw_m1 213 rfl) rfl
theorem q231 : (Jvm.Cond.methodLink "CycleBasisModel" (47 : Nat) ({ cls := "CycleBasisModel", name := "forget", desc := "()V" } : Jvm.MethodName)) ∈ lw_all := lw_g (lw_at lw_m1 214 rfl) rfl
theorem q232 : (Jvm.Cond.privateMethod ({ cls := "CycleBasisModel", name := "forget", desc := "()V" } : Jvm.MethodName)) ∈ lw_tbl := lw_at lw_m1 215 rfl
theorem q233 : (Jvm.Cond.instanceMethod ({ cls := "CycleBasisModel", name := "forget", desc := "()V" } : Jvm.MethodName)) ∈ lw_all := lw_g (lw_at lw_m1 216 rfl) rfl
theorem q234 : (Jvm.Cond.code ({ cls := "CycleBasisModel", name := "forget", desc := "()V" } : Jvm.MethodName) prog_3_method_10_code (2 : Nat) (Option.none : Option Jvm.ClassFile.FieldType)) ∈ lw_all := lw_g (lw_at lw_m1 217 rfl) rfl
theorem q235 : (Jvm.Cond.methodLink "CycleBasisModel" (50 : Nat) ({ cls := "CycleBasisModel", name := "lightest", desc := "()I" } : Jvm.MethodName)) ∈ lw_all := lw_g (lw_at lw_m1 218 rfl) rfl
theorem q236 : (Jvm.Cond.privateMethod ({ cls := "CycleBasisModel", name := "lightest", desc := "()I" } : Jvm.MethodName)) ∈ lw_tbl := lw_at lw_m1 219 rfl
theorem q237 : (Jvm.Cond.instanceMethod ({ cls := "CycleBasisModel", name := "lightest", desc := "()I" } : Jvm.MethodName)) ∈ lw_all := lw_g (lw_at lw_m1 220 rfl) rfl
theorem q238 : (Jvm.Cond.code ({ cls := "CycleBasisModel", name := "lightest", desc := "()I" } : Jvm.MethodName) prog_3_method_11_code (4 : Nat) (Option.some Jvm.ClassFile.FieldType.int)) ∈ lw_all := lw_g (lw_at lw_m1 221 rfl) rfl
theorem q239 : (Jvm.Cond.methodLink "CycleBasisModel" (54 : Nat) ({ cls := "CycleBasisModel", name := "take", desc := "(I)V" } : Jvm.MethodName)) ∈ lw_all := lw_g (lw_at lw_m1 222 rfl) rfl
theorem q240 : (Jvm.Cond.privateMethod ({ cls := "CycleBasisModel", name := "take", desc := "(I)V" } : Jvm.MethodName)) ∈ lw_tbl := lw_at lw_m1 223 rfl
theorem q241 : (Jvm.Cond.instanceMethod ({ cls := "CycleBasisModel", name := "take", desc := "(I)V" } : Jvm.MethodName)) ∈ lw_all := lw_g (lw_at lw_m1 224 rfl) rfl
theorem q242 : (Jvm.Cond.code ({ cls := "CycleBasisModel", name := "take", desc := "(I)V" } : Jvm.MethodName) prog_3_method_12_code (3 : Nat) (Option.none : Option Jvm.ClassFile.FieldType)) ∈ lw_all := lw_g (lw_at lw_m1 225 rfl) rfl
theorem q244 : (Jvm.Cond.instanceMethod ({ cls := "CycleBasisModel", name := "part", desc := "(I)I" } : Jvm.MethodName)) ∈ lw_all := lw_g (lw_at lw_m1 227 rfl) rfl
theorem q245 : (Jvm.Cond.selects "CycleBasisModel" ({ cls := "CycleBasisModel", name := "part", desc := "(I)I" } : Jvm.MethodName) ({ cls := "CycleBasisModel", name := "part", desc := "(I)I" } : Jvm.MethodName)) ∈ lw_all := lw_g (lw_at lw_m1 228 rfl) rfl
theorem q246 : (Jvm.Cond.code ({ cls := "CycleBasisModel", name := "part", desc := "(I)I" } : Jvm.MethodName) prog_3_method_15_code (4 : Nat) (Option.some Jvm.ClassFile.FieldType.int)) ∈ lw_all := lw_g (lw_at lw_m1 229 rfl) rfl
theorem q248 : (Jvm.Cond.instanceMethod ({ cls := "CycleBasisModel", name := "through", desc := "(I)I" } : Jvm.MethodName)) ∈ lw_all := lw_g (lw_at lw_m1 231 rfl) rfl
theorem q249 : (Jvm.Cond.selects "CycleBasisModel" ({ cls := "CycleBasisModel", name := "through", desc := "(I)I" } : Jvm.MethodName) ({ cls := "CycleBasisModel", name := "through", desc := "(I)I" } : Jvm.MethodName)) ∈ lw_all := lw_g (lw_at lw_m1 232 rfl) rfl
theorem q250 : (Jvm.Cond.code ({ cls := "CycleBasisModel", name := "through", desc := "(I)I" } : Jvm.MethodName) prog_3_method_16_code (5 : Nat) (Option.some Jvm.ClassFile.FieldType.int)) ∈ lw_all := lw_g (lw_at lw_m1 233 rfl) rfl
theorem q252 : (Jvm.Cond.instanceMethod ({ cls := "CycleBasisModel", name := "closed", desc := "(I)Z" } : Jvm.MethodName)) ∈ lw_all := lw_g (lw_at lw_m1 235 rfl) rfl
theorem q253 : (Jvm.Cond.selects "CycleBasisModel" ({ cls := "CycleBasisModel", name := "closed", desc := "(I)Z" } : Jvm.MethodName) ({ cls := "CycleBasisModel", name := "closed", desc := "(I)Z" } : Jvm.MethodName)) ∈ lw_all := lw_g (lw_at lw_m1 236 rfl) rfl
theorem q254 : (Jvm.Cond.code ({ cls := "CycleBasisModel", name := "closed", desc := "(I)Z" } : Jvm.MethodName) prog_3_method_17_code (2 : Nat) (Option.some Jvm.ClassFile.FieldType.boolean)) ∈ lw_all := lw_g (lw_at lw_m1 237 rfl) rfl
theorem q256 : (Jvm.Cond.instanceMethod ({ cls := "CycleBasisModel", name := "level", desc := "(I)I" } : Jvm.MethodName)) ∈ lw_all := lw_g (lw_at lw_m1 239 rfl) rfl
theorem q257 : (Jvm.Cond.selects "CycleBasisModel" ({ cls := "CycleBasisModel", name := "level", desc := "(I)I" } : Jvm.MethodName) ({ cls := "CycleBasisModel", name := "level", desc := "(I)I" } : Jvm.MethodName)) ∈ lw_all := lw_g (lw_at lw_m2 0 rfl) rfl
theorem q258 : (Jvm.Cond.code ({ cls := "CycleBasisModel", name := "level", desc := "(I)I" } : Jvm.MethodName) prog_3_method_18_code (5 : Nat) (Option.some Jvm.ClassFile.FieldType.int)) ∈ lw_all := lw_g (lw_at lw_m2 1 rfl) rfl
theorem q259 : (Jvm.Cond.methodLink "CycleBasisModel" (58 : Nat) ({ cls := "CycleBasisModel", name := "closed", desc := "(I)Z" } : Jvm.MethodName)) ∈ lw_all := lw_g (lw_at lw_m2 2 rfl) rfl
theorem q261 : (Jvm.Cond.instanceMethod ({ cls := "CycleBasisModel", name := "bridges", desc := "()I" } : Jvm.MethodName)) ∈ lw_all := lw_g (lw_at lw_m2 4 rfl) rfl
theorem q262 : (Jvm.Cond.selects "CycleBasisModel" ({ cls := "CycleBasisModel", name := "bridges", desc := "()I" } : Jvm.MethodName) ({ cls := "CycleBasisModel", name := "bridges", desc := "()I" } : Jvm.MethodName)) ∈ lw_all := lw_g (lw_at lw_m2 5 rfl) rfl
theorem q263 : (Jvm.Cond.code ({ cls := "CycleBasisModel", name := "bridges", desc := "()I" } : Jvm.MethodName) prog_3_method_19_code (3 : Nat) (Option.some Jvm.ClassFile.FieldType.int)) ∈ lw_all := lw_g (lw_at lw_m2 6 rfl) rfl
theorem q264 : (Jvm.Cond.methodLink "CycleBasisModel" (61 : Nat) ({ cls := "CycleBasisModel", name := "through", desc := "(I)I" } : Jvm.MethodName)) ∈ lw_all := lw_g (lw_at lw_m2 7 rfl) rfl
end
section
set_option maxRecDepth 100000
theorem dX1_init_0 : decode cX1_init 0 = .ok (.aload_n 0, 1) := by decide +kernel
theorem dX1_init_1 : decode cX1_init 1 = .ok (.invokespecial 1, 3) := by decide +kernel
theorem dX1_init_4 : decode cX1_init 4 = .ok (.aload_n 0, 1) := by decide +kernel
theorem dX1_init_5 : decode cX1_init 5 = .ok (.bipush 12, 2) := by decide +kernel
theorem dX1_init_7 : decode cX1_init 7 = .ok (.newarray .int, 2) := by decide +kernel
theorem dX1_init_9 : decode cX1_init 9 = .ok (.putfield 7, 3) := by decide +kernel
theorem dX1_init_12 : decode cX1_init 12 = .ok (.aload_n 0, 1) := by decide +kernel
theorem dX1_init_13 : decode cX1_init 13 = .ok (.bipush 12, 2) := by decide +kernel
theorem dX1_init_15 : decode cX1_init 15 = .ok (.newarray .int, 2) := by decide +kernel
theorem dX1_init_17 : decode cX1_init 17 = .ok (.putfield 13, 3) := by decide +kernel
theorem dX1_init_20 : decode cX1_init 20 = .ok (.aload_n 0, 1) := by decide +kernel
theorem dX1_init_21 : decode cX1_init 21 = .ok (.bipush 12, 2) := by decide +kernel
theorem dX1_init_23 : decode cX1_init 23 = .ok (.newarray .int, 2) := by decide +kernel
theorem dX1_init_25 : decode cX1_init 25 = .ok (.putfield 16, 3) := by decide +kernel
theorem dX1_init_28 : decode cX1_init 28 = .ok (.aload_n 0, 1) := by decide +kernel
theorem dX1_init_29 : decode cX1_init 29 = .ok (.sipush 4096, 3) := by decide +kernel
theorem dX1_init_32 : decode cX1_init 32 = .ok (.newarray .boolean, 2) := by decide +kernel
theorem dX1_init_34 : decode cX1_init 34 = .ok (.putfield 19, 3) := by decide +kernel
theorem dX1_init_37 : decode cX1_init 37 = .ok (.aload_n 0, 1) := by decide +kernel
theorem dX1_init_38 : decode cX1_init 38 = .ok (.sipush 4096, 3) := by decide +kernel
theorem dX1_init_41 : decode cX1_init 41 = .ok (.newarray .int, 2) := by decide +kernel
theorem dX1_init_43 : decode cX1_init 43 = .ok (.putfield 23, 3) := by decide +kernel
theorem dX1_init_46 : decode cX1_init 46 = .ok (.aload_n 0, 1) := by decide +kernel
theorem dX1_init_47 : decode cX1_init 47 = .ok (.invokevirtual 26, 3) := by decide +kernel
theorem dX1_init_50 : decode cX1_init 50 = .ok (.return_, 1) := by decide +kernel
theorem dX1_refresh_0 : decode cX1_refresh 0 = .ok (.iconst 0, 1) := by decide +kernel
theorem dX1_refresh_1 : decode cX1_refresh 1 = .ok (.istore_n 1, 1) := by decide +kernel
theorem dX1_refresh_2 : decode cX1_refresh 2 = .ok (.iload_n 1, 1) := by decide +kernel
theorem dX1_refresh_3 : decode cX1_refresh 3 = .ok (.sipush 4096, 3) := by decide +kernel
theorem dX1_refresh_6 : decode cX1_refresh 6 = .ok (.if_icmp .ge 73, 3) := by decide +kernel
theorem dX1_refresh_9 : decode cX1_refresh 9 = .ok (.iconst 0, 1) := by decide +kernel
theorem dX1_refresh_10 : decode cX1_refresh 10 = .ok (.istore_n 2, 1) := by decide +kernel
theorem dX1_refresh_11 : decode cX1_refresh 11 = .ok (.iconst 0, 1) := by decide +kernel
theorem dX1_refresh_12 : decode cX1_refresh 12 = .ok (.istore_n 3, 1) := by decide +kernel
theorem dX1_refresh_13 : decode cX1_refresh 13 = .ok (.iload_n 3, 1) := by decide +kernel
theorem dX1_refresh_14 : decode cX1_refresh 14 = .ok (.aload_n 0, 1) := by decide +kernel
theorem dX1_refresh_15 : decode cX1_refresh 15 = .ok (.getfield 29, 3) := by decide +kernel
theorem dX1_refresh_18 : decode cX1_refresh 18 = .ok (.if_icmp .ge 26, 3) := by decide +kernel
theorem dX1_refresh_21 : decode cX1_refresh 21 = .ok (.iload_n 1, 1) := by decide +kernel
theorem dX1_refresh_22 : decode cX1_refresh 22 = .ok (.iload_n 3, 1) := by decide +kernel
theorem dX1_refresh_23 : decode cX1_refresh 23 = .ok (.ishr, 1) := by decide +kernel
theorem dX1_refresh_24 : decode cX1_refresh 24 = .ok (.iconst 1, 1) := by decide +kernel
theorem dX1_refresh_25 : decode cX1_refresh 25 = .ok (.iand, 1) := by decide +kernel
theorem dX1_refresh_26 : decode cX1_refresh 26 = .ok (.ifCond .eq 12, 3) := by decide +kernel
theorem dX1_refresh_29 : decode cX1_refresh 29 = .ok (.iload_n 2, 1) := by decide +kernel
theorem dX1_refresh_30 : decode cX1_refresh 30 = .ok (.aload_n 0, 1) := by decide +kernel
theorem dX1_refresh_31 : decode cX1_refresh 31 = .ok (.getfield 16, 3) := by decide +kernel
theorem dX1_refresh_34 : decode cX1_refresh 34 = .ok (.iload_n 3, 1) := by decide +kernel
theorem dX1_refresh_35 : decode cX1_refresh 35 = .ok (.iaload, 1) := by decide +kernel
theorem dX1_refresh_36 : decode cX1_refresh 36 = .ok (.iadd, 1) := by decide +kernel
theorem dX1_refresh_37 : decode cX1_refresh 37 = .ok (.istore_n 2, 1) := by decide +kernel
theorem dX1_refresh_38 : decode cX1_refresh 38 = .ok (.iinc 3 1, 3) := by decide +kernel
theorem dX1_refresh_41 : decode cX1_refresh 41 = .ok (.goto (-28), 3) := by decide +kernel
theorem dX1_refresh_44 : decode cX1_refresh 44 = .ok (.aload_n 0, 1) := by decide +kernel
theorem dX1_refresh_45 : decode cX1_refresh 45 = .ok (.getfield 23, 3) := by decide +kernel
theorem dX1_refresh_48 : decode cX1_refresh 48 = .ok (.iload_n 1, 1) := by decide +kernel
theorem dX1_refresh_49 : decode cX1_refresh 49 = .ok (.iload_n 1, 1) := by decide +kernel
theorem dX1_refresh_50 : decode cX1_refresh 50 = .ok (.iconst 1, 1) := by decide +kernel
theorem dX1_refresh_51 : decode cX1_refresh 51 = .ok (.aload_n 0, 1) := by decide +kernel
theorem dX1_refresh_52 : decode cX1_refresh 52 = .ok (.getfield 29, 3) := by decide +kernel
theorem dX1_refresh_55 : decode cX1_refresh 55 = .ok (.ishl, 1) := by decide +kernel
theorem dX1_refresh_56 : decode cX1_refresh 56 = .ok (.if_icmp .ge 15, 3) := by decide +kernel
theorem dX1_refresh_59 : decode cX1_refresh 59 = .ok (.aload_n 0, 1) := by decide +kernel
theorem dX1_refresh_60 : decode cX1_refresh 60 = .ok (.iload_n 1, 1) := by decide +kernel
theorem dX1_refresh_61 : decode cX1_refresh 61 = .ok (.invokevirtual 44, 3) := by decide +kernel
theorem dX1_refresh_64 : decode cX1_refresh 64 = .ok (.ifCond .eq 7, 3) := by decide +kernel
theorem dX1_refresh_67 : decode cX1_refresh 67 = .ok (.iload_n 2, 1) := by decide +kernel
theorem dX1_refresh_68 : decode cX1_refresh 68 = .ok (.goto 4, 3) := by decide +kernel
theorem dX1_refresh_71 : decode cX1_refresh 71 = .ok (.iconst (-1), 1) := by decide +kernel
theorem dX1_refresh_72 : decode cX1_refresh 72 = .ok (.iastore, 1) := by decide +kernel
theorem dX1_refresh_73 : decode cX1_refresh 73 = .ok (.iinc 1 1, 3) := by decide +kernel
theorem dX1_refresh_76 : decode cX1_refresh 76 = .ok (.goto (-74), 3) := by decide +kernel
theorem dX1_refresh_79 : decode cX1_refresh 79 = .ok (.return_, 1) := by decide +kernel
theorem dX1_even_0 : decode cX1_even 0 = .ok (.iconst 0, 1) := by decide +kernel
theorem dX1_even_1 : decode cX1_even 1 = .ok (.istore_n 2, 1) := by decide +kernel
theorem dX1_even_2 : decode cX1_even 2 = .ok (.iload_n 2, 1) := by decide +kernel
theorem dX1_even_3 : decode cX1_even 3 = .ok (.bipush 7, 2) := by decide +kernel
theorem dX1_even_5 : decode cX1_even 5 = .ok (.if_icmp .ge 22, 3) := by decide +kernel
theorem dX1_even_8 : decode cX1_even 8 = .ok (.aload_n 0, 1) := by decide +kernel
theorem dX1_even_9 : decode cX1_even 9 = .ok (.iload_n 1, 1) := by decide +kernel
theorem dX1_even_10 : decode cX1_even 10 = .ok (.iload_n 2, 1) := by decide +kernel
theorem dX1_even_11 : decode cX1_even 11 = .ok (.invokevirtual 40, 3) := by decide +kernel
theorem dX1_even_14 : decode cX1_even 14 = .ok (.iconst 2, 1) := by decide +kernel
theorem dX1_even_15 : decode cX1_even 15 = .ok (.irem, 1) := by decide +kernel
theorem dX1_even_16 : decode cX1_even 16 = .ok (.ifCond .eq 5, 3) := by decide +kernel
theorem dX1_even_19 : decode cX1_even 19 = .ok (.iconst 0, 1) := by decide +kernel
theorem dX1_even_20 : decode cX1_even 20 = .ok (.ireturn, 1) := by decide +kernel
theorem dX1_even_21 : decode cX1_even 21 = .ok (.iinc 2 1, 3) := by decide +kernel
theorem dX1_even_24 : decode cX1_even 24 = .ok (.goto (-22), 3) := by decide +kernel
theorem dX1_even_27 : decode cX1_even 27 = .ok (.iconst 1, 1) := by decide +kernel
theorem dX1_even_28 : decode cX1_even 28 = .ok (.ireturn, 1) := by decide +kernel
theorem dX1_degree_0 : decode cX1_degree 0 = .ok (.iconst 0, 1) := by decide +kernel
theorem dX1_degree_1 : decode cX1_degree 1 = .ok (.istore_n 3, 1) := by decide +kernel
theorem dX1_degree_2 : decode cX1_degree 2 = .ok (.iconst 0, 1) := by decide +kernel
theorem dX1_degree_3 : decode cX1_degree 3 = .ok (.istore 4, 2) := by decide +kernel
theorem dX1_degree_5 : decode cX1_degree 5 = .ok (.iload 4, 2) := by decide +kernel
theorem dX1_degree_7 : decode cX1_degree 7 = .ok (.aload_n 0, 1) := by decide +kernel
theorem dX1_degree_8 : decode cX1_degree 8 = .ok (.getfield 29, 3) := by decide +kernel
theorem dX1_degree_11 : decode cX1_degree 11 = .ok (.if_icmp .ge 43, 3) := by decide +kernel
theorem dX1_degree_14 : decode cX1_degree 14 = .ok (.iload_n 1, 1) := by decide +kernel
theorem dX1_degree_15 : decode cX1_degree 15 = .ok (.iload 4, 2) := by decide +kernel
theorem dX1_degree_17 : decode cX1_degree 17 = .ok (.ishr, 1) := by decide +kernel
theorem dX1_degree_18 : decode cX1_degree 18 = .ok (.iconst 1, 1) := by decide +kernel
theorem dX1_degree_19 : decode cX1_degree 19 = .ok (.iand, 1) := by decide +kernel
theorem dX1_degree_20 : decode cX1_degree 20 = .ok (.ifCond .eq 28, 3) := by decide +kernel
theorem dX1_degree_23 : decode cX1_degree 23 = .ok (.aload_n 0, 1) := by decide +kernel
theorem dX1_degree_24 : decode cX1_degree 24 = .ok (.getfield 7, 3) := by decide +kernel
theorem dX1_degree_27 : decode cX1_degree 27 = .ok (.iload 4, 2) := by decide +kernel
theorem dX1_degree_29 : decode cX1_degree 29 = .ok (.iaload, 1) := by decide +kernel
theorem dX1_degree_30 : decode cX1_degree 30 = .ok (.iload_n 2, 1) := by decide +kernel
theorem dX1_degree_31 : decode cX1_degree 31 = .ok (.if_icmp .eq 14, 3) := by decide +kernel
theorem dX1_degree_34 : decode cX1_degree 34 = .ok (.aload_n 0, 1) := by decide +kernel
theorem dX1_degree_35 : decode cX1_degree 35 = .ok (.getfield 13, 3) := by decide +kernel
theorem dX1_degree_38 : decode cX1_degree 38 = .ok (.iload 4, 2) := by decide +kernel
theorem dX1_degree_40 : decode cX1_degree 40 = .ok (.iaload, 1) := by decide +kernel
theorem dX1_degree_41 : decode cX1_degree 41 = .ok (.iload_n 2, 1) := by decide +kernel
theorem dX1_degree_42 : decode cX1_degree 42 = .ok (.if_icmp .ne 6, 3) := by decide +kernel
theorem dX1_degree_45 : decode cX1_degree 45 = .ok (.iinc 3 1, 3) := by decide +kernel
theorem dX1_degree_48 : decode cX1_degree 48 = .ok (.iinc 4 1, 3) := by decide +kernel
theorem dX1_degree_51 : decode cX1_degree 51 = .ok (.goto (-46), 3) := by decide +kernel
theorem dX1_degree_54 : decode cX1_degree 54 = .ok (.iload_n 3, 1) := by decide +kernel
theorem dX1_degree_55 : decode cX1_degree 55 = .ok (.ireturn, 1) := by decide +kernel
theorem dX1_edge_0 : decode cX1_edge 0 = .ok (.aload_n 0, 1) := by decide +kernel
theorem dX1_edge_1 : decode cX1_edge 1 = .ok (.iload_n 1, 1) := by decide +kernel
theorem dX1_edge_2 : decode cX1_edge 2 = .ok (.invokevirtual 33, 3) := by decide +kernel
theorem dX1_edge_5 : decode cX1_edge 5 = .ok (.ifCond .eq 16, 3) := by decide +kernel
theorem dX1_edge_8 : decode cX1_edge 8 = .ok (.aload_n 0, 1) := by decide +kernel
theorem dX1_edge_9 : decode cX1_edge 9 = .ok (.iload_n 2, 1) := by decide +kernel
theorem dX1_edge_10 : decode cX1_edge 10 = .ok (.invokevirtual 33, 3) := by decide +kernel
theorem dX1_edge_13 : decode cX1_edge 13 = .ok (.ifCond .eq 8, 3) := by decide +kernel
theorem dX1_edge_16 : decode cX1_edge 16 = .ok (.iload_n 1, 1) := by decide +kernel
theorem dX1_edge_17 : decode cX1_edge 17 = .ok (.iload_n 2, 1) := by decide +kernel
theorem dX1_edge_18 : decode cX1_edge 18 = .ok (.if_icmp .ne 5, 3) := by decide +kernel
theorem dX1_edge_21 : decode cX1_edge 21 = .ok (.iconst (-1), 1) := by decide +kernel
theorem dX1_edge_22 : decode cX1_edge 22 = .ok (.ireturn, 1) := by decide +kernel
theorem dX1_edge_23 : decode cX1_edge 23 = .ok (.iload_n 3, 1) := by decide +kernel
theorem dX1_edge_24 : decode cX1_edge 24 = .ok (.iconst 1, 1) := by decide +kernel
theorem dX1_edge_25 : decode cX1_edge 25 = .ok (.if_icmp .lt 9, 3) := by decide +kernel
theorem dX1_edge_28 : decode cX1_edge 28 = .ok (.iload_n 3, 1) := by decide +kernel
theorem dX1_edge_29 : decode cX1_edge 29 = .ok (.bipush 100, 2) := by decide +kernel
theorem dX1_edge_31 : decode cX1_edge 31 = .ok (.if_icmp .le 6, 3) := by decide +kernel
theorem dX1_edge_34 : decode cX1_edge 34 = .ok (.bipush (-2), 2) := by decide +kernel
theorem dX1_edge_36 : decode cX1_edge 36 = .ok (.ireturn, 1) := by decide +kernel
theorem dX1_edge_37 : decode cX1_edge 37 = .ok (.aload_n 0, 1) := by decide +kernel
theorem dX1_edge_38 : decode cX1_edge 38 = .ok (.getfield 29, 3) := by decide +kernel
theorem dX1_edge_41 : decode cX1_edge 41 = .ok (.bipush 12, 2) := by decide +kernel
theorem dX1_edge_43 : decode cX1_edge 43 = .ok (.if_icmp .ne 6, 3) := by decide +kernel
theorem dX1_edge_46 : decode cX1_edge 46 = .ok (.bipush (-3), 2) := by decide +kernel
theorem dX1_edge_48 : decode cX1_edge 48 = .ok (.ireturn, 1) := by decide +kernel
theorem dX1_edge_49 : decode cX1_edge 49 = .ok (.aload_n 0, 1) := by decide +kernel
theorem dX1_edge_50 : decode cX1_edge 50 = .ok (.getfield 7, 3) := by decide +kernel
theorem dX1_edge_53 : decode cX1_edge 53 = .ok (.aload_n 0, 1) := by decide +kernel
theorem dX1_edge_54 : decode cX1_edge 54 = .ok (.getfield 29, 3) := by decide +kernel
theorem dX1_edge_57 : decode cX1_edge 57 = .ok (.iload_n 1, 1) := by decide +kernel
theorem dX1_edge_58 : decode cX1_edge 58 = .ok (.iastore, 1) := by decide +kernel
theorem dX1_edge_59 : decode cX1_edge 59 = .ok (.aload_n 0, 1) := by decide +kernel
theorem dX1_edge_60 : decode cX1_edge 60 = .ok (.getfield 13, 3) := by decide +kernel
theorem dX1_edge_63 : decode cX1_edge 63 = .ok (.aload_n 0, 1) := by decide +kernel
theorem dX1_edge_64 : decode cX1_edge 64 = .ok (.getfield 29, 3) := by decide +kernel
theorem dX1_edge_67 : decode cX1_edge 67 = .ok (.iload_n 2, 1) := by decide +kernel
theorem dX1_edge_68 : decode cX1_edge 68 = .ok (.iastore, 1) := by decide +kernel
theorem dX1_edge_69 : decode cX1_edge 69 = .ok (.aload_n 0, 1) := by decide +kernel
theorem dX1_edge_70 : decode cX1_edge 70 = .ok (.getfield 16, 3) := by decide +kernel
theorem dX1_edge_73 : decode cX1_edge 73 = .ok (.aload_n 0, 1) := by decide +kernel
theorem dX1_edge_74 : decode cX1_edge 74 = .ok (.getfield 29, 3) := by decide +kernel
theorem dX1_edge_77 : decode cX1_edge 77 = .ok (.iload_n 3, 1) := by decide +kernel
theorem dX1_edge_78 : decode cX1_edge 78 = .ok (.iastore, 1) := by decide +kernel
theorem dX1_edge_79 : decode cX1_edge 79 = .ok (.aload_n 0, 1) := by decide +kernel
theorem dX1_edge_80 : decode cX1_edge 80 = .ok (.dup, 1) := by decide +kernel
theorem dX1_edge_81 : decode cX1_edge 81 = .ok (.getfield 29, 3) := by decide +kernel
theorem dX1_edge_84 : decode cX1_edge 84 = .ok (.iconst 1, 1) := by decide +kernel
theorem dX1_edge_85 : decode cX1_edge 85 = .ok (.iadd, 1) := by decide +kernel
theorem dX1_edge_86 : decode cX1_edge 86 = .ok (.putfield 29, 3) := by decide +kernel
theorem dX1_edge_89 : decode cX1_edge 89 = .ok (.aload_n 0, 1) := by decide +kernel
theorem dX1_edge_90 : decode cX1_edge 90 = .ok (.invokevirtual 26, 3) := by decide +kernel
theorem dX1_edge_93 : decode cX1_edge 93 = .ok (.aload_n 0, 1) := by decide +kernel
theorem dX1_edge_94 : decode cX1_edge 94 = .ok (.getfield 29, 3) := by decide +kernel
theorem dX1_edge_97 : decode cX1_edge 97 = .ok (.iconst 1, 1) := by decide +kernel
theorem dX1_edge_98 : decode cX1_edge 98 = .ok (.isub, 1) := by decide +kernel
theorem dX1_edge_99 : decode cX1_edge 99 = .ok (.ireturn, 1) := by decide +kernel
theorem dX1_isVertex_0 : decode cX1_isVertex 0 = .ok (.iload_n 1, 1) := by decide +kernel
theorem dX1_isVertex_1 : decode cX1_isVertex 1 = .ok (.ifCond .lt 13, 3) := by decide +kernel
theorem dX1_isVertex_4 : decode cX1_isVertex 4 = .ok (.iload_n 1, 1) := by decide +kernel
theorem dX1_isVertex_5 : decode cX1_isVertex 5 = .ok (.bipush 6, 2) := by decide +kernel
theorem dX1_isVertex_7 : decode cX1_isVertex 7 = .ok (.if_icmp .gt 7, 3) := by decide +kernel
theorem dX1_isVertex_10 : decode cX1_isVertex 10 = .ok (.iconst 1, 1) := by decide +kernel
theorem dX1_isVertex_11 : decode cX1_isVertex 11 = .ok (.goto 4, 3) := by decide +kernel
theorem dX1_isVertex_14 : decode cX1_isVertex 14 = .ok (.iconst 0, 1) := by decide +kernel
theorem dX1_isVertex_15 : decode cX1_isVertex 15 = .ok (.ireturn, 1) := by decide +kernel
theorem dX1_reweigh_0 : decode cX1_reweigh 0 = .ok (.aload_n 0, 1) := by decide +kernel
theorem dX1_reweigh_1 : decode cX1_reweigh 1 = .ok (.iload_n 1, 1) := by decide +kernel
theorem dX1_reweigh_2 : decode cX1_reweigh 2 = .ok (.invokevirtual 37, 3) := by decide +kernel
theorem dX1_reweigh_5 : decode cX1_reweigh 5 = .ok (.ifCond .ne 6, 3) := by decide +kernel
theorem dX1_reweigh_8 : decode cX1_reweigh 8 = .ok (.bipush (-4), 2) := by decide +kernel
theorem dX1_reweigh_10 : decode cX1_reweigh 10 = .ok (.ireturn, 1) := by decide +kernel
theorem dX1_reweigh_11 : decode cX1_reweigh 11 = .ok (.iload_n 2, 1) := by decide +kernel
theorem dX1_reweigh_12 : decode cX1_reweigh 12 = .ok (.iconst 1, 1) := by decide +kernel
theorem dX1_reweigh_13 : decode cX1_reweigh 13 = .ok (.if_icmp .lt 9, 3) := by decide +kernel
theorem dX1_reweigh_16 : decode cX1_reweigh 16 = .ok (.iload_n 2, 1) := by decide +kernel
theorem dX1_reweigh_17 : decode cX1_reweigh 17 = .ok (.bipush 100, 2) := by decide +kernel
theorem dX1_reweigh_19 : decode cX1_reweigh 19 = .ok (.if_icmp .le 6, 3) := by decide +kernel
theorem dX1_reweigh_22 : decode cX1_reweigh 22 = .ok (.bipush (-2), 2) := by decide +kernel
theorem dX1_reweigh_24 : decode cX1_reweigh 24 = .ok (.ireturn, 1) := by decide +kernel
theorem dX1_reweigh_25 : decode cX1_reweigh 25 = .ok (.aload_n 0, 1) := by decide +kernel
theorem dX1_reweigh_26 : decode cX1_reweigh 26 = .ok (.getfield 16, 3) := by decide +kernel
theorem dX1_reweigh_29 : decode cX1_reweigh 29 = .ok (.iload_n 1, 1) := by decide +kernel
theorem dX1_reweigh_30 : decode cX1_reweigh 30 = .ok (.iaload, 1) := by decide +kernel
theorem dX1_reweigh_31 : decode cX1_reweigh 31 = .ok (.istore_n 3, 1) := by decide +kernel
theorem dX1_reweigh_32 : decode cX1_reweigh 32 = .ok (.aload_n 0, 1) := by decide +kernel
theorem dX1_reweigh_33 : decode cX1_reweigh 33 = .ok (.getfield 16, 3) := by decide +kernel
theorem dX1_reweigh_36 : decode cX1_reweigh 36 = .ok (.iload_n 1, 1) := by decide +kernel
theorem dX1_reweigh_37 : decode cX1_reweigh 37 = .ok (.iload_n 2, 1) := by decide +kernel
theorem dX1_reweigh_38 : decode cX1_reweigh 38 = .ok (.iastore, 1) := by decide +kernel
theorem dX1_reweigh_39 : decode cX1_reweigh 39 = .ok (.aload_n 0, 1) := by decide +kernel
theorem dX1_reweigh_40 : decode cX1_reweigh 40 = .ok (.invokevirtual 26, 3) := by decide +kernel
theorem dX1_reweigh_43 : decode cX1_reweigh 43 = .ok (.iload_n 3, 1) := by decide +kernel
theorem dX1_reweigh_44 : decode cX1_reweigh 44 = .ok (.ireturn, 1) := by decide +kernel
theorem dX1_isEdge_0 : decode cX1_isEdge 0 = .ok (.iload_n 1, 1) := by decide +kernel
theorem dX1_isEdge_1 : decode cX1_isEdge 1 = .ok (.ifCond .lt 15, 3) := by decide +kernel
theorem dX1_isEdge_4 : decode cX1_isEdge 4 = .ok (.iload_n 1, 1) := by decide +kernel
theorem dX1_isEdge_5 : decode cX1_isEdge 5 = .ok (.aload_n 0, 1) := by decide +kernel
theorem dX1_isEdge_6 : decode cX1_isEdge 6 = .ok (.getfield 29, 3) := by decide +kernel
theorem dX1_isEdge_9 : decode cX1_isEdge 9 = .ok (.if_icmp .ge 7, 3) := by decide +kernel
theorem dX1_isEdge_12 : decode cX1_isEdge 12 = .ok (.iconst 1, 1) := by decide +kernel
theorem dX1_isEdge_13 : decode cX1_isEdge 13 = .ok (.goto 4, 3) := by decide +kernel
theorem dX1_isEdge_16 : decode cX1_isEdge 16 = .ok (.iconst 0, 1) := by decide +kernel
theorem dX1_isEdge_17 : decode cX1_isEdge 17 = .ok (.ireturn, 1) := by decide +kernel
theorem dX1_dropLast_0 : decode cX1_dropLast 0 = .ok (.aload_n 0, 1) := by decide +kernel
theorem dX1_dropLast_1 : decode cX1_dropLast 1 = .ok (.getfield 29, 3) := by decide +kernel
theorem dX1_dropLast_4 : decode cX1_dropLast 4 = .ok (.ifCond .ne 6, 3) := by decide +kernel
theorem dX1_dropLast_7 : decode cX1_dropLast 7 = .ok (.bipush (-4), 2) := by decide +kernel
theorem dX1_dropLast_9 : decode cX1_dropLast 9 = .ok (.ireturn, 1) := by decide +kernel
theorem dX1_dropLast_10 : decode cX1_dropLast 10 = .ok (.aload_n 0, 1) := by decide +kernel
theorem dX1_dropLast_11 : decode cX1_dropLast 11 = .ok (.dup, 1) := by decide +kernel
theorem dX1_dropLast_12 : decode cX1_dropLast 12 = .ok (.getfield 29, 3) := by decide +kernel
theorem dX1_dropLast_15 : decode cX1_dropLast 15 = .ok (.iconst 1, 1) := by decide +kernel
theorem dX1_dropLast_16 : decode cX1_dropLast 16 = .ok (.isub, 1) := by decide +kernel
theorem dX1_dropLast_17 : decode cX1_dropLast 17 = .ok (.putfield 29, 3) := by decide +kernel
theorem dX1_dropLast_20 : decode cX1_dropLast 20 = .ok (.aload_n 0, 1) := by decide +kernel
theorem dX1_dropLast_21 : decode cX1_dropLast 21 = .ok (.invokevirtual 26, 3) := by decide +kernel
theorem dX1_dropLast_24 : decode cX1_dropLast 24 = .ok (.aload_n 0, 1) := by decide +kernel
theorem dX1_dropLast_25 : decode cX1_dropLast 25 = .ok (.getfield 29, 3) := by decide +kernel
theorem dX1_dropLast_28 : decode cX1_dropLast 28 = .ok (.ireturn, 1) := by decide +kernel
theorem dX1_rank_0 : decode cX1_rank 0 = .ok (.iconst 0, 1) := by decide +kernel
theorem dX1_rank_1 : decode cX1_rank 1 = .ok (.istore_n 1, 1) := by decide +kernel
theorem dX1_rank_2 : decode cX1_rank 2 = .ok (.iconst 1, 1) := by decide +kernel
theorem dX1_rank_3 : decode cX1_rank 3 = .ok (.istore_n 2, 1) := by decide +kernel
theorem dX1_rank_4 : decode cX1_rank 4 = .ok (.iload_n 2, 1) := by decide +kernel
theorem dX1_rank_5 : decode cX1_rank 5 = .ok (.sipush 4096, 3) := by decide +kernel
theorem dX1_rank_8 : decode cX1_rank 8 = .ok (.if_icmp .ge 21, 3) := by decide +kernel
theorem dX1_rank_11 : decode cX1_rank 11 = .ok (.aload_n 0, 1) := by decide +kernel
theorem dX1_rank_12 : decode cX1_rank 12 = .ok (.getfield 23, 3) := by decide +kernel
theorem dX1_rank_15 : decode cX1_rank 15 = .ok (.iload_n 2, 1) := by decide +kernel
theorem dX1_rank_16 : decode cX1_rank 16 = .ok (.iaload, 1) := by decide +kernel
theorem dX1_rank_17 : decode cX1_rank 17 = .ok (.ifCond .lt 6, 3) := by decide +kernel
theorem dX1_rank_20 : decode cX1_rank 20 = .ok (.iinc 1 1, 3) := by decide +kernel
theorem dX1_rank_23 : decode cX1_rank 23 = .ok (.iinc 2 1, 3) := by decide +kernel
theorem dX1_rank_26 : decode cX1_rank 26 = .ok (.goto (-22), 3) := by decide +kernel
theorem dX1_rank_29 : decode cX1_rank 29 = .ok (.iconst 0, 1) := by decide +kernel
theorem dX1_rank_30 : decode cX1_rank 30 = .ok (.istore_n 2, 1) := by decide +kernel
theorem dX1_rank_31 : decode cX1_rank 31 = .ok (.iload_n 2, 1) := by decide +kernel
end
section
set_option maxRecDepth 100000
theorem dX1_rank_32 : decode cX1_rank 32 = .ok (.bipush 12, 2) := by decide +kernel
theorem dX1_rank_34 : decode cX1_rank 34 = .ok (.if_icmp .ge 18, 3) := by decide +kernel
theorem dX1_rank_37 : decode cX1_rank 37 = .ok (.iconst 1, 1) := by decide +kernel
theorem dX1_rank_38 : decode cX1_rank 38 = .ok (.iload_n 2, 1) := by decide +kernel
theorem dX1_rank_39 : decode cX1_rank 39 = .ok (.ishl, 1) := by decide +kernel
theorem dX1_rank_40 : decode cX1_rank 40 = .ok (.iload_n 1, 1) := by decide +kernel
theorem dX1_rank_41 : decode cX1_rank 41 = .ok (.iconst 1, 1) := by decide +kernel
theorem dX1_rank_42 : decode cX1_rank 42 = .ok (.iadd, 1) := by decide +kernel
theorem dX1_rank_43 : decode cX1_rank 43 = .ok (.if_icmp .ge 9, 3) := by decide +kernel
theorem dX1_rank_46 : decode cX1_rank 46 = .ok (.iinc 2 1, 3) := by decide +kernel
theorem dX1_rank_49 : decode cX1_rank 49 = .ok (.goto (-18), 3) := by decide +kernel
theorem dX1_rank_52 : decode cX1_rank 52 = .ok (.iload_n 2, 1) := by decide +kernel
theorem dX1_rank_53 : decode cX1_rank 53 = .ok (.ireturn, 1) := by decide +kernel
theorem dX1_total_0 : decode cX1_total 0 = .ok (.iconst 0, 1) := by decide +kernel
theorem dX1_total_1 : decode cX1_total 1 = .ok (.istore_n 1, 1) := by decide +kernel
theorem dX1_total_2 : decode cX1_total 2 = .ok (.aload_n 0, 1) := by decide +kernel
theorem dX1_total_3 : decode cX1_total 3 = .ok (.invokevirtual 47, 3) := by decide +kernel
theorem dX1_total_6 : decode cX1_total 6 = .ok (.iconst 0, 1) := by decide +kernel
theorem dX1_total_7 : decode cX1_total 7 = .ok (.istore_n 2, 1) := by decide +kernel
theorem dX1_total_8 : decode cX1_total 8 = .ok (.iload_n 2, 1) := by decide +kernel
theorem dX1_total_9 : decode cX1_total 9 = .ok (.bipush 12, 2) := by decide +kernel
theorem dX1_total_11 : decode cX1_total 11 = .ok (.if_icmp .ge 32, 3) := by decide +kernel
theorem dX1_total_14 : decode cX1_total 14 = .ok (.aload_n 0, 1) := by decide +kernel
theorem dX1_total_15 : decode cX1_total 15 = .ok (.invokevirtual 50, 3) := by decide +kernel
theorem dX1_total_18 : decode cX1_total 18 = .ok (.istore_n 3, 1) := by decide +kernel
theorem dX1_total_19 : decode cX1_total 19 = .ok (.iload_n 3, 1) := by decide +kernel
theorem dX1_total_20 : decode cX1_total 20 = .ok (.ifCond .lt 17, 3) := by decide +kernel
theorem dX1_total_23 : decode cX1_total 23 = .ok (.iload_n 1, 1) := by decide +kernel
theorem dX1_total_24 : decode cX1_total 24 = .ok (.aload_n 0, 1) := by decide +kernel
theorem dX1_total_25 : decode cX1_total 25 = .ok (.getfield 23, 3) := by decide +kernel
theorem dX1_total_28 : decode cX1_total 28 = .ok (.iload_n 3, 1) := by decide +kernel
theorem dX1_total_29 : decode cX1_total 29 = .ok (.iaload, 1) := by decide +kernel
theorem dX1_total_30 : decode cX1_total 30 = .ok (.iadd, 1) := by decide +kernel
theorem dX1_total_31 : decode cX1_total 31 = .ok (.istore_n 1, 1) := by decide +kernel
theorem dX1_total_32 : decode cX1_total 32 = .ok (.aload_n 0, 1) := by decide +kernel
theorem dX1_total_33 : decode cX1_total 33 = .ok (.iload_n 3, 1) := by decide +kernel
theorem dX1_total_34 : decode cX1_total 34 = .ok (.invokevirtual 54, 3) := by decide +kernel
theorem dX1_total_37 : decode cX1_total 37 = .ok (.iinc 2 1, 3) := by decide +kernel
theorem dX1_total_40 : decode cX1_total 40 = .ok (.goto (-32), 3) := by decide +kernel
theorem dX1_total_43 : decode cX1_total 43 = .ok (.iload_n 1, 1) := by decide +kernel
theorem dX1_total_44 : decode cX1_total 44 = .ok (.ireturn, 1) := by decide +kernel
theorem dX1_forget_0 : decode cX1_forget 0 = .ok (.iconst 0, 1) := by decide +kernel
theorem dX1_forget_1 : decode cX1_forget 1 = .ok (.istore_n 1, 1) := by decide +kernel
theorem dX1_forget_2 : decode cX1_forget 2 = .ok (.iload_n 1, 1) := by decide +kernel
theorem dX1_forget_3 : decode cX1_forget 3 = .ok (.sipush 4096, 3) := by decide +kernel
theorem dX1_forget_6 : decode cX1_forget 6 = .ok (.if_icmp .ge 24, 3) := by decide +kernel
theorem dX1_forget_9 : decode cX1_forget 9 = .ok (.aload_n 0, 1) := by decide +kernel
theorem dX1_forget_10 : decode cX1_forget 10 = .ok (.getfield 19, 3) := by decide +kernel
theorem dX1_forget_13 : decode cX1_forget 13 = .ok (.iload_n 1, 1) := by decide +kernel
theorem dX1_forget_14 : decode cX1_forget 14 = .ok (.iload_n 1, 1) := by decide +kernel
theorem dX1_forget_15 : decode cX1_forget 15 = .ok (.ifCond .ne 7, 3) := by decide +kernel
theorem dX1_forget_18 : decode cX1_forget 18 = .ok (.iconst 1, 1) := by decide +kernel
theorem dX1_forget_19 : decode cX1_forget 19 = .ok (.goto 4, 3) := by decide +kernel
theorem dX1_forget_22 : decode cX1_forget 22 = .ok (.iconst 0, 1) := by decide +kernel
theorem dX1_forget_23 : decode cX1_forget 23 = .ok (.bastore, 1) := by decide +kernel
theorem dX1_forget_24 : decode cX1_forget 24 = .ok (.iinc 1 1, 3) := by decide +kernel
theorem dX1_forget_27 : decode cX1_forget 27 = .ok (.goto (-25), 3) := by decide +kernel
theorem dX1_forget_30 : decode cX1_forget 30 = .ok (.return_, 1) := by decide +kernel
theorem dX1_lightest_0 : decode cX1_lightest 0 = .ok (.iconst (-1), 1) := by decide +kernel
theorem dX1_lightest_1 : decode cX1_lightest 1 = .ok (.istore_n 1, 1) := by decide +kernel
theorem dX1_lightest_2 : decode cX1_lightest 2 = .ok (.iconst 0, 1) := by decide +kernel
theorem dX1_lightest_3 : decode cX1_lightest 3 = .ok (.istore_n 2, 1) := by decide +kernel
theorem dX1_lightest_4 : decode cX1_lightest 4 = .ok (.iload_n 2, 1) := by decide +kernel
theorem dX1_lightest_5 : decode cX1_lightest 5 = .ok (.sipush 4096, 3) := by decide +kernel
theorem dX1_lightest_8 : decode cX1_lightest 8 = .ok (.if_icmp .ge 58, 3) := by decide +kernel
theorem dX1_lightest_11 : decode cX1_lightest 11 = .ok (.aload_n 0, 1) := by decide +kernel
theorem dX1_lightest_12 : decode cX1_lightest 12 = .ok (.getfield 23, 3) := by decide +kernel
theorem dX1_lightest_15 : decode cX1_lightest 15 = .ok (.iload_n 2, 1) := by decide +kernel
theorem dX1_lightest_16 : decode cX1_lightest 16 = .ok (.iaload, 1) := by decide +kernel
theorem dX1_lightest_17 : decode cX1_lightest 17 = .ok (.ifCond .lt 16, 3) := by decide +kernel
theorem dX1_lightest_20 : decode cX1_lightest 20 = .ok (.aload_n 0, 1) := by decide +kernel
theorem dX1_lightest_21 : decode cX1_lightest 21 = .ok (.getfield 19, 3) := by decide +kernel
theorem dX1_lightest_24 : decode cX1_lightest 24 = .ok (.iload_n 2, 1) := by decide +kernel
theorem dX1_lightest_25 : decode cX1_lightest 25 = .ok (.baload, 1) := by decide +kernel
theorem dX1_lightest_26 : decode cX1_lightest 26 = .ok (.ifCond .ne 7, 3) := by decide +kernel
theorem dX1_lightest_29 : decode cX1_lightest 29 = .ok (.iconst 1, 1) := by decide +kernel
theorem dX1_lightest_30 : decode cX1_lightest 30 = .ok (.goto 4, 3) := by decide +kernel
theorem dX1_lightest_33 : decode cX1_lightest 33 = .ok (.iconst 0, 1) := by decide +kernel
theorem dX1_lightest_34 : decode cX1_lightest 34 = .ok (.istore_n 3, 1) := by decide +kernel
theorem dX1_lightest_35 : decode cX1_lightest 35 = .ok (.iload_n 3, 1) := by decide +kernel
theorem dX1_lightest_36 : decode cX1_lightest 36 = .ok (.ifCond .eq 24, 3) := by decide +kernel
theorem dX1_lightest_39 : decode cX1_lightest 39 = .ok (.iload_n 1, 1) := by decide +kernel
theorem dX1_lightest_40 : decode cX1_lightest 40 = .ok (.ifCond .lt 18, 3) := by decide +kernel
theorem dX1_lightest_43 : decode cX1_lightest 43 = .ok (.aload_n 0, 1) := by decide +kernel
theorem dX1_lightest_44 : decode cX1_lightest 44 = .ok (.getfield 23, 3) := by decide +kernel
theorem dX1_lightest_47 : decode cX1_lightest 47 = .ok (.iload_n 2, 1) := by decide +kernel
theorem dX1_lightest_48 : decode cX1_lightest 48 = .ok (.iaload, 1) := by decide +kernel
theorem dX1_lightest_49 : decode cX1_lightest 49 = .ok (.aload_n 0, 1) := by decide +kernel
theorem dX1_lightest_50 : decode cX1_lightest 50 = .ok (.getfield 23, 3) := by decide +kernel
theorem dX1_lightest_53 : decode cX1_lightest 53 = .ok (.iload_n 1, 1) := by decide +kernel
theorem dX1_lightest_54 : decode cX1_lightest 54 = .ok (.iaload, 1) := by decide +kernel
theorem dX1_lightest_55 : decode cX1_lightest 55 = .ok (.if_icmp .ge 5, 3) := by decide +kernel
theorem dX1_lightest_58 : decode cX1_lightest 58 = .ok (.iload_n 2, 1) := by decide +kernel
theorem dX1_lightest_59 : decode cX1_lightest 59 = .ok (.istore_n 1, 1) := by decide +kernel
theorem dX1_lightest_60 : decode cX1_lightest 60 = .ok (.iinc 2 1, 3) := by decide +kernel
theorem dX1_lightest_63 : decode cX1_lightest 63 = .ok (.goto (-59), 3) := by decide +kernel
theorem dX1_lightest_66 : decode cX1_lightest 66 = .ok (.iload_n 1, 1) := by decide +kernel
theorem dX1_lightest_67 : decode cX1_lightest 67 = .ok (.ireturn, 1) := by decide +kernel
theorem dX1_take_0 : decode cX1_take 0 = .ok (.iconst 0, 1) := by decide +kernel
theorem dX1_take_1 : decode cX1_take 1 = .ok (.istore_n 2, 1) := by decide +kernel
theorem dX1_take_2 : decode cX1_take 2 = .ok (.iload_n 2, 1) := by decide +kernel
theorem dX1_take_3 : decode cX1_take 3 = .ok (.sipush 4096, 3) := by decide +kernel
theorem dX1_take_6 : decode cX1_take 6 = .ok (.if_icmp .ge 38, 3) := by decide +kernel
theorem dX1_take_9 : decode cX1_take 9 = .ok (.aload_n 0, 1) := by decide +kernel
theorem dX1_take_10 : decode cX1_take 10 = .ok (.getfield 19, 3) := by decide +kernel
theorem dX1_take_13 : decode cX1_take 13 = .ok (.iload_n 2, 1) := by decide +kernel
theorem dX1_take_14 : decode cX1_take 14 = .ok (.baload, 1) := by decide +kernel
theorem dX1_take_15 : decode cX1_take 15 = .ok (.ifCond .eq 23, 3) := by decide +kernel
theorem dX1_take_18 : decode cX1_take 18 = .ok (.aload_n 0, 1) := by decide +kernel
theorem dX1_take_19 : decode cX1_take 19 = .ok (.getfield 19, 3) := by decide +kernel
theorem dX1_take_22 : decode cX1_take 22 = .ok (.iload_n 2, 1) := by decide +kernel
theorem dX1_take_23 : decode cX1_take 23 = .ok (.iload_n 1, 1) := by decide +kernel
theorem dX1_take_24 : decode cX1_take 24 = .ok (.ixor, 1) := by decide +kernel
theorem dX1_take_25 : decode cX1_take 25 = .ok (.baload, 1) := by decide +kernel
theorem dX1_take_26 : decode cX1_take 26 = .ok (.ifCond .ne 12, 3) := by decide +kernel
theorem dX1_take_29 : decode cX1_take 29 = .ok (.aload_n 0, 1) := by decide +kernel
theorem dX1_take_30 : decode cX1_take 30 = .ok (.getfield 19, 3) := by decide +kernel
theorem dX1_take_33 : decode cX1_take 33 = .ok (.iload_n 2, 1) := by decide +kernel
theorem dX1_take_34 : decode cX1_take 34 = .ok (.iload_n 1, 1) := by decide +kernel
theorem dX1_take_35 : decode cX1_take 35 = .ok (.ixor, 1) := by decide +kernel
theorem dX1_take_36 : decode cX1_take 36 = .ok (.iconst 1, 1) := by decide +kernel
theorem dX1_take_37 : decode cX1_take 37 = .ok (.bastore, 1) := by decide +kernel
theorem dX1_take_38 : decode cX1_take 38 = .ok (.iinc 2 1, 3) := by decide +kernel
theorem dX1_take_41 : decode cX1_take 41 = .ok (.goto (-39), 3) := by decide +kernel
theorem dX1_take_44 : decode cX1_take 44 = .ok (.return_, 1) := by decide +kernel
theorem dX1_part_0 : decode cX1_part 0 = .ok (.aload_n 0, 1) := by decide +kernel
theorem dX1_part_1 : decode cX1_part 1 = .ok (.invokevirtual 47, 3) := by decide +kernel
theorem dX1_part_4 : decode cX1_part 4 = .ok (.iconst 0, 1) := by decide +kernel
theorem dX1_part_5 : decode cX1_part 5 = .ok (.istore_n 2, 1) := by decide +kernel
theorem dX1_part_6 : decode cX1_part 6 = .ok (.iload_n 2, 1) := by decide +kernel
theorem dX1_part_7 : decode cX1_part 7 = .ok (.bipush 12, 2) := by decide +kernel
theorem dX1_part_9 : decode cX1_part 9 = .ok (.if_icmp .ge 38, 3) := by decide +kernel
theorem dX1_part_12 : decode cX1_part 12 = .ok (.aload_n 0, 1) := by decide +kernel
theorem dX1_part_13 : decode cX1_part 13 = .ok (.invokevirtual 50, 3) := by decide +kernel
theorem dX1_part_16 : decode cX1_part 16 = .ok (.istore_n 3, 1) := by decide +kernel
theorem dX1_part_17 : decode cX1_part 17 = .ok (.iload_n 3, 1) := by decide +kernel
theorem dX1_part_18 : decode cX1_part 18 = .ok (.ifCond .ge 6, 3) := by decide +kernel
theorem dX1_part_21 : decode cX1_part 21 = .ok (.bipush (-5), 2) := by decide +kernel
theorem dX1_part_23 : decode cX1_part 23 = .ok (.ireturn, 1) := by decide +kernel
theorem dX1_part_24 : decode cX1_part 24 = .ok (.iload_n 2, 1) := by decide +kernel
theorem dX1_part_25 : decode cX1_part 25 = .ok (.iload_n 1, 1) := by decide +kernel
theorem dX1_part_26 : decode cX1_part 26 = .ok (.if_icmp .ne 10, 3) := by decide +kernel
theorem dX1_part_29 : decode cX1_part 29 = .ok (.aload_n 0, 1) := by decide +kernel
theorem dX1_part_30 : decode cX1_part 30 = .ok (.getfield 23, 3) := by decide +kernel
theorem dX1_part_33 : decode cX1_part 33 = .ok (.iload_n 3, 1) := by decide +kernel
theorem dX1_part_34 : decode cX1_part 34 = .ok (.iaload, 1) := by decide +kernel
theorem dX1_part_35 : decode cX1_part 35 = .ok (.ireturn, 1) := by decide +kernel
theorem dX1_part_36 : decode cX1_part 36 = .ok (.aload_n 0, 1) := by decide +kernel
theorem dX1_part_37 : decode cX1_part 37 = .ok (.iload_n 3, 1) := by decide +kernel
theorem dX1_part_38 : decode cX1_part 38 = .ok (.invokevirtual 54, 3) := by decide +kernel
theorem dX1_part_41 : decode cX1_part 41 = .ok (.iinc 2 1, 3) := by decide +kernel
theorem dX1_part_44 : decode cX1_part 44 = .ok (.goto (-38), 3) := by decide +kernel
theorem dX1_part_47 : decode cX1_part 47 = .ok (.bipush (-5), 2) := by decide +kernel
theorem dX1_part_49 : decode cX1_part 49 = .ok (.ireturn, 1) := by decide +kernel
theorem dX1_through_0 : decode cX1_through 0 = .ok (.aload_n 0, 1) := by decide +kernel
theorem dX1_through_1 : decode cX1_through 1 = .ok (.iload_n 1, 1) := by decide +kernel
theorem dX1_through_2 : decode cX1_through 2 = .ok (.invokevirtual 37, 3) := by decide +kernel
theorem dX1_through_5 : decode cX1_through 5 = .ok (.ifCond .ne 6, 3) := by decide +kernel
theorem dX1_through_8 : decode cX1_through 8 = .ok (.bipush (-4), 2) := by decide +kernel
theorem dX1_through_10 : decode cX1_through 10 = .ok (.ireturn, 1) := by decide +kernel
theorem dX1_through_11 : decode cX1_through 11 = .ok (.bipush (-5), 2) := by decide +kernel
theorem dX1_through_13 : decode cX1_through 13 = .ok (.istore_n 2, 1) := by decide +kernel
theorem dX1_through_14 : decode cX1_through 14 = .ok (.iconst 1, 1) := by decide +kernel
theorem dX1_through_15 : decode cX1_through 15 = .ok (.istore_n 3, 1) := by decide +kernel
theorem dX1_through_16 : decode cX1_through 16 = .ok (.iload_n 3, 1) := by decide +kernel
theorem dX1_through_17 : decode cX1_through 17 = .ok (.sipush 4096, 3) := by decide +kernel
theorem dX1_through_20 : decode cX1_through 20 = .ok (.if_icmp .ge 43, 3) := by decide +kernel
theorem dX1_through_23 : decode cX1_through 23 = .ok (.aload_n 0, 1) := by decide +kernel
theorem dX1_through_24 : decode cX1_through 24 = .ok (.getfield 23, 3) := by decide +kernel
theorem dX1_through_27 : decode cX1_through 27 = .ok (.iload_n 3, 1) := by decide +kernel
theorem dX1_through_28 : decode cX1_through 28 = .ok (.iaload, 1) := by decide +kernel
theorem dX1_through_29 : decode cX1_through 29 = .ok (.istore 4, 2) := by decide +kernel
theorem dX1_through_31 : decode cX1_through 31 = .ok (.iload_n 3, 1) := by decide +kernel
theorem dX1_through_32 : decode cX1_through 32 = .ok (.iload_n 1, 1) := by decide +kernel
theorem dX1_through_33 : decode cX1_through 33 = .ok (.ishr, 1) := by decide +kernel
theorem dX1_through_34 : decode cX1_through 34 = .ok (.iconst 1, 1) := by decide +kernel
theorem dX1_through_35 : decode cX1_through 35 = .ok (.iand, 1) := by decide +kernel
theorem dX1_through_36 : decode cX1_through 36 = .ok (.ifCond .eq 21, 3) := by decide +kernel
theorem dX1_through_39 : decode cX1_through 39 = .ok (.iload 4, 2) := by decide +kernel
theorem dX1_through_41 : decode cX1_through 41 = .ok (.ifCond .lt 16, 3) := by decide +kernel
theorem dX1_through_44 : decode cX1_through 44 = .ok (.iload_n 2, 1) := by decide +kernel
theorem dX1_through_45 : decode cX1_through 45 = .ok (.ifCond .lt 9, 3) := by decide +kernel
theorem dX1_through_48 : decode cX1_through 48 = .ok (.iload 4, 2) := by decide +kernel
theorem dX1_through_50 : decode cX1_through 50 = .ok (.iload_n 2, 1) := by decide +kernel
theorem dX1_through_51 : decode cX1_through 51 = .ok (.if_icmp .ge 6, 3) := by decide +kernel
theorem dX1_through_54 : decode cX1_through 54 = .ok (.iload 4, 2) := by decide +kernel
theorem dX1_through_56 : decode cX1_through 56 = .ok (.istore_n 2, 1) := by decide +kernel
theorem dX1_through_57 : decode cX1_through 57 = .ok (.iinc 3 1, 3) := by decide +kernel
theorem dX1_through_60 : decode cX1_through 60 = .ok (.goto (-44), 3) := by decide +kernel
theorem dX1_through_63 : decode cX1_through 63 = .ok (.iload_n 2, 1) := by decide +kernel
theorem dX1_through_64 : decode cX1_through 64 = .ok (.ireturn, 1) := by decide +kernel
theorem dX1_closed_0 : decode cX1_closed 0 = .ok (.iload_n 1, 1) := by decide +kernel
theorem dX1_closed_1 : decode cX1_closed 1 = .ok (.ifCond .lt 23, 3) := by decide +kernel
theorem dX1_closed_4 : decode cX1_closed 4 = .ok (.iload_n 1, 1) := by decide +kernel
theorem dX1_closed_5 : decode cX1_closed 5 = .ok (.sipush 4096, 3) := by decide +kernel
theorem dX1_closed_8 : decode cX1_closed 8 = .ok (.if_icmp .ge 16, 3) := by decide +kernel
theorem dX1_closed_11 : decode cX1_closed 11 = .ok (.aload_n 0, 1) := by decide +kernel
theorem dX1_closed_12 : decode cX1_closed 12 = .ok (.getfield 23, 3) := by decide +kernel
theorem dX1_closed_15 : decode cX1_closed 15 = .ok (.iload_n 1, 1) := by decide +kernel
theorem dX1_closed_16 : decode cX1_closed 16 = .ok (.iaload, 1) := by decide +kernel
theorem dX1_closed_17 : decode cX1_closed 17 = .ok (.ifCond .lt 7, 3) := by decide +kernel
theorem dX1_closed_20 : decode cX1_closed 20 = .ok (.iconst 1, 1) := by decide +kernel
theorem dX1_closed_21 : decode cX1_closed 21 = .ok (.goto 4, 3) := by decide +kernel
theorem dX1_closed_24 : decode cX1_closed 24 = .ok (.iconst 0, 1) := by decide +kernel
theorem dX1_closed_25 : decode cX1_closed 25 = .ok (.ireturn, 1) := by decide +kernel
theorem dX1_level_0 : decode cX1_level 0 = .ok (.aload_n 0, 1) := by decide +kernel
theorem dX1_level_1 : decode cX1_level 1 = .ok (.iload_n 1, 1) := by decide +kernel
theorem dX1_level_2 : decode cX1_level 2 = .ok (.invokevirtual 58, 3) := by decide +kernel
theorem dX1_level_5 : decode cX1_level 5 = .ok (.ifCond .ne 6, 3) := by decide +kernel
theorem dX1_level_8 : decode cX1_level 8 = .ok (.bipush (-5), 2) := by decide +kernel
theorem dX1_level_10 : decode cX1_level 10 = .ok (.ireturn, 1) := by decide +kernel
theorem dX1_level_11 : decode cX1_level 11 = .ok (.iconst 0, 1) := by decide +kernel
theorem dX1_level_12 : decode cX1_level 12 = .ok (.istore_n 2, 1) := by decide +kernel
theorem dX1_level_13 : decode cX1_level 13 = .ok (.aload_n 0, 1) := by decide +kernel
theorem dX1_level_14 : decode cX1_level 14 = .ok (.invokevirtual 47, 3) := by decide +kernel
theorem dX1_level_17 : decode cX1_level 17 = .ok (.iconst 0, 1) := by decide +kernel
theorem dX1_level_18 : decode cX1_level 18 = .ok (.istore_n 3, 1) := by decide +kernel
theorem dX1_level_19 : decode cX1_level 19 = .ok (.iload_n 3, 1) := by decide +kernel
theorem dX1_level_20 : decode cX1_level 20 = .ok (.bipush 12, 2) := by decide +kernel
theorem dX1_level_22 : decode cX1_level 22 = .ok (.if_icmp .ge 40, 3) := by decide +kernel
theorem dX1_level_25 : decode cX1_level 25 = .ok (.aload_n 0, 1) := by decide +kernel
theorem dX1_level_26 : decode cX1_level 26 = .ok (.getfield 19, 3) := by decide +kernel
theorem dX1_level_29 : decode cX1_level 29 = .ok (.iload_n 1, 1) := by decide +kernel
theorem dX1_level_30 : decode cX1_level 30 = .ok (.baload, 1) := by decide +kernel
theorem dX1_level_31 : decode cX1_level 31 = .ok (.ifCond .eq 5, 3) := by decide +kernel
theorem dX1_level_34 : decode cX1_level 34 = .ok (.iload_n 2, 1) := by decide +kernel
theorem dX1_level_35 : decode cX1_level 35 = .ok (.ireturn, 1) := by decide +kernel
theorem dX1_level_36 : decode cX1_level 36 = .ok (.aload_n 0, 1) := by decide +kernel
theorem dX1_level_37 : decode cX1_level 37 = .ok (.invokevirtual 50, 3) := by decide +kernel
theorem dX1_level_40 : decode cX1_level 40 = .ok (.istore 4, 2) := by decide +kernel
theorem dX1_level_42 : decode cX1_level 42 = .ok (.aload_n 0, 1) := by decide +kernel
theorem dX1_level_43 : decode cX1_level 43 = .ok (.getfield 23, 3) := by decide +kernel
theorem dX1_level_46 : decode cX1_level 46 = .ok (.iload 4, 2) := by decide +kernel
theorem dX1_level_48 : decode cX1_level 48 = .ok (.iaload, 1) := by decide +kernel
theorem dX1_level_49 : decode cX1_level 49 = .ok (.istore_n 2, 1) := by decide +kernel
theorem dX1_level_50 : decode cX1_level 50 = .ok (.aload_n 0, 1) := by decide +kernel
theorem dX1_level_51 : decode cX1_level 51 = .ok (.iload 4, 2) := by decide +kernel
theorem dX1_level_53 : decode cX1_level 53 = .ok (.invokevirtual 54, 3) := by decide +kernel
theorem dX1_level_56 : decode cX1_level 56 = .ok (.iinc 3 1, 3) := by decide +kernel
theorem dX1_level_59 : decode cX1_level 59 = .ok (.goto (-40), 3) := by decide +kernel
theorem dX1_level_62 : decode cX1_level 62 = .ok (.iload_n 2, 1) := by decide +kernel
theorem dX1_level_63 : decode cX1_level 63 = .ok (.ireturn, 1) := by decide +kernel
theorem dX1_bridges_0 : decode cX1_bridges 0 = .ok (.iconst 0, 1) := by decide +kernel
theorem dX1_bridges_1 : decode cX1_bridges 1 = .ok (.istore_n 1, 1) := by decide +kernel
theorem dX1_bridges_2 : decode cX1_bridges 2 = .ok (.iconst 0, 1) := by decide +kernel
theorem dX1_bridges_3 : decode cX1_bridges 3 = .ok (.istore_n 2, 1) := by decide +kernel
theorem dX1_bridges_4 : decode cX1_bridges 4 = .ok (.iload_n 2, 1) := by decide +kernel
theorem dX1_bridges_5 : decode cX1_bridges 5 = .ok (.aload_n 0, 1) := by decide +kernel
theorem dX1_bridges_6 : decode cX1_bridges 6 = .ok (.getfield 29, 3) := by decide +kernel
theorem dX1_bridges_9 : decode cX1_bridges 9 = .ok (.if_icmp .ge 22, 3) := by decide +kernel
theorem dX1_bridges_12 : decode cX1_bridges 12 = .ok (.aload_n 0, 1) := by decide +kernel
theorem dX1_bridges_13 : decode cX1_bridges 13 = .ok (.iload_n 2, 1) := by decide +kernel
theorem dX1_bridges_14 : decode cX1_bridges 14 = .ok (.invokevirtual 61, 3) := by decide +kernel
theorem dX1_bridges_17 : decode cX1_bridges 17 = .ok (.bipush (-5), 2) := by decide +kernel
theorem dX1_bridges_19 : decode cX1_bridges 19 = .ok (.if_icmp .ne 6, 3) := by decide +kernel
theorem dX1_bridges_22 : decode cX1_bridges 22 = .ok (.iinc 1 1, 3) := by decide +kernel
theorem dX1_bridges_25 : decode cX1_bridges 25 = .ok (.iinc 2 1, 3) := by decide +kernel
theorem dX1_bridges_28 : decode cX1_bridges 28 = .ok (.goto (-24), 3) := by decide +kernel
theorem dX1_bridges_31 : decode cX1_bridges 31 = .ok (.iload_n 1, 1) := by decide +kernel
theorem dX1_bridges_32 : decode cX1_bridges 32 = .ok (.ireturn, 1) := by decide +kernel
end
section
/-! the law's own entry -/
set_option maxRecDepth 100000
abbrev cL_law : ByteArray := code
theorem dL_law_0 : decode cL_law 0 = .ok (.new 7, 3) := by decide +kernel
theorem dL_law_3 : decode cL_law 3 = .ok (.dup, 1) := by decide +kernel
theorem dL_law_4 : decode cL_law 4 = .ok (.invokespecial 9, 3) := by decide +kernel
theorem dL_law_7 : decode cL_law 7 = .ok (.astore_n 1, 1) := by decide +kernel
theorem dL_law_8 : decode cL_law 8 = .ok (.new 10, 3) := by decide +kernel
theorem dL_law_11 : decode cL_law 11 = .ok (.dup, 1) := by decide +kernel
theorem dL_law_12 : decode cL_law 12 = .ok (.invokespecial 12, 3) := by decide +kernel
theorem dL_law_15 : decode cL_law 15 = .ok (.astore_n 2, 1) := by decide +kernel
theorem dL_law_16 : decode cL_law 16 = .ok (.iconst 0, 1) := by decide +kernel
theorem dL_law_17 : decode cL_law 17 = .ok (.istore_n 3, 1) := by decide +kernel
theorem dL_law_18 : decode cL_law 18 = .ok (.iload_n 3, 1) := by decide +kernel
theorem dL_law_19 : decode cL_law 19 = .ok (.aload_n 0, 1) := by decide +kernel
theorem dL_law_20 : decode cL_law 20 = .ok (.arraylength, 1) := by decide +kernel
theorem dL_law_21 : decode cL_law 21 = .ok (.iconst 4, 1) := by decide +kernel
theorem dL_law_22 : decode cL_law 22 = .ok (.isub, 1) := by decide +kernel
theorem dL_law_23 : decode cL_law 23 = .ok (.if_icmp .gt 291, 3) := by decide +kernel
theorem dL_law_26 : decode cL_law 26 = .ok (.aload_n 0, 1) := by decide +kernel
theorem dL_law_27 : decode cL_law 27 = .ok (.iload_n 3, 1) := by decide +kernel
theorem dL_law_28 : decode cL_law 28 = .ok (.iaload, 1) := by decide +kernel
theorem dL_law_29 : decode cL_law 29 = .ok (.bipush 15, 2) := by decide +kernel
theorem dL_law_31 : decode cL_law 31 = .ok (.iand, 1) := by decide +kernel
theorem dL_law_32 : decode cL_law 32 = .ok (.tableswitch 276 0 9 #[56, 99, 132, 145, 158, 171, 194, 217, 240, 263], 56) := by decide +kernel
theorem dL_law_88 : decode cL_law 88 = .ok (.aload_n 1, 1) := by decide +kernel
theorem dL_law_89 : decode cL_law 89 = .ok (.aload_n 0, 1) := by decide +kernel
theorem dL_law_90 : decode cL_law 90 = .ok (.iload_n 3, 1) := by decide +kernel
theorem dL_law_91 : decode cL_law 91 = .ok (.iconst 1, 1) := by decide +kernel
theorem dL_law_92 : decode cL_law 92 = .ok (.iadd, 1) := by decide +kernel
theorem dL_law_93 : decode cL_law 93 = .ok (.iaload, 1) := by decide +kernel
theorem dL_law_94 : decode cL_law 94 = .ok (.aload_n 0, 1) := by decide +kernel
theorem dL_law_95 : decode cL_law 95 = .ok (.iload_n 3, 1) := by decide +kernel
theorem dL_law_96 : decode cL_law 96 = .ok (.iconst 2, 1) := by decide +kernel
theorem dL_law_97 : decode cL_law 97 = .ok (.iadd, 1) := by decide +kernel
theorem dL_law_98 : decode cL_law 98 = .ok (.iaload, 1) := by decide +kernel
theorem dL_law_99 : decode cL_law 99 = .ok (.aload_n 0, 1) := by decide +kernel
theorem dL_law_100 : decode cL_law 100 = .ok (.iload_n 3, 1) := by decide +kernel
theorem dL_law_101 : decode cL_law 101 = .ok (.iconst 3, 1) := by decide +kernel
theorem dL_law_102 : decode cL_law 102 = .ok (.iadd, 1) := by decide +kernel
theorem dL_law_103 : decode cL_law 103 = .ok (.iaload, 1) := by decide +kernel
theorem dL_law_104 : decode cL_law 104 = .ok (.invokevirtual 13, 3) := by decide +kernel
theorem dL_law_107 : decode cL_law 107 = .ok (.aload_n 2, 1) := by decide +kernel
theorem dL_law_108 : decode cL_law 108 = .ok (.aload_n 0, 1) := by decide +kernel
theorem dL_law_109 : decode cL_law 109 = .ok (.iload_n 3, 1) := by decide +kernel
theorem dL_law_110 : decode cL_law 110 = .ok (.iconst 1, 1) := by decide +kernel
theorem dL_law_111 : decode cL_law 111 = .ok (.iadd, 1) := by decide +kernel
theorem dL_law_112 : decode cL_law 112 = .ok (.iaload, 1) := by decide +kernel
theorem dL_law_113 : decode cL_law 113 = .ok (.aload_n 0, 1) := by decide +kernel
theorem dL_law_114 : decode cL_law 114 = .ok (.iload_n 3, 1) := by decide +kernel
theorem dL_law_115 : decode cL_law 115 = .ok (.iconst 2, 1) := by decide +kernel
theorem dL_law_116 : decode cL_law 116 = .ok (.iadd, 1) := by decide +kernel
theorem dL_law_117 : decode cL_law 117 = .ok (.iaload, 1) := by decide +kernel
theorem dL_law_118 : decode cL_law 118 = .ok (.aload_n 0, 1) := by decide +kernel
theorem dL_law_119 : decode cL_law 119 = .ok (.iload_n 3, 1) := by decide +kernel
theorem dL_law_120 : decode cL_law 120 = .ok (.iconst 3, 1) := by decide +kernel
theorem dL_law_121 : decode cL_law 121 = .ok (.iadd, 1) := by decide +kernel
theorem dL_law_122 : decode cL_law 122 = .ok (.iaload, 1) := by decide +kernel
theorem dL_law_123 : decode cL_law 123 = .ok (.invokevirtual 17, 3) := by decide +kernel
theorem dL_law_126 : decode cL_law 126 = .ok (.if_icmp .eq 182, 3) := by decide +kernel
theorem dL_law_129 : decode cL_law 129 = .ok (.iconst 0, 1) := by decide +kernel
theorem dL_law_130 : decode cL_law 130 = .ok (.ireturn, 1) := by decide +kernel
theorem dL_law_131 : decode cL_law 131 = .ok (.aload_n 1, 1) := by decide +kernel
theorem dL_law_132 : decode cL_law 132 = .ok (.aload_n 0, 1) := by decide +kernel
theorem dL_law_133 : decode cL_law 133 = .ok (.iload_n 3, 1) := by decide +kernel
theorem dL_law_134 : decode cL_law 134 = .ok (.iconst 1, 1) := by decide +kernel
theorem dL_law_135 : decode cL_law 135 = .ok (.iadd, 1) := by decide +kernel
theorem dL_law_136 : decode cL_law 136 = .ok (.iaload, 1) := by decide +kernel
theorem dL_law_137 : decode cL_law 137 = .ok (.aload_n 0, 1) := by decide +kernel
theorem dL_law_138 : decode cL_law 138 = .ok (.iload_n 3, 1) := by decide +kernel
theorem dL_law_139 : decode cL_law 139 = .ok (.iconst 2, 1) := by decide +kernel
theorem dL_law_140 : decode cL_law 140 = .ok (.iadd, 1) := by decide +kernel
theorem dL_law_141 : decode cL_law 141 = .ok (.iaload, 1) := by decide +kernel
theorem dL_law_142 : decode cL_law 142 = .ok (.invokevirtual 18, 3) := by decide +kernel
theorem dL_law_145 : decode cL_law 145 = .ok (.aload_n 2, 1) := by decide +kernel
theorem dL_law_146 : decode cL_law 146 = .ok (.aload_n 0, 1) := by decide +kernel
theorem dL_law_147 : decode cL_law 147 = .ok (.iload_n 3, 1) := by decide +kernel
theorem dL_law_148 : decode cL_law 148 = .ok (.iconst 1, 1) := by decide +kernel
theorem dL_law_149 : decode cL_law 149 = .ok (.iadd, 1) := by decide +kernel
theorem dL_law_150 : decode cL_law 150 = .ok (.iaload, 1) := by decide +kernel
theorem dL_law_151 : decode cL_law 151 = .ok (.aload_n 0, 1) := by decide +kernel
theorem dL_law_152 : decode cL_law 152 = .ok (.iload_n 3, 1) := by decide +kernel
theorem dL_law_153 : decode cL_law 153 = .ok (.iconst 2, 1) := by decide +kernel
theorem dL_law_154 : decode cL_law 154 = .ok (.iadd, 1) := by decide +kernel
theorem dL_law_155 : decode cL_law 155 = .ok (.iaload, 1) := by decide +kernel
theorem dL_law_156 : decode cL_law 156 = .ok (.invokevirtual 22, 3) := by decide +kernel
theorem dL_law_159 : decode cL_law 159 = .ok (.if_icmp .eq 149, 3) := by decide +kernel
theorem dL_law_162 : decode cL_law 162 = .ok (.iconst 0, 1) := by decide +kernel
theorem dL_law_163 : decode cL_law 163 = .ok (.ireturn, 1) := by decide +kernel
theorem dL_law_164 : decode cL_law 164 = .ok (.aload_n 1, 1) := by decide +kernel
theorem dL_law_165 : decode cL_law 165 = .ok (.invokevirtual 23, 3) := by decide +kernel
theorem dL_law_168 : decode cL_law 168 = .ok (.aload_n 2, 1) := by decide +kernel
theorem dL_law_169 : decode cL_law 169 = .ok (.invokevirtual 27, 3) := by decide +kernel
theorem dL_law_172 : decode cL_law 172 = .ok (.if_icmp .eq 136, 3) := by decide +kernel
theorem dL_law_175 : decode cL_law 175 = .ok (.iconst 0, 1) := by decide +kernel
theorem dL_law_176 : decode cL_law 176 = .ok (.ireturn, 1) := by decide +kernel
theorem dL_law_177 : decode cL_law 177 = .ok (.aload_n 1, 1) := by decide +kernel
theorem dL_law_178 : decode cL_law 178 = .ok (.invokevirtual 28, 3) := by decide +kernel
theorem dL_law_181 : decode cL_law 181 = .ok (.aload_n 2, 1) := by decide +kernel
theorem dL_law_182 : decode cL_law 182 = .ok (.invokevirtual 31, 3) := by decide +kernel
theorem dL_law_185 : decode cL_law 185 = .ok (.if_icmp .eq 123, 3) := by decide +kernel
theorem dL_law_188 : decode cL_law 188 = .ok (.iconst 0, 1) := by decide +kernel
theorem dL_law_189 : decode cL_law 189 = .ok (.ireturn, 1) := by decide +kernel
theorem dL_law_190 : decode cL_law 190 = .ok (.aload_n 1, 1) := by decide +kernel
theorem dL_law_191 : decode cL_law 191 = .ok (.invokevirtual 32, 3) := by decide +kernel
theorem dL_law_194 : decode cL_law 194 = .ok (.aload_n 2, 1) := by decide +kernel
theorem dL_law_195 : decode cL_law 195 = .ok (.invokevirtual 35, 3) := by decide +kernel
theorem dL_law_198 : decode cL_law 198 = .ok (.if_icmp .eq 110, 3) := by decide +kernel
theorem dL_law_201 : decode cL_law 201 = .ok (.iconst 0, 1) := by decide +kernel
theorem dL_law_202 : decode cL_law 202 = .ok (.ireturn, 1) := by decide +kernel
theorem dL_law_203 : decode cL_law 203 = .ok (.aload_n 1, 1) := by decide +kernel
theorem dL_law_204 : decode cL_law 204 = .ok (.aload_n 0, 1) := by decide +kernel
theorem dL_law_205 : decode cL_law 205 = .ok (.iload_n 3, 1) := by decide +kernel
theorem dL_law_206 : decode cL_law 206 = .ok (.iconst 1, 1) := by decide +kernel
theorem dL_law_207 : decode cL_law 207 = .ok (.iadd, 1) := by decide +kernel
theorem dL_law_208 : decode cL_law 208 = .ok (.iaload, 1) := by decide +kernel
theorem dL_law_209 : decode cL_law 209 = .ok (.invokevirtual 36, 3) := by decide +kernel
theorem dL_law_212 : decode cL_law 212 = .ok (.aload_n 2, 1) := by decide +kernel
theorem dL_law_213 : decode cL_law 213 = .ok (.aload_n 0, 1) := by decide +kernel
theorem dL_law_214 : decode cL_law 214 = .ok (.iload_n 3, 1) := by decide +kernel
theorem dL_law_215 : decode cL_law 215 = .ok (.iconst 1, 1) := by decide +kernel
theorem dL_law_216 : decode cL_law 216 = .ok (.iadd, 1) := by decide +kernel
theorem dL_law_217 : decode cL_law 217 = .ok (.iaload, 1) := by decide +kernel
theorem dL_law_218 : decode cL_law 218 = .ok (.invokevirtual 40, 3) := by decide +kernel
theorem dL_law_221 : decode cL_law 221 = .ok (.if_icmp .eq 87, 3) := by decide +kernel
theorem dL_law_224 : decode cL_law 224 = .ok (.iconst 0, 1) := by decide +kernel
theorem dL_law_225 : decode cL_law 225 = .ok (.ireturn, 1) := by decide +kernel
theorem dL_law_226 : decode cL_law 226 = .ok (.aload_n 1, 1) := by decide +kernel
theorem dL_law_227 : decode cL_law 227 = .ok (.aload_n 0, 1) := by decide +kernel
theorem dL_law_228 : decode cL_law 228 = .ok (.iload_n 3, 1) := by decide +kernel
theorem dL_law_229 : decode cL_law 229 = .ok (.iconst 1, 1) := by decide +kernel
theorem dL_law_230 : decode cL_law 230 = .ok (.iadd, 1) := by decide +kernel
theorem dL_law_231 : decode cL_law 231 = .ok (.iaload, 1) := by decide +kernel
theorem dL_law_232 : decode cL_law 232 = .ok (.invokevirtual 41, 3) := by decide +kernel
theorem dL_law_235 : decode cL_law 235 = .ok (.aload_n 2, 1) := by decide +kernel
theorem dL_law_236 : decode cL_law 236 = .ok (.aload_n 0, 1) := by decide +kernel
theorem dL_law_237 : decode cL_law 237 = .ok (.iload_n 3, 1) := by decide +kernel
theorem dL_law_238 : decode cL_law 238 = .ok (.iconst 1, 1) := by decide +kernel
theorem dL_law_239 : decode cL_law 239 = .ok (.iadd, 1) := by decide +kernel
theorem dL_law_240 : decode cL_law 240 = .ok (.iaload, 1) := by decide +kernel
theorem dL_law_241 : decode cL_law 241 = .ok (.invokevirtual 44, 3) := by decide +kernel
theorem dL_law_244 : decode cL_law 244 = .ok (.if_icmp .eq 64, 3) := by decide +kernel
theorem dL_law_247 : decode cL_law 247 = .ok (.iconst 0, 1) := by decide +kernel
theorem dL_law_248 : decode cL_law 248 = .ok (.ireturn, 1) := by decide +kernel
theorem dL_law_249 : decode cL_law 249 = .ok (.aload_n 1, 1) := by decide +kernel
theorem dL_law_250 : decode cL_law 250 = .ok (.aload_n 0, 1) := by decide +kernel
theorem dL_law_251 : decode cL_law 251 = .ok (.iload_n 3, 1) := by decide +kernel
theorem dL_law_252 : decode cL_law 252 = .ok (.iconst 1, 1) := by decide +kernel
theorem dL_law_253 : decode cL_law 253 = .ok (.iadd, 1) := by decide +kernel
theorem dL_law_254 : decode cL_law 254 = .ok (.iaload, 1) := by decide +kernel
theorem dL_law_255 : decode cL_law 255 = .ok (.invokevirtual 45, 3) := by decide +kernel
theorem dL_law_258 : decode cL_law 258 = .ok (.aload_n 2, 1) := by decide +kernel
theorem dL_law_259 : decode cL_law 259 = .ok (.aload_n 0, 1) := by decide +kernel
theorem dL_law_260 : decode cL_law 260 = .ok (.iload_n 3, 1) := by decide +kernel
theorem dL_law_261 : decode cL_law 261 = .ok (.iconst 1, 1) := by decide +kernel
theorem dL_law_262 : decode cL_law 262 = .ok (.iadd, 1) := by decide +kernel
theorem dL_law_263 : decode cL_law 263 = .ok (.iaload, 1) := by decide +kernel
theorem dL_law_264 : decode cL_law 264 = .ok (.invokevirtual 49, 3) := by decide +kernel
theorem dL_law_267 : decode cL_law 267 = .ok (.if_icmp .eq 41, 3) := by decide +kernel
theorem dL_law_270 : decode cL_law 270 = .ok (.iconst 0, 1) := by decide +kernel
theorem dL_law_271 : decode cL_law 271 = .ok (.ireturn, 1) := by decide +kernel
theorem dL_law_272 : decode cL_law 272 = .ok (.aload_n 1, 1) := by decide +kernel
theorem dL_law_273 : decode cL_law 273 = .ok (.aload_n 0, 1) := by decide +kernel
theorem dL_law_274 : decode cL_law 274 = .ok (.iload_n 3, 1) := by decide +kernel
theorem dL_law_275 : decode cL_law 275 = .ok (.iconst 1, 1) := by decide +kernel
theorem dL_law_276 : decode cL_law 276 = .ok (.iadd, 1) := by decide +kernel
theorem dL_law_277 : decode cL_law 277 = .ok (.iaload, 1) := by decide +kernel
theorem dL_law_278 : decode cL_law 278 = .ok (.invokevirtual 50, 3) := by decide +kernel
theorem dL_law_281 : decode cL_law 281 = .ok (.aload_n 2, 1) := by decide +kernel
theorem dL_law_282 : decode cL_law 282 = .ok (.aload_n 0, 1) := by decide +kernel
theorem dL_law_283 : decode cL_law 283 = .ok (.iload_n 3, 1) := by decide +kernel
theorem dL_law_284 : decode cL_law 284 = .ok (.iconst 1, 1) := by decide +kernel
theorem dL_law_285 : decode cL_law 285 = .ok (.iadd, 1) := by decide +kernel
theorem dL_law_286 : decode cL_law 286 = .ok (.iaload, 1) := by decide +kernel
theorem dL_law_287 : decode cL_law 287 = .ok (.invokevirtual 53, 3) := by decide +kernel
theorem dL_law_290 : decode cL_law 290 = .ok (.if_icmp .eq 18, 3) := by decide +kernel
theorem dL_law_293 : decode cL_law 293 = .ok (.iconst 0, 1) := by decide +kernel
theorem dL_law_294 : decode cL_law 294 = .ok (.ireturn, 1) := by decide +kernel
theorem dL_law_295 : decode cL_law 295 = .ok (.aload_n 1, 1) := by decide +kernel
theorem dL_law_296 : decode cL_law 296 = .ok (.invokevirtual 54, 3) := by decide +kernel
theorem dL_law_299 : decode cL_law 299 = .ok (.aload_n 2, 1) := by decide +kernel
theorem dL_law_300 : decode cL_law 300 = .ok (.invokevirtual 57, 3) := by decide +kernel
theorem dL_law_303 : decode cL_law 303 = .ok (.if_icmp .eq 5, 3) := by decide +kernel
theorem dL_law_306 : decode cL_law 306 = .ok (.iconst 0, 1) := by decide +kernel
theorem dL_law_307 : decode cL_law 307 = .ok (.ireturn, 1) := by decide +kernel
theorem dL_law_308 : decode cL_law 308 = .ok (.iinc 3 4, 3) := by decide +kernel
theorem dL_law_311 : decode cL_law 311 = .ok (.goto (-293), 3) := by decide +kernel
theorem dL_law_314 : decode cL_law 314 = .ok (.iconst 1, 1) := by decide +kernel
theorem dL_law_315 : decode cL_law 315 = .ok (.ireturn, 1) := by decide +kernel
/-! java/lang/Object -/
set_option maxRecDepth 100000
def RJ0 : String := "java/lang/Object"
abbrev cJ0_init : ByteArray := object_method_1_code
def yJ0_init : MethodName := ⟨RJ0, "<init>", "()V"⟩
theorem dJ0_init_0 : decode cJ0_init 0 = .ok (.return_, 1) := by decide +kernel
theorem q26 : (Jvm.Cond.instanceMethod ({ cls := "java/lang/Object", name := "<init>", desc := "()V" } : Jvm.MethodName)) ∈ lw_all := lw_g (lw_at lw_m1 9 rfl) rfl
theorem q27 : (Jvm.Cond.code ({ cls := "java/lang/Object", name := "<init>", desc := "()V" } : Jvm.MethodName) object_method_1_code (1 : Nat) (Option.none : Option Jvm.ClassFile.FieldType)) ∈ lw_all := lw_g (lw_at lw_m1 10 rfl) rfl
theorem q17 : (Jvm.Cond.initialized "CycleBasisLaw") ∈ lw_all := lw_g (lw_at lw_m1 0 rfl) rfl
set_option maxRecDepth 100000
theorem q20 : (Jvm.Cond.classLink "CycleBasisLaw" (7 : Nat) "CycleBasis") ∈ lw_all := lw_g (lw_at lw_m1 3 rfl) rfl
theorem q22 : (Jvm.Cond.methodLink "CycleBasisLaw" (9 : Nat) ({ cls := "CycleBasis", name := "<init>", desc := "()V" } : Jvm.MethodName)) ∈ lw_all := lw_g (lw_at lw_m1 5 rfl) rfl
theorem q79 : (Jvm.Cond.methodLink "CycleBasisLaw" (13 : Nat) ({ cls := "CycleBasis", name := "edge", desc := "(III)I" } : Jvm.MethodName)) ∈ lw_all := lw_g (lw_at lw_m1 62 rfl) rfl
theorem q86 : (Jvm.Cond.methodLink "CycleBasisLaw" (18 : Nat) ({ cls := "CycleBasis", name := "reweigh", desc := "(II)I" } : Jvm.MethodName)) ∈ lw_all := lw_g (lw_at lw_m1 69 rfl) rfl
theorem q94 : (Jvm.Cond.methodLink "CycleBasisLaw" (23 : Nat) ({ cls := "CycleBasis", name := "dropLast", desc := "()I" } : Jvm.MethodName)) ∈ lw_all := lw_g (lw_at lw_m1 77 rfl) rfl
theorem q98 : (Jvm.Cond.methodLink "CycleBasisLaw" (28 : Nat) ({ cls := "CycleBasis", name := "rank", desc := "()I" } : Jvm.MethodName)) ∈ lw_all := lw_g (lw_at lw_m1 81 rfl) rfl
theorem q106 : (Jvm.Cond.methodLink "CycleBasisLaw" (32 : Nat) ({ cls := "CycleBasis", name := "total", desc := "()I" } : Jvm.MethodName)) ∈ lw_all := lw_g (lw_at lw_m1 89 rfl) rfl
theorem q138 : (Jvm.Cond.methodLink "CycleBasisLaw" (36 : Nat) ({ cls := "CycleBasis", name := "part", desc := "(I)I" } : Jvm.MethodName)) ∈ lw_all := lw_g (lw_at lw_m1 121 rfl) rfl
theorem q142 : (Jvm.Cond.methodLink "CycleBasisLaw" (41 : Nat) ({ cls := "CycleBasis", name := "through", desc := "(I)I" } : Jvm.MethodName)) ∈ lw_all := lw_g (lw_at lw_m1 125 rfl) rfl
theorem q146 : (Jvm.Cond.methodLink "CycleBasisLaw" (45 : Nat) ({ cls := "CycleBasis", name := "closed", desc := "(I)Z" } : Jvm.MethodName)) ∈ lw_all := lw_g (lw_at lw_m1 129 rfl) rfl
theorem q150 : (Jvm.Cond.methodLink "CycleBasisLaw" (50 : Nat) ({ cls := "CycleBasis", name := "level", desc := "(I)I" } : Jvm.MethodName)) ∈ lw_all := lw_g (lw_at lw_m1 133 rfl) rfl
theorem q162 : (Jvm.Cond.methodLink "CycleBasisLaw" (54 : Nat) ({ cls := "CycleBasis", name := "bridges", desc := "()I" } : Jvm.MethodName)) ∈ lw_all := lw_g (lw_at lw_m1 145 rfl) rfl
theorem q166 : (Jvm.Cond.classLink "CycleBasisLaw" (10 : Nat) "CycleBasisModel") ∈ lw_all := lw_g (lw_at lw_m1 149 rfl) rfl
theorem q168 : (Jvm.Cond.methodLink "CycleBasisLaw" (12 : Nat) ({ cls := "CycleBasisModel", name := "<init>", desc := "()V" } : Jvm.MethodName)) ∈ lw_all := lw_g (lw_at lw_m1 151 rfl) rfl
theorem q203 : (Jvm.Cond.methodLink "CycleBasisLaw" (17 : Nat) ({ cls := "CycleBasisModel", name := "edge", desc := "(III)I" } : Jvm.MethodName)) ∈ lw_all := lw_g (lw_at lw_m1 186 rfl) rfl
theorem q211 : (Jvm.Cond.methodLink "CycleBasisLaw" (22 : Nat) ({ cls := "CycleBasisModel", name := "reweigh", desc := "(II)I" } : Jvm.MethodName)) ∈ lw_all := lw_g (lw_at lw_m1 194 rfl) rfl
theorem q219 : (Jvm.Cond.methodLink "CycleBasisLaw" (27 : Nat) ({ cls := "CycleBasisModel", name := "dropLast", desc := "()I" } : Jvm.MethodName)) ∈ lw_all := lw_g (lw_at lw_m1 202 rfl) rfl
theorem q223 : (Jvm.Cond.methodLink "CycleBasisLaw" (31 : Nat) ({ cls := "CycleBasisModel", name := "rank", desc := "()I" } : Jvm.MethodName)) ∈ lw_all := lw_g (lw_at lw_m1 206 rfl) rfl
theorem q227 : (Jvm.Cond.methodLink "CycleBasisLaw" (35 : Nat) ({ cls := "CycleBasisModel", name := "total", desc := "()I" } : Jvm.MethodName)) ∈ lw_all := lw_g (lw_at lw_m1 210 rfl) rfl
theorem q243 : (Jvm.Cond.methodLink "CycleBasisLaw" (40 : Nat) ({ cls := "CycleBasisModel", name := "part", desc := "(I)I" } : Jvm.MethodName)) ∈ lw_all := lw_g (lw_at lw_m1 226 rfl) rfl
theorem q247 : (Jvm.Cond.methodLink "CycleBasisLaw" (44 : Nat) ({ cls := "CycleBasisModel", name := "through", desc := "(I)I" } : Jvm.MethodName)) ∈ lw_all := lw_g (lw_at lw_m1 230 rfl) rfl
theorem q251 : (Jvm.Cond.methodLink "CycleBasisLaw" (49 : Nat) ({ cls := "CycleBasisModel", name := "closed", desc := "(I)Z" } : Jvm.MethodName)) ∈ lw_all := lw_g (lw_at lw_m1 234 rfl) rfl
theorem q255 : (Jvm.Cond.methodLink "CycleBasisLaw" (53 : Nat) ({ cls := "CycleBasisModel", name := "level", desc := "(I)I" } : Jvm.MethodName)) ∈ lw_all := lw_g (lw_at lw_m1 238 rfl) rfl
theorem q260 : (Jvm.Cond.methodLink "CycleBasisLaw" (57 : Nat) ({ cls := "CycleBasisModel", name := "bridges", desc := "()I" } : Jvm.MethodName)) ∈ lw_all := lw_g (lw_at lw_m2 3 rfl) rfl
theorem q77 : (Jvm.Cond.arrayClass Jvm.ClassFile.FieldType.int) ∈ lw_all := lw_g (lw_at lw_m1 60 rfl) rfl
set_option maxRecDepth 100000
theorem q78 : (Jvm.Cond.arrayClass Jvm.ClassFile.FieldType.boolean) ∈ lw_all := lw_g (lw_at lw_m1 61 rfl) rfl
end
section
/-! OUR LAYER over the kit: locals as a list by slot, ints as nI of naturals, a world as a function of one state -/
abbrev cb_S : Type := Nat → Nat → Nat
def cb_up (σ : cb_S) (k i v : Nat) : cb_S := fun k' i' => if k' = k ∧ i' = i then v else σ k' i'
theorem cb_up_s (σ : cb_S) (k i v : Nat) : cb_up σ k i v k i = v := by simp [cb_up]
theorem cb_up_k (σ : cb_S) {k i v k' : Nat} (h : k' ≠ k) : cb_up σ k i v k' = σ k' := by funext j; simp [cb_up, h]
theorem cb_up_i (σ : cb_S) {k i v i' : Nat} (k' : Nat) (h : i' ≠ i) : cb_up σ k i v k' i' = σ k' i' := by simp [cb_up, h]
/-- numbers -/
theorem nx_and (a b : Nat) : nI a &&& nI b = nI (a &&& b) := by
  apply Int32.toBitVec_inj.1
  show BitVec.ofNat 32 a &&& BitVec.ofNat 32 b = BitVec.ofNat 32 (a &&& b)
  apply BitVec.eq_of_getLsbD_eq
  intro i hi
  simp [hi]
theorem nx_xor (a b : Nat) : nI a ^^^ nI b = nI (a ^^^ b) := by
  apply Int32.toBitVec_inj.1
  show BitVec.ofNat 32 a ^^^ BitVec.ofNat 32 b = BitVec.ofNat 32 (a ^^^ b)
  apply BitVec.eq_of_getLsbD_eq
  intro i hi
  simp [hi]
theorem cb_sl : ∀ n, n < 32 → ((nI n &&& 31).toBitVec.smod 32).toNat = n := by decide +kernel
theorem cb_shr {a k : Nat} (ha : a < 2147483648) (hk : k < 32) : nI a >>> (nI k &&& 31) = nI (a >>> k) := by
  rw [pk_shrN ha (nI k &&& 31) k (cb_sl k hk), Nat.shiftRight_eq_div_pow]
theorem cb_shl1 {k : Nat} (hk : k < 32) : nI 1 <<< (nI k &&& 31) = nI (2 ^ k) := by
  rw [pk_shlN (n := 1) (nI k &&& 31) k (cb_sl k hk) (by rw [Nat.one_mul]; exact Nat.pow_lt_pow_right (by decide) hk), Nat.one_mul]
theorem cb_eq {a b : Nat} (ha : a < 4294967296) (hb : b < 4294967296) : nI a = nI b ↔ a = b := by
  constructor
  · intro h
    have h1 := congrArg (fun x : Int32 => x.toBitVec.toNat) h
    simp only [pk_tn ha, pk_tn hb] at h1
    exact h1
  · intro h; rw [h]
theorem cb_ti {a : Nat} (ha : a < 4294967296) : (nI a).toInt = if a < 2147483648 then (a : Int) else (a : Int) - 4294967296 := by
  have h1 : (nI a).toInt = (nI a).toBitVec.toInt := rfl
  rw [h1, BitVec.toInt_eq_toNat_cond, pk_tn ha]
  by_cases h : a < 2147483648
  · rw [if_pos (by omega), if_pos h]
  · rw [if_neg (by omega), if_neg h]; rfl
theorem cb_neg {a : Nat} (ha : a < 4294967296) : nI a < 0 ↔ 2147483648 ≤ a := by
  rw [Int32.lt_iff_toInt_lt, cb_ti ha, Int32.toInt_zero]
  by_cases h : a < 2147483648
  · rw [if_pos h]; omega
  · rw [if_neg h]; omega
theorem cb_nneg {a : Nat} (ha : a < 4294967296) : 0 ≤ nI a ↔ a < 2147483648 := by
  rw [Int32.le_iff_toInt_le, cb_ti ha, Int32.toInt_zero]
  by_cases h : a < 2147483648
  · rw [if_pos h]; omega
  · rw [if_neg h]; omega
theorem cb_ltS {a b : Nat} (ha : a < 4294967296) (hb : b < 2147483648) : nI a < nI b ↔ (2147483648 ≤ a ∨ a < b) := by
  rw [Int32.lt_iff_toInt_lt, cb_ti ha, nI_toInt hb]
  by_cases h : a < 2147483648
  · rw [if_pos h]; omega
  · rw [if_neg h]; omega
theorem cb_leS {a b : Nat} (ha : a < 4294967296) (hb : b < 2147483648) : nI a ≤ nI b ↔ (2147483648 ≤ a ∨ a ≤ b) := by
  rw [Int32.le_iff_toInt_le, cb_ti ha, nI_toInt hb]
  by_cases h : a < 2147483648
  · rw [if_pos h]; omega
  · rw [if_neg h]; omega
theorem cb_of (x : Int32) : ∃ n, n < 4294967296 ∧ x = nI n := by
  refine ⟨x.toBitVec.toNat, x.toBitVec.isLt, ?_⟩
  apply Int32.toBitVec_inj.1
  show x.toBitVec = BitVec.ofNat 32 x.toBitVec.toNat
  rw [BitVec.ofNat_toNat]
  simp
theorem cb_0 : (0 : Int32) = nI 0 := nI_0.symm
theorem cb_1 : (1 : Int32) = nI 1 := by decide +kernel
theorem cb_m1 {a : Nat} (h : 1 ≤ a) : nI a + Int32.ofInt (-1) = nI (a - 1) := by
  obtain ⟨b, rfl⟩ : ∃ b, a = b + 1 := ⟨a - 1, by omega⟩
  exact pk_m1 b
/-- the value of a count-down variable k - 1, with -1 at 0 -/
def cb_em (k : Nat) : Nat := if k = 0 then 4294967295 else k - 1
theorem cb_em_s (k : Nat) : cb_em (k + 1) = k := by simp [cb_em]
theorem cb_em_dec (k : Nat) : nI k + Int32.ofInt (-1) = nI (cb_em k) := by
  by_cases h : k = 0
  · subst h; decide +kernel
  · rw [cb_m1 (by omega)]; simp [cb_em, h]
theorem cb_em_lt {k : Nat} (h : k < 2147483648) : cb_em k < 4294967296 := by unfold cb_em; split <;> omega
/-- a boolean as a number -/
theorem cb_narb {x : Nat} (h : x ≤ 1) : vp_nar .boolean (nI x) = nI x := by
  rcases (show x = 0 ∨ x = 1 by omega) with rfl | rfl <;> decide +kernel
theorem cb_narz {x : Nat} (h : x ≤ 1) : narrow .boolean (.int (nI x)) = .int (nI x) := by
  rcases (show x = 0 ∨ x = 1 by omega) with rfl | rfl <;> decide +kernel
/-! locals -/
def cb_L (ls : Array Slot) (nL : Nat) (vs : List (Option Value)) : Prop := ls.size = nL ∧ lv_wf ls ∧ ∀ (i : Nat) (v : Value), vs[i]? = some (some v) → ls[i]? = some (.val v) ∧ v.category = 1
theorem cb_L.at {ls : Array Slot} {nL : Nat} {vs : List (Option Value)} (h : cb_L ls nL vs) {i : Nat} {v : Value} (hv : vs[i]? = some (some v)) : ls[i]? = some (.val v) := (h.2.2 i v hv).1
def cb_l (vs : List (Option Value)) : List (Nat × Value) := (List.range vs.length).filterMap (fun i => (vs[i]?.join).map (fun v => (i, v)))
theorem cb_l_mem {vs : List (Option Value)} {q : Nat × Value} : q ∈ cb_l vs ↔ vs[q.1]? = some (some q.2) := by
  unfold cb_l
  rw [List.mem_filterMap]
  constructor
  · rintro ⟨i, -, hi⟩
    cases e : vs[i]? with
    | none => rw [e] at hi; cases hi
    | some o =>
      cases o with
      | none => rw [e] at hi; cases hi
      | some v =>
        rw [e] at hi
        have hq : (i, v) = q := Option.some.inj hi
        rw [← hq]
        exact e
  · intro h
    refine ⟨q.1, List.mem_range.mpr (List.getElem?_eq_some_iff.mp h).1, ?_⟩
    rw [h]
    rfl
theorem cb_L.has {ls : Array Slot} {nL : Nat} {vs : List (Option Value)} (h : cb_L ls nL vs) : lv_has ls nL (cb_l vs) :=
  ⟨h.1, h.2.1, fun q hq => (h.2.2 q.1 q.2 (cb_l_mem.mp hq)).1⟩
theorem cb_L.st {ls ls' : Array Slot} {nL i : Nat} {v : Value} {vs : List (Option Value)} (h : cb_L ls nL vs) (hc : v.category = 1) (h' : lv_has ls' nL ((i, v) :: (cb_l vs).filter (fun q => !(q.1 == i) && !(q.1 + 1 == i && q.2.category == 2)))) : cb_L ls' nL (vs.set i (some v)) := by
  refine ⟨h'.1, h'.2.1, fun j w hj => ?_⟩
  rw [List.getElem?_set] at hj
  by_cases hij : i = j
  · subst hij
    rw [if_pos rfl] at hj
    split at hj
    · cases hj; exact ⟨h'.2.2 (i, v) List.mem_cons_self, hc⟩
    · cases hj
  · rw [if_neg hij] at hj
    obtain ⟨g1, g2⟩ := h.2.2 j w hj
    refine ⟨h'.2.2 (j, w) (List.mem_cons_of_mem _ (List.mem_filter.mpr ⟨cb_l_mem.mpr hj, ?_⟩)), g2⟩
    have hji : ¬ j = i := fun e => hij e.symm
    simp [g2, hji]
theorem cb_L.entry (as : List Value) {n : Nat} (hc : ∀ v ∈ as, v.category = 1) (h : (lg_sl as).length ≤ n) (hlv : ∀ (i : Nat) (v : Value), as[i]? = some v → (i, v) ∈ lv_args 0 as) : cb_L ((lg_sl as ++ List.replicate (n - (lg_sl as).length) Slot.unset).toArray) n (as.map some) := by
  obtain ⟨h1, h2, h3⟩ := lv_entry as h
  refine ⟨h1, h2, fun i v hv => ?_⟩
  rw [List.getElem?_map] at hv
  cases e : as[i]? with
  | none => rw [e] at hv; cases hv
  | some w =>
    rw [e] at hv
    have hw : w = v := Option.some.inj (Option.some.inj hv)
    subst hw
    exact ⟨h3 (i, w) (hlv i w e), hc w (List.mem_of_getElem? e)⟩
theorem cb_L.wide {ls : Array Slot} {nL : Nat} {vs : List (Option Value)} (h : cb_L ls nL vs) (k : Nat) : cb_L ls nL (vs ++ List.replicate k none) := by
  refine ⟨h.1, h.2.1, fun i v hv => h.2.2 i v ?_⟩
  rw [List.getElem?_append] at hv
  split at hv
  · exact hv
  · rw [List.getElem?_replicate] at hv
    split at hv
    · cases hv
    · cases hv
theorem cb_L.sub {ls : Array Slot} {nL : Nat} {vs vs' : List (Option Value)} (h : cb_L ls nL vs) (hs : ∀ i : Nat, vs'[i]? = some none ∨ vs'[i]? = vs[i]?) : cb_L ls nL vs' := by
  refine ⟨h.1, h.2.1, fun i v hv => h.2.2 i v ?_⟩
  rcases hs i with e | e
  · rw [e] at hv; cases hv
  · rw [← e]; exact hv
theorem cb_args (as : List Value) (hc : ∀ v ∈ as, v.category = 1) : ∀ (b i : Nat) (v : Value), as[i]? = some v → (b + i, v) ∈ lv_args b as := by
  induction as with
  | nil => intro b i v h; simp at h
  | cons a l ih =>
    intro b i v h
    have ha : ¬ a.category = 2 := by have := hc a List.mem_cons_self; omega
    unfold lv_args
    cases i with
    | zero =>
      have : a = v := by simpa using h
      subst this
      exact List.mem_cons_self
    | succ i =>
      have h' : l[i]? = some v := by simpa using h
      have h2 := ih (fun w hw => hc w (List.mem_cons_of_mem _ hw)) (b + 1) i v h'
      rw [show b + (i + 1) = b + 1 + i by omega]
      refine List.mem_cons_of_mem _ ?_
      simpa [ha] using h2
end
section
/-! rows of our layer: one an instruction -/
section CBR
variable {p : Program} {l : Launch} {e : Env} {R : Room} {s : State} {m : MethodId} {args : Array Value} {below : List Frame} {meth : Method} {c : Code} {H : Heap} {locs : List Loc} {cells slots : Nat} {Q : State → Prop}
variable {cc : ByteArray} {pc : Nat} {ls : Array Slot} {rest : List Value} {nL : Nat} {vs : List (Option Value)} {own : String}

theorem cb_iload_n (C : CallFix p m c cc nL s args lw_all own) (hl : cb_L ls nL vs) {k : Fin 4} {x : Int32} (hd : decode cc pc = .ok (.iload_n k, 1)) (hv : vs[(k : Nat)]? = some (some (.int x)))
    (kk : W p l e R s m args below meth c H locs cells slots Q (F0 m (pc + 1) ls (.int x :: rest))) : W p l e R s m args below meth c H locs cells slots Q (F0 m pc ls (rest)) := lv_iload_n C.1 C.2.1 hd rfl (hl.at hv) kk
theorem cb_iload (C : CallFix p m c cc nL s args lw_all own) (hl : cb_L ls nL vs) {k : Nat} {x : Int32} (hd : decode cc pc = .ok (.iload k, 2)) (hv : vs[k]? = some (some (.int x)))
    (kk : W p l e R s m args below meth c H locs cells slots Q (F0 m (pc + 2) ls (.int x :: rest))) : W p l e R s m args below meth c H locs cells slots Q (F0 m pc ls (rest)) := lv_iload C.1 C.2.1 hd (hl.at hv) kk
theorem cb_aload_n (C : CallFix p m c cc nL s args lw_all own) (hl : cb_L ls nL vs) {k : Fin 4} {x : Nat} (hd : decode cc pc = .ok (.aload_n k, 1)) (hv : vs[(k : Nat)]? = some (some (.ref x)))
    (kk : W p l e R s m args below meth c H locs cells slots Q (F0 m (pc + 1) ls (.ref x :: rest))) : W p l e R s m args below meth c H locs cells slots Q (F0 m pc ls (rest)) := lv_aload_n C.1 C.2.1 hd rfl (hl.at hv) kk
theorem cb_istore_n (C : CallFix p m c cc nL s args lw_all own) (hl : cb_L ls nL vs) {k : Fin 4} {x : Int32} (hd : decode cc pc = .ok (.istore_n k, 1)) (hn : (k : Nat) < nL)
    (kk : ∀ ls : Array Slot, cb_L ls nL (vs.set (k : Nat) (some (.int x))) → W p l e R s m args below meth c H locs cells slots Q (F0 m (pc + 1) ls rest)) : W p l e R s m args below meth c H locs cells slots Q (F0 m pc ls (.int x :: rest)) := lv_istore_n C.1 C.2.1 hd rfl hl.has hn rfl (fun ls h => kk ls (hl.st rfl h))
theorem cb_istore (C : CallFix p m c cc nL s args lw_all own) (hl : cb_L ls nL vs) {k : Nat} {x : Int32} (hd : decode cc pc = .ok (.istore k, 2)) (hn : k < nL)
    (kk : ∀ ls : Array Slot, cb_L ls nL (vs.set k (some (.int x))) → W p l e R s m args below meth c H locs cells slots Q (F0 m (pc + 2) ls rest)) : W p l e R s m args below meth c H locs cells slots Q (F0 m pc ls (.int x :: rest)) := lv_istore C.1 C.2.1 hd hl.has hn rfl (fun ls h => kk ls (hl.st rfl h))
theorem cb_astore_n (C : CallFix p m c cc nL s args lw_all own) (hl : cb_L ls nL vs) {k : Fin 4} {x : Nat} (hd : decode cc pc = .ok (.astore_n k, 1)) (hn : (k : Nat) < nL)
    (kk : ∀ ls : Array Slot, cb_L ls nL (vs.set (k : Nat) (some (.ref x))) → W p l e R s m args below meth c H locs cells slots Q (F0 m (pc + 1) ls rest)) : W p l e R s m args below meth c H locs cells slots Q (F0 m pc ls (.ref x :: rest)) := lv_astore_n C.1 C.2.1 hd rfl hl.has hn rfl (fun ls h => kk ls (hl.st rfl h))
theorem cb_iinc (C : CallFix p m c cc nL s args lw_all own) (hl : cb_L ls nL vs) {k : Nat} {n : Int} {a b : Nat} (hd : decode cc pc = .ok (.iinc k n, 3)) (hv : vs[k]? = some (some (.int (nI a)))) (hb : nI a + Int32.ofInt n = nI b) (hn : k < nL)
    (kk : ∀ ls : Array Slot, cb_L ls nL (vs.set k (some (.int (nI b)))) → W p l e R s m args below meth c H locs cells slots Q (F0 m (pc + 3) ls rest)) : W p l e R s m args below meth c H locs cells slots Q (F0 m pc ls rest) := by
  obtain ⟨j, hj⟩ := List.getElem?_of_mem (cb_l_mem (q := (k, .int (nI a))).mpr hv)
  exact lv_iinc C.1 C.2.1 hd hl.has hj hb hn rfl (fun ls h => kk ls (hl.st rfl h))
theorem cb_inc1 (C : CallFix p m c cc nL s args lw_all own) (hl : cb_L ls nL vs) {k : Nat} {a : Nat} (hd : decode cc pc = .ok (.iinc k 1, 3)) (hv : vs[k]? = some (some (.int (nI a)))) (hn : k < nL)
    (kk : ∀ ls : Array Slot, cb_L ls nL (vs.set k (some (.int (nI (a + 1))))) → W p l e R s m args below meth c H locs cells slots Q (F0 m (pc + 3) ls rest)) : W p l e R s m args below meth c H locs cells slots Q (F0 m pc ls rest) := cb_iinc C hl hd hv (nI_1 a) hn kk
theorem cb_iconst (C : CallFix p m c cc nL s args lw_all own) (N : Nat) {n : Int} (hd : decode cc pc = .ok (.iconst n, 1)) (hv : Int32.ofInt n = nI N)
    (kk : W p l e R s m args below meth c H locs cells slots Q (F0 m (pc + 1) ls (.int (nI N) :: rest))) : W p l e R s m args below meth c H locs cells slots Q (F0 m pc ls (rest)) := lv_iconst C.1 C.2.1 hd hv kk
theorem cb_bipush (C : CallFix p m c cc nL s args lw_all own) (N : Nat) {n : Int} (hd : decode cc pc = .ok (.bipush n, 2)) (hv : (Int8.ofInt n).toInt32 = nI N)
    (kk : W p l e R s m args below meth c H locs cells slots Q (F0 m (pc + 2) ls (.int (nI N) :: rest))) : W p l e R s m args below meth c H locs cells slots Q (F0 m pc ls (rest)) := lv_bipush C.1 C.2.1 hd hv kk
theorem cb_sipush (C : CallFix p m c cc nL s args lw_all own) (N : Nat) {n : Int} (hd : decode cc pc = .ok (.sipush n, 3)) (hv : (Int16.ofInt n).toInt32 = nI N)
    (kk : W p l e R s m args below meth c H locs cells slots Q (F0 m (pc + 3) ls (.int (nI N) :: rest))) : W p l e R s m args below meth c H locs cells slots Q (F0 m pc ls (rest)) := lv_sipush C.1 C.2.1 hd hv kk
theorem cb_iadd (C : CallFix p m c cc nL s args lw_all own) {a b : Nat} (hd : decode cc pc = .ok (.iadd, 1))
    (kk : W p l e R s m args below meth c H locs cells slots Q (F0 m (pc + 1) ls (.int (nI (a + b)) :: rest))) : W p l e R s m args below meth c H locs cells slots Q (F0 m pc ls (.int (nI b) :: .int (nI a) :: rest)) := lv_iadd C.1 C.2.1 hd (by rw [nI_add]; exact kk)
theorem cb_isub (C : CallFix p m c cc nL s args lw_all own) {a b : Nat} (hd : decode cc pc = .ok (.isub, 1)) (hab : b ≤ a)
    (kk : W p l e R s m args below meth c H locs cells slots Q (F0 m (pc + 1) ls (.int (nI (a - b)) :: rest))) : W p l e R s m args below meth c H locs cells slots Q (F0 m pc ls (.int (nI b) :: .int (nI a) :: rest)) := lv_isub C.1 C.2.1 hd (by rw [pk_sub hab]; exact kk)
theorem cb_iand (C : CallFix p m c cc nL s args lw_all own) {a b : Nat} (hd : decode cc pc = .ok (.iand, 1))
    (kk : W p l e R s m args below meth c H locs cells slots Q (F0 m (pc + 1) ls (.int (nI (a &&& b)) :: rest))) : W p l e R s m args below meth c H locs cells slots Q (F0 m pc ls (.int (nI b) :: .int (nI a) :: rest)) := lv_iand C.1 C.2.1 hd (by rw [nx_and]; exact kk)
theorem cb_ixor (C : CallFix p m c cc nL s args lw_all own) {a b : Nat} (hd : decode cc pc = .ok (.ixor, 1))
    (kk : W p l e R s m args below meth c H locs cells slots Q (F0 m (pc + 1) ls (.int (nI (a ^^^ b)) :: rest))) : W p l e R s m args below meth c H locs cells slots Q (F0 m pc ls (.int (nI b) :: .int (nI a) :: rest)) := lv_ixor C.1 C.2.1 hd (by rw [nx_xor]; exact kk)
theorem cb_ishl (C : CallFix p m c cc nL s args lw_all own) {k : Nat} (hd : decode cc pc = .ok (.ishl, 1)) (hk : k < 32)
    (kk : W p l e R s m args below meth c H locs cells slots Q (F0 m (pc + 1) ls (.int (nI (2 ^ k)) :: rest))) : W p l e R s m args below meth c H locs cells slots Q (F0 m pc ls (.int (nI k) :: .int (nI 1) :: rest)) := lv_ishl C.1 C.2.1 hd (by rw [cb_shl1 hk]; exact kk)
theorem cb_ishr (C : CallFix p m c cc nL s args lw_all own) {a k : Nat} (hd : decode cc pc = .ok (.ishr, 1)) (ha : a < 2147483648) (hk : k < 32)
    (kk : W p l e R s m args below meth c H locs cells slots Q (F0 m (pc + 1) ls (.int (nI (a >>> k)) :: rest))) : W p l e R s m args below meth c H locs cells slots Q (F0 m pc ls (.int (nI k) :: .int (nI a) :: rest)) := lv_ishr C.1 C.2.1 hd (by rw [cb_shr ha hk]; exact kk)
theorem cb_irem (C : CallFix p m c cc nL s args lw_all own) {a b : Nat} (hd : decode cc pc = .ok (.irem, 1)) (ha : a < 2147483648) (hb0 : 0 < b) (hb : b < 2147483648)
    (kk : W p l e R s m args below meth c H locs cells slots Q (F0 m (pc + 1) ls (.int (nI (a % b)) :: rest))) : W p l e R s m args below meth c H locs cells slots Q (F0 m pc ls (.int (nI b) :: .int (nI a) :: rest)) := lv_irem C.1 C.2.1 hd (nI_ne0 hb0 hb) (by rw [pk_rem ha hb0 hb]; exact kk)
theorem cb_dup (C : CallFix p m c cc nL s args lw_all own) {va : Value} (hd : decode cc pc = .ok (.dup, 1)) (hva : va.category = 1)
    (kk : W p l e R s m args below meth c H locs cells slots Q (F0 m (pc + 1) ls (va :: va :: rest))) : W p l e R s m args below meth c H locs cells slots Q (F0 m pc ls (va :: rest)) := lv_dup C.1 C.2.1 hd hva kk
theorem cb_dup2 (C : CallFix p m c cc nL s args lw_all own) {va vb : Value} (hd : decode cc pc = .ok (.dup2, 1)) (hva : va.category = 1) (hvb : vb.category = 1)
    (kk : W p l e R s m args below meth c H locs cells slots Q (F0 m (pc + 1) ls (va :: vb :: va :: vb :: rest))) : W p l e R s m args below meth c H locs cells slots Q (F0 m pc ls (va :: vb :: rest)) := lv_dup2_11 C.1 C.2.1 hd hva hvb kk
theorem cb_goto (C : CallFix p m c cc nL s args lw_all own) {off : Int} (tgt : Nat) (hd : decode cc pc = .ok (.goto off, 3)) (ht : (pc : Int) + off = (tgt : Int)) (kk : W p l e R s m args below meth c H locs cells slots Q (F0 m tgt ls rest)) : W p l e R s m args below meth c H locs cells slots Q (F0 m pc ls rest) := lv_goto C.1 C.2.1 hd ht kk
theorem cb_top {a b : Nat} (h : a = b) (kk : W p l e R s m args below meth c H locs cells slots Q (F0 m pc ls (.int (nI b) :: rest))) : W p l e R s m args below meth c H locs cells slots Q (F0 m pc ls (.int (nI a) :: rest)) := h ▸ kk
theorem cb_icmp_lt (C : CallFix p m c cc nL s args lw_all own) {a b : Nat} {off : Int} (tgt : Nat) (hd : decode cc pc = .ok (.if_icmp .lt off, 3)) (ht : (pc : Int) + off = (tgt : Int)) (ha : a < 2147483648) (hb : b < 2147483648)
    (kt : a < b → W p l e R s m args below meth c H locs cells slots Q (F0 m tgt ls rest)) (kf : b ≤ a → W p l e R s m args below meth c H locs cells slots Q (F0 m (pc + 3) ls rest)) : W p l e R s m args below meth c H locs cells slots Q (F0 m pc ls (.int (nI b) :: .int (nI a) :: rest)) := lv_icmp_lt C.1 C.2.1 hd ht (fun h => kt ((nI_ltI ha hb).mp h)) (fun h => kf (Nat.le_of_not_lt (fun q => h ((nI_ltI ha hb).mpr q))))
theorem cb_icmp_ge (C : CallFix p m c cc nL s args lw_all own) {a b : Nat} {off : Int} (tgt : Nat) (hd : decode cc pc = .ok (.if_icmp .ge off, 3)) (ht : (pc : Int) + off = (tgt : Int)) (ha : a < 2147483648) (hb : b < 2147483648)
    (kt : b ≤ a → W p l e R s m args below meth c H locs cells slots Q (F0 m tgt ls rest)) (kf : a < b → W p l e R s m args below meth c H locs cells slots Q (F0 m (pc + 3) ls rest)) : W p l e R s m args below meth c H locs cells slots Q (F0 m pc ls (.int (nI b) :: .int (nI a) :: rest)) := lv_icmp_ge C.1 C.2.1 hd ht (fun h => kt ((nI_leI hb ha).mp h)) (fun h => kf (Nat.lt_of_not_le (fun q => h ((nI_leI hb ha).mpr q))))
theorem cb_icmp_gt (C : CallFix p m c cc nL s args lw_all own) {a b : Nat} {off : Int} (tgt : Nat) (hd : decode cc pc = .ok (.if_icmp .gt off, 3)) (ht : (pc : Int) + off = (tgt : Int)) (ha : a < 2147483648) (hb : b < 2147483648)
    (kt : b < a → W p l e R s m args below meth c H locs cells slots Q (F0 m tgt ls rest)) (kf : a ≤ b → W p l e R s m args below meth c H locs cells slots Q (F0 m (pc + 3) ls rest)) : W p l e R s m args below meth c H locs cells slots Q (F0 m pc ls (.int (nI b) :: .int (nI a) :: rest)) := lv_icmp_gt C.1 C.2.1 hd ht (fun h => kt ((nI_ltI hb ha).mp h)) (fun h => kf (Nat.le_of_not_lt (fun q => h ((nI_ltI hb ha).mpr q))))
theorem cb_icmp_le (C : CallFix p m c cc nL s args lw_all own) {a b : Nat} {off : Int} (tgt : Nat) (hd : decode cc pc = .ok (.if_icmp .le off, 3)) (ht : (pc : Int) + off = (tgt : Int)) (ha : a < 2147483648) (hb : b < 2147483648)
    (kt : a ≤ b → W p l e R s m args below meth c H locs cells slots Q (F0 m tgt ls rest)) (kf : b < a → W p l e R s m args below meth c H locs cells slots Q (F0 m (pc + 3) ls rest)) : W p l e R s m args below meth c H locs cells slots Q (F0 m pc ls (.int (nI b) :: .int (nI a) :: rest)) := lv_icmp_le C.1 C.2.1 hd ht (fun h => kt ((nI_leI ha hb).mp h)) (fun h => kf (Nat.lt_of_not_le (fun q => h ((nI_leI ha hb).mpr q))))
theorem cb_icmp_eq (C : CallFix p m c cc nL s args lw_all own) {a b : Nat} {off : Int} (tgt : Nat) (hd : decode cc pc = .ok (.if_icmp .eq off, 3)) (ht : (pc : Int) + off = (tgt : Int)) (ha : a < 4294967296) (hb : b < 4294967296)
    (kt : a = b → W p l e R s m args below meth c H locs cells slots Q (F0 m tgt ls rest)) (kf : ¬ a = b → W p l e R s m args below meth c H locs cells slots Q (F0 m (pc + 3) ls rest)) : W p l e R s m args below meth c H locs cells slots Q (F0 m pc ls (.int (nI b) :: .int (nI a) :: rest)) := lv_icmp_eq C.1 C.2.1 hd ht (fun h => kt ((cb_eq ha hb).mp h)) (fun h => kf (fun q => h ((cb_eq ha hb).mpr q)))
theorem cb_icmp_ne (C : CallFix p m c cc nL s args lw_all own) {a b : Nat} {off : Int} (tgt : Nat) (hd : decode cc pc = .ok (.if_icmp .ne off, 3)) (ht : (pc : Int) + off = (tgt : Int)) (ha : a < 4294967296) (hb : b < 4294967296)
    (kt : ¬ a = b → W p l e R s m args below meth c H locs cells slots Q (F0 m tgt ls rest)) (kf : a = b → W p l e R s m args below meth c H locs cells slots Q (F0 m (pc + 3) ls rest)) : W p l e R s m args below meth c H locs cells slots Q (F0 m pc ls (.int (nI b) :: .int (nI a) :: rest)) := lv_icmp_ne C.1 C.2.1 hd ht (fun h => kt (fun q => h ((cb_eq ha hb).mpr q))) (fun h => kf ((cb_eq ha hb).mp h))
theorem cb_icmpS_lt (C : CallFix p m c cc nL s args lw_all own) {a b : Nat} {off : Int} (tgt : Nat) (hd : decode cc pc = .ok (.if_icmp .lt off, 3)) (ht : (pc : Int) + off = (tgt : Int)) (ha : a < 4294967296) (hb : b < 2147483648)
    (kt : (2147483648 ≤ a ∨ a < b) → W p l e R s m args below meth c H locs cells slots Q (F0 m tgt ls rest)) (kf : (a < 2147483648 ∧ b ≤ a) → W p l e R s m args below meth c H locs cells slots Q (F0 m (pc + 3) ls rest)) : W p l e R s m args below meth c H locs cells slots Q (F0 m pc ls (.int (nI b) :: .int (nI a) :: rest)) := lv_icmp_lt C.1 C.2.1 hd ht (fun h => kt ((cb_ltS ha hb).mp h)) (fun h => kf (by have q : ¬ (2147483648 ≤ a ∨ a < b) := fun z => h ((cb_ltS ha hb).mpr z); omega))
theorem cb_icmpS_le (C : CallFix p m c cc nL s args lw_all own) {a b : Nat} {off : Int} (tgt : Nat) (hd : decode cc pc = .ok (.if_icmp .le off, 3)) (ht : (pc : Int) + off = (tgt : Int)) (ha : a < 4294967296) (hb : b < 2147483648)
    (kt : (2147483648 ≤ a ∨ a ≤ b) → W p l e R s m args below meth c H locs cells slots Q (F0 m tgt ls rest)) (kf : (a < 2147483648 ∧ b < a) → W p l e R s m args below meth c H locs cells slots Q (F0 m (pc + 3) ls rest)) : W p l e R s m args below meth c H locs cells slots Q (F0 m pc ls (.int (nI b) :: .int (nI a) :: rest)) := lv_icmp_le C.1 C.2.1 hd ht (fun h => kt ((cb_leS ha hb).mp h)) (fun h => kf (by have q : ¬ (2147483648 ≤ a ∨ a ≤ b) := fun z => h ((cb_leS ha hb).mpr z); omega))
theorem cb_if_lt (C : CallFix p m c cc nL s args lw_all own) {a : Nat} {off : Int} (tgt : Nat) (hd : decode cc pc = .ok (.ifCond .lt off, 3)) (ht : (pc : Int) + off = (tgt : Int)) (ha : a < 4294967296)
    (kt : 2147483648 ≤ a → W p l e R s m args below meth c H locs cells slots Q (F0 m tgt ls rest)) (kf : a < 2147483648 → W p l e R s m args below meth c H locs cells slots Q (F0 m (pc + 3) ls rest)) : W p l e R s m args below meth c H locs cells slots Q (F0 m pc ls (.int (nI a) :: rest)) := lv_if_lt C.1 C.2.1 hd ht (fun h => kt ((cb_neg ha).mp h)) (fun h => kf (Nat.lt_of_not_le (fun q => h ((cb_neg ha).mpr q))))
theorem cb_if_ge (C : CallFix p m c cc nL s args lw_all own) {a : Nat} {off : Int} (tgt : Nat) (hd : decode cc pc = .ok (.ifCond .ge off, 3)) (ht : (pc : Int) + off = (tgt : Int)) (ha : a < 4294967296)
    (kt : a < 2147483648 → W p l e R s m args below meth c H locs cells slots Q (F0 m tgt ls rest)) (kf : 2147483648 ≤ a → W p l e R s m args below meth c H locs cells slots Q (F0 m (pc + 3) ls rest)) : W p l e R s m args below meth c H locs cells slots Q (F0 m pc ls (.int (nI a) :: rest)) := lv_if_ge C.1 C.2.1 hd ht (fun h => kt ((cb_nneg ha).mp h)) (fun h => kf (Nat.le_of_not_lt (fun q => h ((cb_nneg ha).mpr q))))
theorem cb_if_eq (C : CallFix p m c cc nL s args lw_all own) {a : Nat} {off : Int} (tgt : Nat) (hd : decode cc pc = .ok (.ifCond .eq off, 3)) (ht : (pc : Int) + off = (tgt : Int)) (ha : a < 4294967296)
    (kt : a = 0 → W p l e R s m args below meth c H locs cells slots Q (F0 m tgt ls rest)) (kf : ¬ a = 0 → W p l e R s m args below meth c H locs cells slots Q (F0 m (pc + 3) ls rest)) : W p l e R s m args below meth c H locs cells slots Q (F0 m pc ls (.int (nI a) :: rest)) := lv_if_eq C.1 C.2.1 hd ht (fun h => kt ((cb_eq ha (by decide)).mp (h.trans cb_0))) (fun h => kf (fun q => h (by rw [q]; exact nI_0)))
theorem cb_if_ne (C : CallFix p m c cc nL s args lw_all own) {a : Nat} {off : Int} (tgt : Nat) (hd : decode cc pc = .ok (.ifCond .ne off, 3)) (ht : (pc : Int) + off = (tgt : Int)) (ha : a < 4294967296)
    (kt : ¬ a = 0 → W p l e R s m args below meth c H locs cells slots Q (F0 m tgt ls rest)) (kf : a = 0 → W p l e R s m args below meth c H locs cells slots Q (F0 m (pc + 3) ls rest)) : W p l e R s m args below meth c H locs cells slots Q (F0 m pc ls (.int (nI a) :: rest)) := lv_if_ne C.1 C.2.1 hd ht (fun h => kt (fun q => h (by rw [q]; exact nI_0))) (fun h => kf ((cb_eq ha (by decide)).mp (h.trans cb_0)))
theorem cb_if_le (C : CallFix p m c cc nL s args lw_all own) {a : Nat} {off : Int} (tgt : Nat) (hd : decode cc pc = .ok (.ifCond .le off, 3)) (ht : (pc : Int) + off = (tgt : Int)) (ha : a < 2147483648)
    (kt : a = 0 → W p l e R s m args below meth c H locs cells slots Q (F0 m tgt ls rest)) (kf : 0 < a → W p l e R s m args below meth c H locs cells slots Q (F0 m (pc + 3) ls rest)) : W p l e R s m args below meth c H locs cells slots Q (F0 m pc ls (.int (nI a) :: rest)) := lv_if_le C.1 C.2.1 hd ht (fun h => kt (by have q := (nI_leI ha (by decide : 0 < 2147483648)).mp (by rw [nI_0]; exact h); omega)) (fun h => kf (Nat.pos_of_ne_zero (fun q => h (by rw [q, nI_0]; exact Int32.le_refl 0))))
end CBR
end
section
/-! worlds, contracts, calls -/
abbrev vwCl : List vw_C := [(RX0, TX0, 16), (RX1, TX1, 6)]
abbrev cb_T (cI cZ : ClassId) : List (ClassId × FieldType) := [(cI, .int), (cZ, .boolean)]
/-- a world that is a function of a state: held by the heap, its cells apart, nothing else changed since the method's start -/
def cb_W (D : va_G) (cI cZ : ClassId) (wd : cb_S → va_W) (A : Nat → Prop) (s : State) (σ : cb_S) (H : Heap) (locs : List Loc) : Prop :=
  va_K D vwCl (cb_T cI cZ) s ∧ va_P D vwCl (wd σ) H ∧ va_D A (wd σ) ∧ va_S A s.heap H locs ∧ ∀ q, s.heap.size ≤ q → A q
theorem cb_upd (σ : cb_S) (k i v : Nat) : upd (fun j => nI (σ k j)) i (nI v) = fun j => nI (cb_up σ k i v k j) := by
  funext j
  unfold upd cb_up
  by_cases h : j = i
  · simp [h]
  · simp [h]
/-- a contract: y returns r, the state moves from σ to σ' -/
def cb_C (l : Launch) (y : MethodName) (b : ByteArray) (nl : Nat) (rt : Option FieldType) (fr lo : Nat) (D : va_G) (cI cZ : ClassId) (wd : cb_S → va_W) (as : List Value) (σ : cb_S) (r : Option Nat) (σ' : cb_S) : Prop :=
  ∀ sz : Nat, Met l y (ws_ y b nl rt) { frames := fr, cells := 0, slots := 0, locals := lo } (va_Pc as (fun U => U.heap.size = sz ∧ va_P D vwCl (wd σ) U.heap ∧ va_K D vwCl (cb_T cI cZ) U ∧ va_D (fun _ => True) (wd σ)))
    (fun _ st oc t => (oc = .returned (r.map (fun k => Value.int (nI k))) ∧ va_P D vwCl (wd σ') t.heap ∧ va_K D vwCl (cb_T cI cZ) t ∧ va_D (va_A (wd σ) sz) (wd σ')) ∧ va_F (va_A (wd σ) sz) st t) 0 0 (va_A (wd σ) sz)
abbrev cb_R (fr lo : Nat) : Room := { frames := fr, cells := 0, slots := 0, locals := lo }

theorem cb_ofI {l : Launch} {y : MethodName} {b : ByteArray} {nl fr lo : Nat} {D : va_G} {cI cZ : ClassId} {wd : cb_S → va_W} {as : List Value} {σ σ' : cb_S} {r : Nat} (hy : plainName y.cls = true) (hc : as.all (fun v => v.category == 1) = true) (hn : (lg_sl as).length ≤ nl)
    (body : ∀ (p : Program) (e : Env) (s : State) (m : MethodId) (args : Array Value) (below : List Frame) (meth : Method) (c : Code) (A : Nat → Prop) (Q : State → Prop), CallFix p m c b nl s args lw_all y.cls → cb_W D cI cZ wd A s σ s.heap [] →
      (∀ (H : Heap) (locs : List Loc) (pc : Nat) (ls : Array Slot), cb_W D cI cZ wd A s σ' H locs → decode b pc = .ok (.ireturn, 1) → W p l e (cb_R fr lo) s m args below meth c H locs 0 0 Q (F0 m pc ls [.int (nI r)])) →
      ∀ ls : Array Slot, cb_L ls nl (as.map some ++ List.replicate (nl - as.length) none) → W p l e (cb_R fr lo) s m args below meth c s.heap [] 0 0 Q (F0 m 0 ls [])) : cb_C l y b nl (some .int) fr lo D cI cZ wd as σ (some r) σ' := by
  intro sz
  have hc' : ∀ v ∈ as, v.category = 1 := fun v hv => by
    have h := List.all_eq_true.mp hc v hv
    exact eq_of_beq h
  refine Met.ofW (cc := b) (maxL := nl) (ret := (some .int)) hy rfl ?_
  intro p e s m args below meth c s₁ B hml hv
  obtain ⟨rfl, hsz, hP, hK, hD0⟩ := hv
  have hts := atoms_spec (ws := ws_ y b nl (some .int)) B.pre
  have hts : ∀ w ∈ lw_all, w.before _ s = true := fun w h => hts w (List.mem_cons_of_mem _ h)
  have hown : s.vm.findClass y.cls = some m.cls := findClass_of_methodNamed B.named
  have hlocks := B.notSynchronized
  subst hsz
  have hD := hD0.self (sz := s.heap.size)
  rw [lg_entry_eq]
  have hE := cb_L.entry as hc' hn (fun i v h => by have := cb_args as hc' 0 i v h; rwa [Nat.zero_add] at this)
  refine body p e s m as.toArray below meth c (va_A (wd σ) s.heap.size) _ ⟨B.exec, B.bytes, hml, hown, hts⟩ ⟨hK, hP, hD, va_S.rf, fun q h => Or.inr h⟩ (fun H locs pc ls hw hd => ?_) _ (hE.wide _)
  exact W.iret B.exec B.bytes B.returns (fun t ht hW => ⟨⟨rfl, by rw [ht]; exact hw.2.1, va_K.moved hW.alike hw.1, hw.2.2.1⟩, hw.2.2.2.1.F ht⟩) hw.2.2.2.1.2.2 hd
theorem cb_ofZ {l : Launch} {y : MethodName} {b : ByteArray} {nl fr lo : Nat} {D : va_G} {cI cZ : ClassId} {wd : cb_S → va_W} {as : List Value} {σ σ' : cb_S} {r : Nat} (hr1 : r ≤ 1) (hy : plainName y.cls = true) (hc : as.all (fun v => v.category == 1) = true) (hn : (lg_sl as).length ≤ nl)
    (body : ∀ (p : Program) (e : Env) (s : State) (m : MethodId) (args : Array Value) (below : List Frame) (meth : Method) (c : Code) (A : Nat → Prop) (Q : State → Prop), CallFix p m c b nl s args lw_all y.cls → cb_W D cI cZ wd A s σ s.heap [] →
      (∀ (H : Heap) (locs : List Loc) (pc : Nat) (ls : Array Slot), cb_W D cI cZ wd A s σ' H locs → decode b pc = .ok (.ireturn, 1) → W p l e (cb_R fr lo) s m args below meth c H locs 0 0 Q (F0 m pc ls [.int (nI r)])) →
      ∀ ls : Array Slot, cb_L ls nl (as.map some ++ List.replicate (nl - as.length) none) → W p l e (cb_R fr lo) s m args below meth c s.heap [] 0 0 Q (F0 m 0 ls [])) : cb_C l y b nl (some .boolean) fr lo D cI cZ wd as σ (some r) σ' := by
  intro sz
  have hc' : ∀ v ∈ as, v.category = 1 := fun v hv => by
    have h := List.all_eq_true.mp hc v hv
    exact eq_of_beq h
  refine Met.ofW (cc := b) (maxL := nl) (ret := (some .boolean)) hy rfl ?_
  intro p e s m args below meth c s₁ B hml hv
  obtain ⟨rfl, hsz, hP, hK, hD0⟩ := hv
  have hts := atoms_spec (ws := ws_ y b nl (some .boolean)) B.pre
  have hts : ∀ w ∈ lw_all, w.before _ s = true := fun w h => hts w (List.mem_cons_of_mem _ h)
  have hown : s.vm.findClass y.cls = some m.cls := findClass_of_methodNamed B.named
  have hlocks := B.notSynchronized
  subst hsz
  have hD := hD0.self (sz := s.heap.size)
  rw [lg_entry_eq]
  have hE := cb_L.entry as hc' hn (fun i v h => by have := cb_args as hc' 0 i v h; rwa [Nat.zero_add] at this)
  refine body p e s m as.toArray below meth c (va_A (wd σ) s.heap.size) _ ⟨B.exec, B.bytes, hml, hown, hts⟩ ⟨hK, hP, hD, va_S.rf, fun q h => Or.inr h⟩ (fun H locs pc ls hw hd => ?_) _ (hE.wide _)
  exact W.zret B.exec B.bytes B.returns (cb_narz hr1) (fun t ht hW => ⟨⟨rfl, by rw [ht]; exact hw.2.1, va_K.moved hW.alike hw.1, hw.2.2.1⟩, hw.2.2.2.1.F ht⟩) hw.2.2.2.1.2.2 hd
theorem cb_ofV {l : Launch} {y : MethodName} {b : ByteArray} {nl fr lo : Nat} {D : va_G} {cI cZ : ClassId} {wd : cb_S → va_W} {as : List Value} {σ σ' : cb_S}  (hy : plainName y.cls = true) (hc : as.all (fun v => v.category == 1) = true) (hn : (lg_sl as).length ≤ nl)
    (body : ∀ (p : Program) (e : Env) (s : State) (m : MethodId) (args : Array Value) (below : List Frame) (meth : Method) (c : Code) (A : Nat → Prop) (Q : State → Prop), CallFix p m c b nl s args lw_all y.cls → cb_W D cI cZ wd A s σ s.heap [] →
      (∀ (H : Heap) (locs : List Loc) (pc : Nat) (ls : Array Slot), cb_W D cI cZ wd A s σ' H locs → decode b pc = .ok (.return_, 1) → W p l e (cb_R fr lo) s m args below meth c H locs 0 0 Q (F0 m pc ls [])) →
      ∀ ls : Array Slot, cb_L ls nl (as.map some ++ List.replicate (nl - as.length) none) → W p l e (cb_R fr lo) s m args below meth c s.heap [] 0 0 Q (F0 m 0 ls [])) : cb_C l y b nl none fr lo D cI cZ wd as σ none σ' := by
  intro sz
  have hc' : ∀ v ∈ as, v.category = 1 := fun v hv => by
    have h := List.all_eq_true.mp hc v hv
    exact eq_of_beq h
  refine Met.ofW (cc := b) (maxL := nl) (ret := none) hy rfl ?_
  intro p e s m args below meth c s₁ B hml hv
  obtain ⟨rfl, hsz, hP, hK, hD0⟩ := hv
  have hts := atoms_spec (ws := ws_ y b nl none) B.pre
  have hts : ∀ w ∈ lw_all, w.before _ s = true := fun w h => hts w (List.mem_cons_of_mem _ h)
  have hown : s.vm.findClass y.cls = some m.cls := findClass_of_methodNamed B.named
  have hlocks := B.notSynchronized
  subst hsz
  have hD := hD0.self (sz := s.heap.size)
  rw [lg_entry_eq]
  have hE := cb_L.entry as hc' hn (fun i v h => by have := cb_args as hc' 0 i v h; rwa [Nat.zero_add] at this)
  refine body p e s m as.toArray below meth c (va_A (wd σ) s.heap.size) _ ⟨B.exec, B.bytes, hml, hown, hts⟩ ⟨hK, hP, hD, va_S.rf, fun q h => Or.inr h⟩ (fun H locs pc ls hw hd => ?_) _ (hE.wide _)
  exact W.vret B.exec B.bytes B.returns (fun t ht hW => ⟨⟨rfl, by rw [ht]; exact hw.2.1, va_K.moved hW.alike hw.1, hw.2.2.1⟩, hw.2.2.2.1.F ht⟩) hw.2.2.2.1.2.2 hd
section CBC
variable {p : Program} {l : Launch} {e : Env} {R : Room} {s : State} {m : MethodId} {args : Array Value} {below : List Frame} {meth : Method} {c : Code} {H : Heap} {locs : List Loc} {cells slots : Nat} {Q : State → Prop}
variable {cc : ByteArray} {pc : Nat} {ls : Array Slot} {rest : List Value} {nL : Nat} {own : String} {D : va_G} {cI cZ : ClassId} {wd : cb_S → va_W} {A : Nat → Prop} {σ σ' : cb_S}
theorem cb_fin {r : Option Nat} {st0 : List Value} (hw : cb_W D cI cZ wd A s σ H locs)
    (hr : va_Run p l e R s m args below meth c H locs cells slots 0 0 (F0 m pc ls st0) rest (fun st oc t => (oc = .returned (r.map (fun k => Value.int (nI k))) ∧ va_P D vwCl (wd σ') t.heap ∧ va_K D vwCl (cb_T cI cZ) t ∧ va_D (va_A (wd σ) H.size) (wd σ')) ∧ va_F (va_A (wd σ) H.size) st t) (va_A (wd σ) H.size))
    (kk : ∀ (H : Heap) (locs : List Loc), cb_W D cI cZ wd A s σ' H locs → W p l e R s m args below meth c H locs cells slots Q (F0 m (pc + 3) ls ((r.map (fun k => Value.int (nI k))).toList ++ rest))) : W p l e R s m args below meth c H locs cells slots Q (F0 m pc ls st0) := by
  obtain ⟨hK, hP, hD, hS, hA⟩ := hw
  have hF : ∀ q, va_A (wd σ) H.size q → A q := fun q h => by
    rcases h with ⟨k, e', h⟩ | h
    · exact hD.2 k _ h
    · exact hA q (Nat.le_trans hS.1 h)
  intro T hT X
  obtain ⟨v, st₀, t, T', L, h0, X', hL, e1, e2, ⟨⟨hv, hP1, hK1, hD1⟩, hz, hk⟩, st⟩ := hr T hT X
  cases hv
  rw [h0] at hz hk
  obtain ⟨t2, a1, b1⟩ := kk T'.heap (locs ++ L) ⟨hK, by rw [e1]; exact hP1, hD1.weaken (fun _ q _ h => hF q.1 h), ⟨Nat.le_trans hS.1 (by rw [e1]; exact hz), fun q h1 h2 => by rw [e1, hk q (Nat.lt_of_lt_of_le h1 hS.1) (fun z => h2 (hF q z))]; exact hS.2.1 q h1 h2, fun q hq => by
      rcases List.mem_append.mp hq with h | h
      · exact hS.2.2 q h
      · exact hF _ (hL q h)⟩, hA⟩ T' rfl X'
  exact ⟨t2, st t2 a1, b1⟩
theorem cb_blind (as : List Value) (sz : Nat) : FrameBlind (va_Pc as (fun U => U.heap.size = sz ∧ va_P D vwCl (wd σ) U.heap ∧ va_K D vwCl (cb_T cI cZ) U ∧ va_D (fun _ => True) (wd σ))) :=
  fun a U g mk q => by obtain ⟨q0, q1, qP, qK, qD⟩ := q; exact ⟨q0, q1, qP, va_K.moved (u := U) (U := U.calling g mk a) (Vm.Alike.refl U.vm) qK, qD⟩
theorem cb_callV (C : CallFix p m c cc nL s args lw_all own) (hw : cb_W D cI cZ wd A s σ H locs) {y : MethodName} {b : ByteArray} {nl fr lo n index h : Nat} {rt : Option FieldType} {as : List Value} {r : Option Nat} {CC : String} {st0 : List Value}
    (hM : cb_C l y b nl rt fr lo D cI cZ wd (.ref h :: as) σ r σ') (cw : CallW R s args own CC index y b nl rt (ws_ y b nl rt) (cb_R fr lo) 0 0 n) (hre : ∃ cell : Cell, H[h]? = some cell ∧ cell.vm.isStatics = false ∧ s.vm.findClass CC = some cell.cls)
    (hn : as.length = n) (hsize : ls.size = nL) (hst : st0 = as.reverse ++ .ref h :: rest) (hroom : (rest.map fun v => v.category).sum ≤ 8) (hcs : cells ≤ R.cells ∧ slots ≤ R.slots) (hd : decode cc pc = .ok (.invokevirtual index, 3))
    (kk : ∀ (H : Heap) (locs : List Loc), cb_W D cI cZ wd A s σ' H locs → W p l e R s m args below meth c H locs cells slots Q (F0 m (pc + 3) ls ((r.map (fun k => Value.int (nI k))).toList ++ rest))) : W p l e R s m args below meth c H locs cells slots Q (F0 m pc ls st0) := by
  subst hst
  refine cb_fin hw (va_runV C (hM H.size) cw ⟨cb_blind _ _, hre, fun U hU hW => ⟨rfl, by rw [hU], by rw [hU]; exact hw.2.1, va_K.moved hW.alike hw.1, hw.2.2.1.weaken (fun _ _ _ _ => trivial)⟩⟩ rfl hn hsize rfl (lv_room hroom) hd hcs) kk
theorem cb_callS (C : CallFix p m c cc nL s args lw_all own) (hw : cb_W D cI cZ wd A s σ H locs) {y : MethodName} {b : ByteArray} {nl fr lo n index : Nat} {rt : Option FieldType} {as : List Value} {r : Option Nat} {st0 : List Value}
    (hM : cb_C l y b nl rt fr lo D cI cZ wd as σ r σ') (cw : CallB R s args own index y b nl rt (ws_ y b nl rt) (cb_R fr lo) 0 0 n ∧ (Cond.static y).before args s = true)
    (hn : as.length = n) (hsize : ls.size = nL) (hst : st0 = as.reverse ++ rest) (hroom : (rest.map fun v => v.category).sum ≤ 8) (hcs : cells ≤ R.cells ∧ slots ≤ R.slots) (hd : decode cc pc = .ok (.invokestatic index, 3))
    (kk : ∀ (H : Heap) (locs : List Loc), cb_W D cI cZ wd A s σ' H locs → W p l e R s m args below meth c H locs cells slots Q (F0 m (pc + 3) ls ((r.map (fun k => Value.int (nI k))).toList ++ rest))) : W p l e R s m args below meth c H locs cells slots Q (F0 m pc ls st0) := by
  subst hst
  refine cb_fin hw (va_runS C (hM H.size) cw ⟨cb_blind _ _, fun U hU hW => ⟨rfl, by rw [hU], by rw [hU]; exact hw.2.1, va_K.moved hW.alike hw.1, hw.2.2.1.weaken (fun _ _ _ _ => trivial)⟩⟩ rfl hn hsize rfl (lv_room hroom) hd hcs) kk
end CBC

def cb_WX (h : Nat) (a : Nat → Nat) (cI cZ : ClassId) (σ : cb_S) : va_W := [(h, .inr (0, [.int (nI (σ 0 0)), .ref (a 1), .ref (a 2), .ref (a 3), .ref (a 4), .int (nI (σ 5 0)), .ref (a 6), .int (nI (σ 7 0)), .ref (a 8), .ref (a 9), .ref (a 10), .ref (a 11), .ref (a 12), .int (nI (σ 13 0)), .int (nI (σ 14 0)), .ref (a 15)])), (a 1, .inl (cI, 12, .inl (fun j => nI (σ 1 j)))), (a 2, .inl (cI, 12, .inl (fun j => nI (σ 2 j)))), (a 3, .inl (cI, 12, .inl (fun j => nI (σ 3 j)))), (a 4, .inl (cI, 7, .inl (fun j => nI (σ 4 j)))), (a 6, .inl (cI, 12, .inl (fun j => nI (σ 6 j)))), (a 8, .inl (cI, 12, .inl (fun j => nI (σ 8 j)))), (a 9, .inl (cI, 12, .inl (fun j => nI (σ 9 j)))), (a 10, .inl (cI, 14, .inl (fun j => nI (σ 10 j)))), (a 11, .inl (cI, 14, .inl (fun j => nI (σ 11 j)))), (a 12, .inl (cZ, 14, .inl (fun j => nI (σ 12 j)))), (a 15, .inl (cI, 12, .inl (fun j => nI (σ 15 j))))]
def cb_lenX : Nat → Option Nat := fun k => match k with
  | 1 => some 12
  | 2 => some 12
  | 3 => some 12
  | 4 => some 7
  | 6 => some 12
  | 8 => some 12
  | 9 => some 12
  | 10 => some 14
  | 11 => some 14
  | 15 => some 12
  | _ => none
def cb_posX : Nat → Nat := fun k => match k with
  | 1 => 1
  | 2 => 2
  | 3 => 3
  | 4 => 4
  | 6 => 5
  | 8 => 6
  | 9 => 7
  | 10 => 8
  | 11 => 9
  | 12 => 10
  | 15 => 11
  | _ => 0
theorem cb_lenX_lt {k n : Nat} (hk : cb_lenX k = some n) : n < 2147483648 := by
  unfold cb_lenX at hk
  split at hk <;> cases hk <;> decide
theorem cb_WX_at {h : Nat} {a : Nat → Nat} {cI cZ : ClassId} {σ : cb_S} {k n : Nat} (hk : cb_lenX k = some n) : (cb_WX h a cI cZ σ)[cb_posX k]? = some (a k, .inl (cI, n, .inl (fun j => nI (σ k j)))) := by
  unfold cb_lenX at hk
  split at hk <;> cases hk <;> rfl
theorem cb_WX_set {h : Nat} {a : Nat → Nat} {cI cZ : ClassId} {σ : cb_S} {k n i v : Nat} (hk : cb_lenX k = some n) : (cb_WX h a cI cZ σ).set (cb_posX k) (a k, .inl (cI, n, .inl (upd (fun j => nI (σ k j)) i (nI v)))) = cb_WX h a cI cZ (cb_up σ k i v) := by
  rw [cb_upd]
  unfold cb_lenX at hk
  split at hk <;> cases hk <;> simp [cb_WX, cb_posX, cb_up]
theorem cb_WX_setZ {h : Nat} {a : Nat → Nat} {cI cZ : ClassId} {σ : cb_S} {i v : Nat} : (cb_WX h a cI cZ σ).set 10 (a 12, .inl (cZ, 14, .inl (upd (fun j => nI (σ 12 j)) i (nI v)))) = cb_WX h a cI cZ (cb_up σ 12 i v) := by
  rw [cb_upd]
  simp [cb_WX, cb_up]
section CBX
variable {p : Program} {l : Launch} {e : Env} {R : Room} {s : State} {m : MethodId} {args : Array Value} {below : List Frame} {meth : Method} {c : Code} {H : Heap} {locs : List Loc} {cells slots : Nat} {Q : State → Prop}
variable {cc : ByteArray} {pc : Nat} {ls : Array Slot} {rest : List Value} {nL : Nat} {D : va_G} {cI cZ : ClassId} {A : Nat → Prop} {σ σ' : cb_S} {h : Nat} {a : Nat → Nat}
theorem cb_reX (hw : cb_W D cI cZ (cb_WX h a cI cZ) A s σ H locs) : ∃ cell : Cell, H[h]? = some cell ∧ cell.vm.isStatics = false ∧ s.vm.findClass RX0 = some cell.cls := va_recv hw.1 hw.2.1 (ci := 0) (q0 := 0) rfl rfl
theorem cb_xiald (C : CallFix p m c cc nL s args lw_all RX0) (hw : cb_W D cI cZ (cb_WX h a cI cZ) A s σ H locs) (hd : decode cc pc = .ok (.iaload, 1)) {k n i : Nat} (hk : cb_lenX k = some n) (hi : i < n)
    (kk : W p l e R s m args below meth c H locs cells slots Q (F0 m (pc + 1) ls (.int (nI (σ k i)) :: rest))) : W p l e R s m args below meth c H locs cells slots Q (F0 m pc ls (.int (nI i) :: .ref (a k) :: rest)) := by
  have hn := cb_lenX_lt hk
  have e1 : (nI i).toNatClampNeg = i := nI_clamp (by omega)
  refine va_iald C.1 C.2.1 hw.1 hw.2.1 (cb_posX k) 0 (cb_WX_at hk) rfl (i := nI i) (vp_in_nI hi hn) hd ?_
  rw [e1]
  exact kk
theorem cb_xiast (C : CallFix p m c cc nL s args lw_all RX0) (hw : cb_W D cI cZ (cb_WX h a cI cZ) A s σ H locs) (hd : decode cc pc = .ok (.iastore, 1)) {k n i v : Nat} (hk : cb_lenX k = some n) (hi : i < n)
    (kk : ∀ (H : Heap) (locs : List Loc), cb_W D cI cZ (cb_WX h a cI cZ) A s (cb_up σ k i v) H locs → W p l e R s m args below meth c H locs cells slots Q (F0 m (pc + 1) ls rest)) : W p l e R s m args below meth c H locs cells slots Q (F0 m pc ls (.int (nI v) :: .int (nI i) :: .ref (a k) :: rest)) := by
  have hn := cb_lenX_lt hk
  have e1 : (nI i).toNatClampNeg = i := nI_clamp (by omega)
  obtain ⟨hK, hP, hD, hS, hA⟩ := hw
  refine va_iast C.1 C.2.1 hK hP hD hS (cb_posX k) 0 (cb_WX_at hk) rfl (i := nI i) (vp_in_nI hi hn) hd (fun H1 locs1 hP1 hD1 hS1 => ?_)
  rw [e1, cb_WX_set hk] at hP1 hD1
  exact kk H1 locs1 ⟨hK, hP1, hD1, hS1, hA⟩
theorem cb_xbald (C : CallFix p m c cc nL s args lw_all RX0) (hw : cb_W D cI cZ (cb_WX h a cI cZ) A s σ H locs) (hd : decode cc pc = .ok (.baload, 1)) {i : Nat} (hi : i < 14)
    (kk : W p l e R s m args below meth c H locs cells slots Q (F0 m (pc + 1) ls (.int (nI (σ 12 i)) :: rest))) : W p l e R s m args below meth c H locs cells slots Q (F0 m pc ls (.int (nI i) :: .ref (a 12) :: rest)) := by
  have e1 : (nI i).toNatClampNeg = i := nI_clamp (by omega)
  refine va_zald C.1 C.2.1 hw.1 hw.2.1 10 1 rfl rfl (i := nI i) (vp_in_nI hi (by decide)) hd ?_
  rw [e1]
  exact kk
theorem cb_xbast (C : CallFix p m c cc nL s args lw_all RX0) (hw : cb_W D cI cZ (cb_WX h a cI cZ) A s σ H locs) (hd : decode cc pc = .ok (.bastore, 1)) {i v : Nat} (hi : i < 14) (hv : v ≤ 1)
    (kk : ∀ (H : Heap) (locs : List Loc), cb_W D cI cZ (cb_WX h a cI cZ) A s (cb_up σ 12 i v) H locs → W p l e R s m args below meth c H locs cells slots Q (F0 m (pc + 1) ls rest)) : W p l e R s m args below meth c H locs cells slots Q (F0 m pc ls (.int (nI v) :: .int (nI i) :: .ref (a 12) :: rest)) := by
  have e1 : (nI i).toNatClampNeg = i := nI_clamp (by omega)
  obtain ⟨hK, hP, hD, hS, hA⟩ := hw
  refine va_zast C.1 C.2.1 hK hP hD hS 10 1 rfl rfl (i := nI i) (x := nI v) (vp_in_nI hi (by decide)) hd (fun H1 locs1 hP1 hD1 hS1 => ?_)
  rw [e1, cb_narb hv, cb_WX_setZ] at hP1 hD1
  exact kk H1 locs1 ⟨hK, hP1, hD1, hS1, hA⟩
theorem cb_xg_44 (C : CallFix p m c cc nL s args lw_all RX0) (hw : cb_W D cI cZ (cb_WX h a cI cZ) A s σ H locs) (hd : decode cc pc = .ok (.getfield 44, 3)) (kk : W p l e R s m args below meth c H locs cells slots Q (F0 m (pc + 3) ls (.int (nI (σ 0 0)) :: rest))) : W p l e R s m args below meth c H locs cells slots Q (F0 m pc ls (.ref h :: rest)) :=
  va_get (ci := 0) (N := 16) (C := RX0) (T := TX0) C.1 C.2.1 C.2.2.2.2 in_X0 C.2.2.2.1 hw.1 hw.2.1 0 rfl rfl 0 (by decide) (C.2.2.2.2 _ q28) (fun _ h => h) rfl hd kk
theorem cb_xp_44 (C : CallFix p m c cc nL s args lw_all RX0) (hw : cb_W D cI cZ (cb_WX h a cI cZ) A s σ H locs) {v : Nat} (hd : decode cc pc = .ok (.putfield 44, 3)) (kk : ∀ (H : Heap) (locs : List Loc), cb_W D cI cZ (cb_WX h a cI cZ) A s (cb_up σ 0 0 v) H locs → W p l e R s m args below meth c H locs cells slots Q (F0 m (pc + 3) ls rest)) : W p l e R s m args below meth c H locs cells slots Q (F0 m pc ls (.int (nI v) :: .ref h :: rest)) := by
  obtain ⟨hK, hP, hD, hS, hA⟩ := hw
  refine va_put (ci := 0) (N := 16) (C := RX0) (T := TX0) C.1 C.2.1 C.2.2.2.2 in_X0 tyX0 tyX0_ok nmX0 C.2.2.2.1 hK hP hD hS 0 rfl rfl 0 (by decide) (C.2.2.2.2 _ q28) (fun _ h => h) rfl (ty := .int) (v := .int (nI v)) (by decide +kernel) rfl rfl (Nat.le_of_ble_eq_true rfl) hd (fun H1 locs1 hP1 hD1 hS1 => ?_)
  have e1 : (cb_WX h a cI cZ σ).set 0 (h, .inr (0, ([.int (nI (σ 0 0)), .ref (a 1), .ref (a 2), .ref (a 3), .ref (a 4), .int (nI (σ 5 0)), .ref (a 6), .int (nI (σ 7 0)), .ref (a 8), .ref (a 9), .ref (a 10), .ref (a 11), .ref (a 12), .int (nI (σ 13 0)), .int (nI (σ 14 0)), .ref (a 15)] : List Value).set 0 (.int (nI v)))) = cb_WX h a cI cZ (cb_up σ 0 0 v) := by
    simp [cb_WX, cb_up]
  exact kk H1 locs1 ⟨hK, e1 ▸ hP1, e1 ▸ hD1, hS1, hA⟩
theorem cb_xg_7 (C : CallFix p m c cc nL s args lw_all RX0) (hw : cb_W D cI cZ (cb_WX h a cI cZ) A s σ H locs) (hd : decode cc pc = .ok (.getfield 7, 3)) (kk : W p l e R s m args below meth c H locs cells slots Q (F0 m (pc + 3) ls (.ref (a 1) :: rest))) : W p l e R s m args below meth c H locs cells slots Q (F0 m pc ls (.ref h :: rest)) :=
  va_get (ci := 0) (N := 16) (C := RX0) (T := TX0) C.1 C.2.1 C.2.2.2.2 in_X0 C.2.2.2.1 hw.1 hw.2.1 0 rfl rfl 1 (by decide) (C.2.2.2.2 _ q29) (fun _ h => h) rfl hd kk
theorem cb_xg_13 (C : CallFix p m c cc nL s args lw_all RX0) (hw : cb_W D cI cZ (cb_WX h a cI cZ) A s σ H locs) (hd : decode cc pc = .ok (.getfield 13, 3)) (kk : W p l e R s m args below meth c H locs cells slots Q (F0 m (pc + 3) ls (.ref (a 2) :: rest))) : W p l e R s m args below meth c H locs cells slots Q (F0 m pc ls (.ref h :: rest)) :=
  va_get (ci := 0) (N := 16) (C := RX0) (T := TX0) C.1 C.2.1 C.2.2.2.2 in_X0 C.2.2.2.1 hw.1 hw.2.1 0 rfl rfl 2 (by decide) (C.2.2.2.2 _ q30) (fun _ h => h) rfl hd kk
theorem cb_xg_16 (C : CallFix p m c cc nL s args lw_all RX0) (hw : cb_W D cI cZ (cb_WX h a cI cZ) A s σ H locs) (hd : decode cc pc = .ok (.getfield 16, 3)) (kk : W p l e R s m args below meth c H locs cells slots Q (F0 m (pc + 3) ls (.ref (a 3) :: rest))) : W p l e R s m args below meth c H locs cells slots Q (F0 m pc ls (.ref h :: rest)) :=
  va_get (ci := 0) (N := 16) (C := RX0) (T := TX0) C.1 C.2.1 C.2.2.2.2 in_X0 C.2.2.2.1 hw.1 hw.2.1 0 rfl rfl 3 (by decide) (C.2.2.2.2 _ q31) (fun _ h => h) rfl hd kk
theorem cb_xg_19 (C : CallFix p m c cc nL s args lw_all RX0) (hw : cb_W D cI cZ (cb_WX h a cI cZ) A s σ H locs) (hd : decode cc pc = .ok (.getfield 19, 3)) (kk : W p l e R s m args below meth c H locs cells slots Q (F0 m (pc + 3) ls (.ref (a 4) :: rest))) : W p l e R s m args below meth c H locs cells slots Q (F0 m pc ls (.ref h :: rest)) :=
  va_get (ci := 0) (N := 16) (C := RX0) (T := TX0) C.1 C.2.1 C.2.2.2.2 in_X0 C.2.2.2.1 hw.1 hw.2.1 0 rfl rfl 4 (by decide) (C.2.2.2.2 _ q32) (fun _ h => h) rfl hd kk
theorem cb_xg_55 (C : CallFix p m c cc nL s args lw_all RX0) (hw : cb_W D cI cZ (cb_WX h a cI cZ) A s σ H locs) (hd : decode cc pc = .ok (.getfield 55, 3)) (kk : W p l e R s m args below meth c H locs cells slots Q (F0 m (pc + 3) ls (.int (nI (σ 5 0)) :: rest))) : W p l e R s m args below meth c H locs cells slots Q (F0 m pc ls (.ref h :: rest)) :=
  va_get (ci := 0) (N := 16) (C := RX0) (T := TX0) C.1 C.2.1 C.2.2.2.2 in_X0 C.2.2.2.1 hw.1 hw.2.1 0 rfl rfl 5 (by decide) (C.2.2.2.2 _ q33) (fun _ h => h) rfl hd kk
theorem cb_xp_55 (C : CallFix p m c cc nL s args lw_all RX0) (hw : cb_W D cI cZ (cb_WX h a cI cZ) A s σ H locs) {v : Nat} (hd : decode cc pc = .ok (.putfield 55, 3)) (kk : ∀ (H : Heap) (locs : List Loc), cb_W D cI cZ (cb_WX h a cI cZ) A s (cb_up σ 5 0 v) H locs → W p l e R s m args below meth c H locs cells slots Q (F0 m (pc + 3) ls rest)) : W p l e R s m args below meth c H locs cells slots Q (F0 m pc ls (.int (nI v) :: .ref h :: rest)) := by
  obtain ⟨hK, hP, hD, hS, hA⟩ := hw
  refine va_put (ci := 0) (N := 16) (C := RX0) (T := TX0) C.1 C.2.1 C.2.2.2.2 in_X0 tyX0 tyX0_ok nmX0 C.2.2.2.1 hK hP hD hS 0 rfl rfl 5 (by decide) (C.2.2.2.2 _ q33) (fun _ h => h) rfl (ty := .int) (v := .int (nI v)) (by decide +kernel) rfl rfl (Nat.le_of_ble_eq_true rfl) hd (fun H1 locs1 hP1 hD1 hS1 => ?_)
  have e1 : (cb_WX h a cI cZ σ).set 0 (h, .inr (0, ([.int (nI (σ 0 0)), .ref (a 1), .ref (a 2), .ref (a 3), .ref (a 4), .int (nI (σ 5 0)), .ref (a 6), .int (nI (σ 7 0)), .ref (a 8), .ref (a 9), .ref (a 10), .ref (a 11), .ref (a 12), .int (nI (σ 13 0)), .int (nI (σ 14 0)), .ref (a 15)] : List Value).set 5 (.int (nI v)))) = cb_WX h a cI cZ (cb_up σ 5 0 v) := by
    simp [cb_WX, cb_up]
  exact kk H1 locs1 ⟨hK, e1 ▸ hP1, e1 ▸ hD1, hS1, hA⟩
theorem cb_xg_22 (C : CallFix p m c cc nL s args lw_all RX0) (hw : cb_W D cI cZ (cb_WX h a cI cZ) A s σ H locs) (hd : decode cc pc = .ok (.getfield 22, 3)) (kk : W p l e R s m args below meth c H locs cells slots Q (F0 m (pc + 3) ls (.ref (a 6) :: rest))) : W p l e R s m args below meth c H locs cells slots Q (F0 m pc ls (.ref h :: rest)) :=
  va_get (ci := 0) (N := 16) (C := RX0) (T := TX0) C.1 C.2.1 C.2.2.2.2 in_X0 C.2.2.2.1 hw.1 hw.2.1 0 rfl rfl 6 (by decide) (C.2.2.2.2 _ q34) (fun _ h => h) rfl hd kk
theorem cb_xg_79 (C : CallFix p m c cc nL s args lw_all RX0) (hw : cb_W D cI cZ (cb_WX h a cI cZ) A s σ H locs) (hd : decode cc pc = .ok (.getfield 79, 3)) (kk : W p l e R s m args below meth c H locs cells slots Q (F0 m (pc + 3) ls (.int (nI (σ 7 0)) :: rest))) : W p l e R s m args below meth c H locs cells slots Q (F0 m pc ls (.ref h :: rest)) :=
  va_get (ci := 0) (N := 16) (C := RX0) (T := TX0) C.1 C.2.1 C.2.2.2.2 in_X0 C.2.2.2.1 hw.1 hw.2.1 0 rfl rfl 7 (by decide) (C.2.2.2.2 _ q35) (fun _ h => h) rfl hd kk
theorem cb_xp_79 (C : CallFix p m c cc nL s args lw_all RX0) (hw : cb_W D cI cZ (cb_WX h a cI cZ) A s σ H locs) {v : Nat} (hd : decode cc pc = .ok (.putfield 79, 3)) (kk : ∀ (H : Heap) (locs : List Loc), cb_W D cI cZ (cb_WX h a cI cZ) A s (cb_up σ 7 0 v) H locs → W p l e R s m args below meth c H locs cells slots Q (F0 m (pc + 3) ls rest)) : W p l e R s m args below meth c H locs cells slots Q (F0 m pc ls (.int (nI v) :: .ref h :: rest)) := by
  obtain ⟨hK, hP, hD, hS, hA⟩ := hw
  refine va_put (ci := 0) (N := 16) (C := RX0) (T := TX0) C.1 C.2.1 C.2.2.2.2 in_X0 tyX0 tyX0_ok nmX0 C.2.2.2.1 hK hP hD hS 0 rfl rfl 7 (by decide) (C.2.2.2.2 _ q35) (fun _ h => h) rfl (ty := .int) (v := .int (nI v)) (by decide +kernel) rfl rfl (Nat.le_of_ble_eq_true rfl) hd (fun H1 locs1 hP1 hD1 hS1 => ?_)
  have e1 : (cb_WX h a cI cZ σ).set 0 (h, .inr (0, ([.int (nI (σ 0 0)), .ref (a 1), .ref (a 2), .ref (a 3), .ref (a 4), .int (nI (σ 5 0)), .ref (a 6), .int (nI (σ 7 0)), .ref (a 8), .ref (a 9), .ref (a 10), .ref (a 11), .ref (a 12), .int (nI (σ 13 0)), .int (nI (σ 14 0)), .ref (a 15)] : List Value).set 7 (.int (nI v)))) = cb_WX h a cI cZ (cb_up σ 7 0 v) := by
    simp [cb_WX, cb_up]
  exact kk H1 locs1 ⟨hK, e1 ▸ hP1, e1 ▸ hD1, hS1, hA⟩
theorem cb_xg_25 (C : CallFix p m c cc nL s args lw_all RX0) (hw : cb_W D cI cZ (cb_WX h a cI cZ) A s σ H locs) (hd : decode cc pc = .ok (.getfield 25, 3)) (kk : W p l e R s m args below meth c H locs cells slots Q (F0 m (pc + 3) ls (.ref (a 8) :: rest))) : W p l e R s m args below meth c H locs cells slots Q (F0 m pc ls (.ref h :: rest)) :=
  va_get (ci := 0) (N := 16) (C := RX0) (T := TX0) C.1 C.2.1 C.2.2.2.2 in_X0 C.2.2.2.1 hw.1 hw.2.1 0 rfl rfl 8 (by decide) (C.2.2.2.2 _ q36) (fun _ h => h) rfl hd kk
theorem cb_xg_28 (C : CallFix p m c cc nL s args lw_all RX0) (hw : cb_W D cI cZ (cb_WX h a cI cZ) A s σ H locs) (hd : decode cc pc = .ok (.getfield 28, 3)) (kk : W p l e R s m args below meth c H locs cells slots Q (F0 m (pc + 3) ls (.ref (a 9) :: rest))) : W p l e R s m args below meth c H locs cells slots Q (F0 m pc ls (.ref h :: rest)) :=
  va_get (ci := 0) (N := 16) (C := RX0) (T := TX0) C.1 C.2.1 C.2.2.2.2 in_X0 C.2.2.2.1 hw.1 hw.2.1 0 rfl rfl 9 (by decide) (C.2.2.2.2 _ q37) (fun _ h => h) rfl hd kk
theorem cb_xg_31 (C : CallFix p m c cc nL s args lw_all RX0) (hw : cb_W D cI cZ (cb_WX h a cI cZ) A s σ H locs) (hd : decode cc pc = .ok (.getfield 31, 3)) (kk : W p l e R s m args below meth c H locs cells slots Q (F0 m (pc + 3) ls (.ref (a 10) :: rest))) : W p l e R s m args below meth c H locs cells slots Q (F0 m pc ls (.ref h :: rest)) :=
  va_get (ci := 0) (N := 16) (C := RX0) (T := TX0) C.1 C.2.1 C.2.2.2.2 in_X0 C.2.2.2.1 hw.1 hw.2.1 0 rfl rfl 10 (by decide) (C.2.2.2.2 _ q38) (fun _ h => h) rfl hd kk
theorem cb_xg_34 (C : CallFix p m c cc nL s args lw_all RX0) (hw : cb_W D cI cZ (cb_WX h a cI cZ) A s σ H locs) (hd : decode cc pc = .ok (.getfield 34, 3)) (kk : W p l e R s m args below meth c H locs cells slots Q (F0 m (pc + 3) ls (.ref (a 11) :: rest))) : W p l e R s m args below meth c H locs cells slots Q (F0 m pc ls (.ref h :: rest)) :=
  va_get (ci := 0) (N := 16) (C := RX0) (T := TX0) C.1 C.2.1 C.2.2.2.2 in_X0 C.2.2.2.1 hw.1 hw.2.1 0 rfl rfl 11 (by decide) (C.2.2.2.2 _ q39) (fun _ h => h) rfl hd kk
theorem cb_xg_37 (C : CallFix p m c cc nL s args lw_all RX0) (hw : cb_W D cI cZ (cb_WX h a cI cZ) A s σ H locs) (hd : decode cc pc = .ok (.getfield 37, 3)) (kk : W p l e R s m args below meth c H locs cells slots Q (F0 m (pc + 3) ls (.ref (a 12) :: rest))) : W p l e R s m args below meth c H locs cells slots Q (F0 m pc ls (.ref h :: rest)) :=
  va_get (ci := 0) (N := 16) (C := RX0) (T := TX0) C.1 C.2.1 C.2.2.2.2 in_X0 C.2.2.2.1 hw.1 hw.2.1 0 rfl rfl 12 (by decide) (C.2.2.2.2 _ q40) (fun _ h => h) rfl hd kk
theorem cb_xg_67 (C : CallFix p m c cc nL s args lw_all RX0) (hw : cb_W D cI cZ (cb_WX h a cI cZ) A s σ H locs) (hd : decode cc pc = .ok (.getfield 67, 3)) (kk : W p l e R s m args below meth c H locs cells slots Q (F0 m (pc + 3) ls (.int (nI (σ 13 0)) :: rest))) : W p l e R s m args below meth c H locs cells slots Q (F0 m pc ls (.ref h :: rest)) :=
  va_get (ci := 0) (N := 16) (C := RX0) (T := TX0) C.1 C.2.1 C.2.2.2.2 in_X0 C.2.2.2.1 hw.1 hw.2.1 0 rfl rfl 13 (by decide) (C.2.2.2.2 _ q41) (fun _ h => h) rfl hd kk
theorem cb_xp_67 (C : CallFix p m c cc nL s args lw_all RX0) (hw : cb_W D cI cZ (cb_WX h a cI cZ) A s σ H locs) {v : Nat} (hd : decode cc pc = .ok (.putfield 67, 3)) (kk : ∀ (H : Heap) (locs : List Loc), cb_W D cI cZ (cb_WX h a cI cZ) A s (cb_up σ 13 0 v) H locs → W p l e R s m args below meth c H locs cells slots Q (F0 m (pc + 3) ls rest)) : W p l e R s m args below meth c H locs cells slots Q (F0 m pc ls (.int (nI v) :: .ref h :: rest)) := by
  obtain ⟨hK, hP, hD, hS, hA⟩ := hw
  refine va_put (ci := 0) (N := 16) (C := RX0) (T := TX0) C.1 C.2.1 C.2.2.2.2 in_X0 tyX0 tyX0_ok nmX0 C.2.2.2.1 hK hP hD hS 0 rfl rfl 13 (by decide) (C.2.2.2.2 _ q41) (fun _ h => h) rfl (ty := .int) (v := .int (nI v)) (by decide +kernel) rfl rfl (Nat.le_of_ble_eq_true rfl) hd (fun H1 locs1 hP1 hD1 hS1 => ?_)
  have e1 : (cb_WX h a cI cZ σ).set 0 (h, .inr (0, ([.int (nI (σ 0 0)), .ref (a 1), .ref (a 2), .ref (a 3), .ref (a 4), .int (nI (σ 5 0)), .ref (a 6), .int (nI (σ 7 0)), .ref (a 8), .ref (a 9), .ref (a 10), .ref (a 11), .ref (a 12), .int (nI (σ 13 0)), .int (nI (σ 14 0)), .ref (a 15)] : List Value).set 13 (.int (nI v)))) = cb_WX h a cI cZ (cb_up σ 13 0 v) := by
    simp [cb_WX, cb_up]
  exact kk H1 locs1 ⟨hK, e1 ▸ hP1, e1 ▸ hD1, hS1, hA⟩
theorem cb_xg_70 (C : CallFix p m c cc nL s args lw_all RX0) (hw : cb_W D cI cZ (cb_WX h a cI cZ) A s σ H locs) (hd : decode cc pc = .ok (.getfield 70, 3)) (kk : W p l e R s m args below meth c H locs cells slots Q (F0 m (pc + 3) ls (.int (nI (σ 14 0)) :: rest))) : W p l e R s m args below meth c H locs cells slots Q (F0 m pc ls (.ref h :: rest)) :=
  va_get (ci := 0) (N := 16) (C := RX0) (T := TX0) C.1 C.2.1 C.2.2.2.2 in_X0 C.2.2.2.1 hw.1 hw.2.1 0 rfl rfl 14 (by decide) (C.2.2.2.2 _ q42) (fun _ h => h) rfl hd kk
theorem cb_xp_70 (C : CallFix p m c cc nL s args lw_all RX0) (hw : cb_W D cI cZ (cb_WX h a cI cZ) A s σ H locs) {v : Nat} (hd : decode cc pc = .ok (.putfield 70, 3)) (kk : ∀ (H : Heap) (locs : List Loc), cb_W D cI cZ (cb_WX h a cI cZ) A s (cb_up σ 14 0 v) H locs → W p l e R s m args below meth c H locs cells slots Q (F0 m (pc + 3) ls rest)) : W p l e R s m args below meth c H locs cells slots Q (F0 m pc ls (.int (nI v) :: .ref h :: rest)) := by
  obtain ⟨hK, hP, hD, hS, hA⟩ := hw
  refine va_put (ci := 0) (N := 16) (C := RX0) (T := TX0) C.1 C.2.1 C.2.2.2.2 in_X0 tyX0 tyX0_ok nmX0 C.2.2.2.1 hK hP hD hS 0 rfl rfl 14 (by decide) (C.2.2.2.2 _ q42) (fun _ h => h) rfl (ty := .int) (v := .int (nI v)) (by decide +kernel) rfl rfl (Nat.le_of_ble_eq_true rfl) hd (fun H1 locs1 hP1 hD1 hS1 => ?_)
  have e1 : (cb_WX h a cI cZ σ).set 0 (h, .inr (0, ([.int (nI (σ 0 0)), .ref (a 1), .ref (a 2), .ref (a 3), .ref (a 4), .int (nI (σ 5 0)), .ref (a 6), .int (nI (σ 7 0)), .ref (a 8), .ref (a 9), .ref (a 10), .ref (a 11), .ref (a 12), .int (nI (σ 13 0)), .int (nI (σ 14 0)), .ref (a 15)] : List Value).set 14 (.int (nI v)))) = cb_WX h a cI cZ (cb_up σ 14 0 v) := by
    simp [cb_WX, cb_up]
  exact kk H1 locs1 ⟨hK, e1 ▸ hP1, e1 ▸ hD1, hS1, hA⟩
theorem cb_xg_41 (C : CallFix p m c cc nL s args lw_all RX0) (hw : cb_W D cI cZ (cb_WX h a cI cZ) A s σ H locs) (hd : decode cc pc = .ok (.getfield 41, 3)) (kk : W p l e R s m args below meth c H locs cells slots Q (F0 m (pc + 3) ls (.ref (a 15) :: rest))) : W p l e R s m args below meth c H locs cells slots Q (F0 m pc ls (.ref h :: rest)) :=
  va_get (ci := 0) (N := 16) (C := RX0) (T := TX0) C.1 C.2.1 C.2.2.2.2 in_X0 C.2.2.2.1 hw.1 hw.2.1 0 rfl rfl 15 (by decide) (C.2.2.2.2 _ q43) (fun _ h => h) rfl hd kk
theorem cb_ldc58 (C : CallFix p m c cc nL s args lw_all RX0) (hd : decode cc pc = .ok (.ldc 58, 2)) (kk : W p l e R s m args below meth c H locs cells slots Q (F0 m (pc + 2) ls (.int (nI 1000000) :: rest))) : W p l e R s m args below meth c H locs cells slots Q (F0 m pc ls rest) := lv_ldc (v := nI 1000000) C.1 C.2.1 C.2.2.2.1 (C.2.2.2.2 _ q118) hd kk
end CBX
def cb_WM (h : Nat) (a : Nat → Nat) (cI cZ : ClassId) (σ : cb_S) : va_W := [(h, .inr (1, [.ref (a 0), .ref (a 1), .ref (a 2), .int (nI (σ 3 0)), .ref (a 4), .ref (a 5)])), (a 0, .inl (cI, 12, .inl (fun j => nI (σ 0 j)))), (a 1, .inl (cI, 12, .inl (fun j => nI (σ 1 j)))), (a 2, .inl (cI, 12, .inl (fun j => nI (σ 2 j)))), (a 4, .inl (cZ, 4096, .inl (fun j => nI (σ 4 j)))), (a 5, .inl (cI, 4096, .inl (fun j => nI (σ 5 j))))]
def cb_lenM : Nat → Option Nat := fun k => match k with
  | 0 => some 12
  | 1 => some 12
  | 2 => some 12
  | 5 => some 4096
  | _ => none
def cb_posM : Nat → Nat := fun k => match k with
  | 0 => 1
  | 1 => 2
  | 2 => 3
  | 4 => 4
  | 5 => 5
  | _ => 0
theorem cb_lenM_lt {k n : Nat} (hk : cb_lenM k = some n) : n < 2147483648 := by
  unfold cb_lenM at hk
  split at hk <;> cases hk <;> decide
theorem cb_WM_at {h : Nat} {a : Nat → Nat} {cI cZ : ClassId} {σ : cb_S} {k n : Nat} (hk : cb_lenM k = some n) : (cb_WM h a cI cZ σ)[cb_posM k]? = some (a k, .inl (cI, n, .inl (fun j => nI (σ k j)))) := by
  unfold cb_lenM at hk
  split at hk <;> cases hk <;> rfl
theorem cb_WM_set {h : Nat} {a : Nat → Nat} {cI cZ : ClassId} {σ : cb_S} {k n i v : Nat} (hk : cb_lenM k = some n) : (cb_WM h a cI cZ σ).set (cb_posM k) (a k, .inl (cI, n, .inl (upd (fun j => nI (σ k j)) i (nI v)))) = cb_WM h a cI cZ (cb_up σ k i v) := by
  rw [cb_upd]
  unfold cb_lenM at hk
  split at hk <;> cases hk <;> simp [cb_WM, cb_posM, cb_up]
theorem cb_WM_setZ {h : Nat} {a : Nat → Nat} {cI cZ : ClassId} {σ : cb_S} {i v : Nat} : (cb_WM h a cI cZ σ).set 4 (a 4, .inl (cZ, 4096, .inl (upd (fun j => nI (σ 4 j)) i (nI v)))) = cb_WM h a cI cZ (cb_up σ 4 i v) := by
  rw [cb_upd]
  simp [cb_WM, cb_up]
section CBM
variable {p : Program} {l : Launch} {e : Env} {R : Room} {s : State} {m : MethodId} {args : Array Value} {below : List Frame} {meth : Method} {c : Code} {H : Heap} {locs : List Loc} {cells slots : Nat} {Q : State → Prop}
variable {cc : ByteArray} {pc : Nat} {ls : Array Slot} {rest : List Value} {nL : Nat} {D : va_G} {cI cZ : ClassId} {A : Nat → Prop} {σ σ' : cb_S} {h : Nat} {a : Nat → Nat}
theorem cb_reM (hw : cb_W D cI cZ (cb_WM h a cI cZ) A s σ H locs) : ∃ cell : Cell, H[h]? = some cell ∧ cell.vm.isStatics = false ∧ s.vm.findClass RX1 = some cell.cls := va_recv hw.1 hw.2.1 (ci := 1) (q0 := 0) rfl rfl
theorem cb_miald (C : CallFix p m c cc nL s args lw_all RX1) (hw : cb_W D cI cZ (cb_WM h a cI cZ) A s σ H locs) (hd : decode cc pc = .ok (.iaload, 1)) {k n i : Nat} (hk : cb_lenM k = some n) (hi : i < n)
    (kk : W p l e R s m args below meth c H locs cells slots Q (F0 m (pc + 1) ls (.int (nI (σ k i)) :: rest))) : W p l e R s m args below meth c H locs cells slots Q (F0 m pc ls (.int (nI i) :: .ref (a k) :: rest)) := by
  have hn := cb_lenM_lt hk
  have e1 : (nI i).toNatClampNeg = i := nI_clamp (by omega)
  refine va_iald C.1 C.2.1 hw.1 hw.2.1 (cb_posM k) 0 (cb_WM_at hk) rfl (i := nI i) (vp_in_nI hi hn) hd ?_
  rw [e1]
  exact kk
theorem cb_miast (C : CallFix p m c cc nL s args lw_all RX1) (hw : cb_W D cI cZ (cb_WM h a cI cZ) A s σ H locs) (hd : decode cc pc = .ok (.iastore, 1)) {k n i v : Nat} (hk : cb_lenM k = some n) (hi : i < n)
    (kk : ∀ (H : Heap) (locs : List Loc), cb_W D cI cZ (cb_WM h a cI cZ) A s (cb_up σ k i v) H locs → W p l e R s m args below meth c H locs cells slots Q (F0 m (pc + 1) ls rest)) : W p l e R s m args below meth c H locs cells slots Q (F0 m pc ls (.int (nI v) :: .int (nI i) :: .ref (a k) :: rest)) := by
  have hn := cb_lenM_lt hk
  have e1 : (nI i).toNatClampNeg = i := nI_clamp (by omega)
  obtain ⟨hK, hP, hD, hS, hA⟩ := hw
  refine va_iast C.1 C.2.1 hK hP hD hS (cb_posM k) 0 (cb_WM_at hk) rfl (i := nI i) (vp_in_nI hi hn) hd (fun H1 locs1 hP1 hD1 hS1 => ?_)
  rw [e1, cb_WM_set hk] at hP1 hD1
  exact kk H1 locs1 ⟨hK, hP1, hD1, hS1, hA⟩
theorem cb_mbald (C : CallFix p m c cc nL s args lw_all RX1) (hw : cb_W D cI cZ (cb_WM h a cI cZ) A s σ H locs) (hd : decode cc pc = .ok (.baload, 1)) {i : Nat} (hi : i < 4096)
    (kk : W p l e R s m args below meth c H locs cells slots Q (F0 m (pc + 1) ls (.int (nI (σ 4 i)) :: rest))) : W p l e R s m args below meth c H locs cells slots Q (F0 m pc ls (.int (nI i) :: .ref (a 4) :: rest)) := by
  have e1 : (nI i).toNatClampNeg = i := nI_clamp (by omega)
  refine va_zald C.1 C.2.1 hw.1 hw.2.1 4 1 rfl rfl (i := nI i) (vp_in_nI hi (by decide)) hd ?_
  rw [e1]
  exact kk
theorem cb_mbast (C : CallFix p m c cc nL s args lw_all RX1) (hw : cb_W D cI cZ (cb_WM h a cI cZ) A s σ H locs) (hd : decode cc pc = .ok (.bastore, 1)) {i v : Nat} (hi : i < 4096) (hv : v ≤ 1)
    (kk : ∀ (H : Heap) (locs : List Loc), cb_W D cI cZ (cb_WM h a cI cZ) A s (cb_up σ 4 i v) H locs → W p l e R s m args below meth c H locs cells slots Q (F0 m (pc + 1) ls rest)) : W p l e R s m args below meth c H locs cells slots Q (F0 m pc ls (.int (nI v) :: .int (nI i) :: .ref (a 4) :: rest)) := by
  have e1 : (nI i).toNatClampNeg = i := nI_clamp (by omega)
  obtain ⟨hK, hP, hD, hS, hA⟩ := hw
  refine va_zast C.1 C.2.1 hK hP hD hS 4 1 rfl rfl (i := nI i) (x := nI v) (vp_in_nI hi (by decide)) hd (fun H1 locs1 hP1 hD1 hS1 => ?_)
  rw [e1, cb_narb hv, cb_WM_setZ] at hP1 hD1
  exact kk H1 locs1 ⟨hK, hP1, hD1, hS1, hA⟩
theorem cb_mg_7 (C : CallFix p m c cc nL s args lw_all RX1) (hw : cb_W D cI cZ (cb_WM h a cI cZ) A s σ H locs) (hd : decode cc pc = .ok (.getfield 7, 3)) (kk : W p l e R s m args below meth c H locs cells slots Q (F0 m (pc + 3) ls (.ref (a 0) :: rest))) : W p l e R s m args below meth c H locs cells slots Q (F0 m pc ls (.ref h :: rest)) :=
  va_get (ci := 1) (N := 6) (C := RX1) (T := TX1) C.1 C.2.1 C.2.2.2.2 in_X1 C.2.2.2.1 hw.1 hw.2.1 0 rfl rfl 0 (by decide) (C.2.2.2.2 _ q184) (fun _ h => h) rfl hd kk
theorem cb_mg_13 (C : CallFix p m c cc nL s args lw_all RX1) (hw : cb_W D cI cZ (cb_WM h a cI cZ) A s σ H locs) (hd : decode cc pc = .ok (.getfield 13, 3)) (kk : W p l e R s m args below meth c H locs cells slots Q (F0 m (pc + 3) ls (.ref (a 1) :: rest))) : W p l e R s m args below meth c H locs cells slots Q (F0 m pc ls (.ref h :: rest)) :=
  va_get (ci := 1) (N := 6) (C := RX1) (T := TX1) C.1 C.2.1 C.2.2.2.2 in_X1 C.2.2.2.1 hw.1 hw.2.1 0 rfl rfl 1 (by decide) (C.2.2.2.2 _ q185) (fun _ h => h) rfl hd kk
theorem cb_mg_16 (C : CallFix p m c cc nL s args lw_all RX1) (hw : cb_W D cI cZ (cb_WM h a cI cZ) A s σ H locs) (hd : decode cc pc = .ok (.getfield 16, 3)) (kk : W p l e R s m args below meth c H locs cells slots Q (F0 m (pc + 3) ls (.ref (a 2) :: rest))) : W p l e R s m args below meth c H locs cells slots Q (F0 m pc ls (.ref h :: rest)) :=
  va_get (ci := 1) (N := 6) (C := RX1) (T := TX1) C.1 C.2.1 C.2.2.2.2 in_X1 C.2.2.2.1 hw.1 hw.2.1 0 rfl rfl 2 (by decide) (C.2.2.2.2 _ q186) (fun _ h => h) rfl hd kk
theorem cb_mg_29 (C : CallFix p m c cc nL s args lw_all RX1) (hw : cb_W D cI cZ (cb_WM h a cI cZ) A s σ H locs) (hd : decode cc pc = .ok (.getfield 29, 3)) (kk : W p l e R s m args below meth c H locs cells slots Q (F0 m (pc + 3) ls (.int (nI (σ 3 0)) :: rest))) : W p l e R s m args below meth c H locs cells slots Q (F0 m pc ls (.ref h :: rest)) :=
  va_get (ci := 1) (N := 6) (C := RX1) (T := TX1) C.1 C.2.1 C.2.2.2.2 in_X1 C.2.2.2.1 hw.1 hw.2.1 0 rfl rfl 3 (by decide) (C.2.2.2.2 _ q187) (fun _ h => h) rfl hd kk
theorem cb_mp_29 (C : CallFix p m c cc nL s args lw_all RX1) (hw : cb_W D cI cZ (cb_WM h a cI cZ) A s σ H locs) {v : Nat} (hd : decode cc pc = .ok (.putfield 29, 3)) (kk : ∀ (H : Heap) (locs : List Loc), cb_W D cI cZ (cb_WM h a cI cZ) A s (cb_up σ 3 0 v) H locs → W p l e R s m args below meth c H locs cells slots Q (F0 m (pc + 3) ls rest)) : W p l e R s m args below meth c H locs cells slots Q (F0 m pc ls (.int (nI v) :: .ref h :: rest)) := by
  obtain ⟨hK, hP, hD, hS, hA⟩ := hw
  refine va_put (ci := 1) (N := 6) (C := RX1) (T := TX1) C.1 C.2.1 C.2.2.2.2 in_X1 tyX1 tyX1_ok nmX1 C.2.2.2.1 hK hP hD hS 0 rfl rfl 3 (by decide) (C.2.2.2.2 _ q187) (fun _ h => h) rfl (ty := .int) (v := .int (nI v)) (by decide +kernel) rfl rfl (Nat.le_of_ble_eq_true rfl) hd (fun H1 locs1 hP1 hD1 hS1 => ?_)
  have e1 : (cb_WM h a cI cZ σ).set 0 (h, .inr (1, ([.ref (a 0), .ref (a 1), .ref (a 2), .int (nI (σ 3 0)), .ref (a 4), .ref (a 5)] : List Value).set 3 (.int (nI v)))) = cb_WM h a cI cZ (cb_up σ 3 0 v) := by
    simp [cb_WM, cb_up]
  exact kk H1 locs1 ⟨hK, e1 ▸ hP1, e1 ▸ hD1, hS1, hA⟩
theorem cb_mg_19 (C : CallFix p m c cc nL s args lw_all RX1) (hw : cb_W D cI cZ (cb_WM h a cI cZ) A s σ H locs) (hd : decode cc pc = .ok (.getfield 19, 3)) (kk : W p l e R s m args below meth c H locs cells slots Q (F0 m (pc + 3) ls (.ref (a 4) :: rest))) : W p l e R s m args below meth c H locs cells slots Q (F0 m pc ls (.ref h :: rest)) :=
  va_get (ci := 1) (N := 6) (C := RX1) (T := TX1) C.1 C.2.1 C.2.2.2.2 in_X1 C.2.2.2.1 hw.1 hw.2.1 0 rfl rfl 4 (by decide) (C.2.2.2.2 _ q188) (fun _ h => h) rfl hd kk
theorem cb_mg_23 (C : CallFix p m c cc nL s args lw_all RX1) (hw : cb_W D cI cZ (cb_WM h a cI cZ) A s σ H locs) (hd : decode cc pc = .ok (.getfield 23, 3)) (kk : W p l e R s m args below meth c H locs cells slots Q (F0 m (pc + 3) ls (.ref (a 5) :: rest))) : W p l e R s m args below meth c H locs cells slots Q (F0 m pc ls (.ref h :: rest)) :=
  va_get (ci := 1) (N := 6) (C := RX1) (T := TX1) C.1 C.2.1 C.2.2.2.2 in_X1 C.2.2.2.1 hw.1 hw.2.1 0 rfl rfl 5 (by decide) (C.2.2.2.2 _ q189) (fun _ h => h) rfl hd kk
end CBM
end
section
/-! MIRRORS: what each method computes, as pure functions of the state. CycleBasis: 0 count, 1 from, 2 to, 3 weights, 4 group, 5 rank, 6 witness, 7 found, 8 cycle, 9 cycleWeight, 10 dist, 11 way, 12 done, 13 bestWeight, 14 bestSet, 15 pivot -/
def sw_g (σ : cb_S) : Nat → cb_S
  | 0 => cb_up σ 5 0 0
  | k + 1 => cb_up (sw_g σ k) 4 k k
def sw_m (σ : cb_S) (a b : Nat) : Nat → cb_S
  | 0 => σ
  | k + 1 => if sw_m σ a b k 4 k = b then cb_up (sw_m σ a b k) 4 k a else sw_m σ a b k
def sw_1 (s : cb_S) (e : Nat) : cb_S :=
  if s 4 (s 1 e) = s 4 (s 2 e) then cb_up (cb_up s 6 (s 5 0) (2 ^ e)) 5 0 (s 5 0 + 1) else sw_m s (s 4 (s 1 e)) (s 4 (s 2 e)) 7
def sw_e (σ : cb_S) : Nat → cb_S
  | 0 => sw_g σ 7
  | e + 1 => sw_1 (sw_e σ e) e
def sw_S (σ : cb_S) : cb_S := sw_e σ (σ 0 0)
/-- oddlyMet -/
def om_f (b : Nat) : Nat → Nat
  | 0 => 0
  | e + 1 => om_f b e ^^^ ((b >>> e) &&& 1)
def om_r (x y : Nat) : Nat := if om_f (x &&& y) 12 = 1 then 1 else 0
/-- nearest; 4294967295 is -1 -/
def ne_f (di dn : Nat → Nat) : Nat → Nat
  | 0 => 4294967295
  | x + 1 => if dn x = 0 ∧ di x < 1000000 ∧ (ne_f di dn x = 4294967295 ∨ di x < di (ne_f di dn x)) then x else ne_f di dn x
/-- relax -/
def rx_w (σ : cb_S) (x e : Nat) : Nat := if x % 7 = σ 1 e then σ 2 e else σ 1 e
def rx_y (σ : cb_S) (x e set : Nat) : Nat := if (if 7 ≤ x then 1 else 0) = ((set >>> e) &&& 1) then rx_w σ x e else rx_w σ x e + 7
def rx_S (σ : cb_S) (x e set : Nat) : cb_S :=
  if x % 7 ≠ σ 1 e ∧ x % 7 ≠ σ 2 e then σ
  else if σ 10 x + σ 3 e < σ 10 (rx_y σ x e set) then cb_up (cb_up σ 10 (rx_y σ x e set) (σ 10 x + σ 3 e)) 11 (rx_y σ x e set) (σ 11 x ^^^ 2 ^ e) else σ
/-- searchFrom -/
def sf_i (σ : cb_S) : Nat → cb_S
  | 0 => σ
  | k + 1 => cb_up (cb_up (cb_up (sf_i σ k) 10 k 1000000) 11 k 0) 12 k 0
def sf_r (σ : cb_S) (x set wo : Nat) : Nat → cb_S
  | 0 => σ
  | e + 1 => if e = wo then sf_r σ x set wo e else rx_S (sf_r σ x set wo e) x e set
def sf_1 (s : cb_S) (x set wo : Nat) : cb_S := sf_r (cb_up s 12 x 1) x set wo (s 0 0)
def sf_n (s : cb_S) : Nat := ne_f (s 10) (s 12) 14
def sf_l (set wo : Nat) : Nat → cb_S → Nat → cb_S
  | 0, s, _ => s
  | k + 1, s, x => if x = 4294967295 then s else sf_l set wo k (sf_1 s x set wo) (sf_n (sf_1 s x set wo))
def sf_S (σ : cb_S) (start set wo : Nat) : cb_S := sf_l set wo 14 (cb_up (sf_i σ 14) 10 start 0) start
/-- lightest -/
def li_1 (s : cb_S) (v : Nat) : cb_S := if s 10 (v + 7) < s 13 0 then cb_up (cb_up s 13 0 (s 10 (v + 7))) 14 0 (s 11 (v + 7)) else s
def li_f (σ : cb_S) (set : Nat) : Nat → cb_S
  | 0 => cb_up (cb_up σ 13 0 1000000) 14 0 0
  | v + 1 => li_1 (sf_S (li_f σ set v) v set 4294967295) v
def li_S (σ : cb_S) (set : Nat) : cb_S := li_f σ set 7
/-- addCycle -/
def ac_f (w : Nat) : Nat → cb_S → cb_S × Nat
  | 0, σ => (σ, 0)
  | k + 1, σ => if w < σ 9 k then ac_f w k (cb_up (cb_up σ 8 (k + 1) (σ 8 k)) 9 (k + 1) (σ 9 k)) else (σ, k + 1)
def ac_S (σ : cb_S) (set w : Nat) : cb_S :=
  cb_up (cb_up (cb_up (ac_f w (σ 7 0) σ).1 8 (ac_f w (σ 7 0) σ).2 set) 9 (ac_f w (σ 7 0) σ).2 w) 7 0 (σ 7 0 + 1)
/-- solve -/
def so_j (s : cb_S) (i : Nat) : Nat → cb_S
  | 0 => s
  | k + 1 => if om_r (so_j s i k 6 (i + 1 + k)) (so_j s i k 14 0) = 1 then cb_up (so_j s i k) 6 (i + 1 + k) (so_j s i k 6 (i + 1 + k) ^^^ so_j s i k 6 i) else so_j s i k
def so_1 (s : cb_S) (i : Nat) : cb_S := so_j (ac_S (li_S s (s 6 i)) (li_S s (s 6 i) 14 0) (li_S s (s 6 i) 13 0)) i (s 5 0 - (i + 1))
def so_i (s : cb_S) : Nat → cb_S
  | 0 => cb_up s 7 0 0
  | i + 1 => so_1 (so_i s i) i
def so_S (σ : cb_S) : cb_S := so_i (sw_S σ) (sw_S σ 5 0)
/-- total -/
def to_f (s : cb_S) : Nat → Nat
  | 0 => 0
  | i + 1 => to_f s i + s 9 i
/-- closed -/
def cl_f (σ : cb_S) (mask : Nat) : Nat → Nat
  | 0 => 0
  | e + 1 => if (mask >>> e) &&& 1 = 1 then cl_f σ mask e ^^^ (2 ^ σ 1 e ^^^ 2 ^ σ 2 e) else cl_f σ mask e
def cl_r (σ : cb_S) (mask : Nat) : Nat := if 2147483648 ≤ mask ∨ mask >>> σ 0 0 ≠ 0 then 0 else if cl_f σ mask (σ 0 0) = 0 then 1 else 0
/-- highest + 1 -/
def hi_f (s : Nat) : Nat → Nat
  | 0 => 0
  | k + 1 => if (s >>> k) &&& 1 = 0 then hi_f s k else k + 1
/-- reduce -/
def rd_f (pv : Nat → Nat) : Nat → Nat → Nat
  | 0, s => s
  | k + 1, s => rd_f pv k (if (s >>> k) &&& 1 = 1 ∧ pv k ≠ 0 then s ^^^ pv k else s)
/-- level -/
def le_z (σ : cb_S) : Nat → cb_S
  | 0 => σ
  | k + 1 => cb_up (le_z σ k) 15 k 0
def le_1 (s : cb_S) (i : Nat) : cb_S := if hi_f (rd_f (s 15) 12 (s 8 i)) 12 = 0 then s else cb_up s 15 (hi_f (rd_f (s 15) 12 (s 8 i)) 12 - 1) (rd_f (s 15) 12 (s 8 i))
def le_f (mask : Nat) : Nat → Nat → cb_S → cb_S × Nat
  | 0, _, s => (s, 4294967291)
  | f + 1, i, s => if rd_f (le_1 s i 15) 12 mask = 0 then (le_1 s i, s 9 i) else le_f mask f (i + 1) (le_1 s i)
def le_p (σ : cb_S) (mask : Nat) : cb_S × Nat :=
  if cl_r σ mask = 0 then (σ, 4294967291) else if mask = 0 then (σ, 0) else le_f mask (le_z (so_S σ) 12 7 0) 0 (le_z (so_S σ) 12)
/-- through, bridges -/
def th_v (s : cb_S) (e : Nat) : Nat := if 1000000 ≤ s 10 (s 2 e) then 4294967291 else s 10 (s 2 e) + s 3 e
def bg_f (σ : cb_S) : Nat → cb_S × Nat
  | 0 => (σ, 0)
  | e + 1 => (sf_S (bg_f σ e).1 ((bg_f σ e).1 1 e) 0 e, if 1000000 ≤ sf_S (bg_f σ e).1 ((bg_f σ e).1 1 e) 0 e 10 (sf_S (bg_f σ e).1 ((bg_f σ e).1 1 e) 0 e 2 e) then (bg_f σ e).2 + 1 else (bg_f σ e).2)
/-- edge, reweigh, dropLast, part -/
def ed_ok (u v w : Nat) : Prop := (u < 7 ∧ v < 7 ∧ u ≠ v) ∧ (1 ≤ w ∧ w ≤ 100)
def ed_p (σ : cb_S) (u v w : Nat) : cb_S × Nat :=
  if ¬ (u < 7 ∧ v < 7 ∧ u ≠ v) then (σ, 4294967295) else if ¬ (1 ≤ w ∧ w ≤ 100) then (σ, 4294967294) else if 12 ≤ σ 0 0 then (σ, 4294967293)
  else (cb_up (cb_up (cb_up (cb_up σ 1 (σ 0 0) u) 2 (σ 0 0) v) 3 (σ 0 0) w) 0 0 (σ 0 0 + 1), σ 0 0)
def rw_p (σ : cb_S) (e w : Nat) : cb_S × Nat :=
  if ¬ e < σ 0 0 then (σ, 4294967292) else if ¬ (1 ≤ w ∧ w ≤ 100) then (σ, 4294967294) else (cb_up σ 3 e w, σ 3 e)
def dr_p (σ : cb_S) : cb_S × Nat := if σ 0 0 = 0 then (σ, 4294967292) else (cb_up σ 0 0 (σ 0 0 - 1), σ 0 0 - 1)
def pa_r (s : cb_S) (i : Nat) : Nat := if i < s 7 0 then s 9 i else 4294967291
def th_p (σ : cb_S) (e : Nat) : cb_S × Nat := if ¬ e < σ 0 0 then (σ, 4294967292) else (sf_S σ (σ 1 e) 0 e, th_v (sf_S σ (σ 1 e) 0 e) e)
/-! THE MODEL: 0 us, 1 vs, 2 weights, 3 count, 4 sums, 5 closedWeight -/
def dg_f (τ : cb_S) (set v : Nat) : Nat → Nat
  | 0 => 0
  | e + 1 => if (set >>> e) &&& 1 ≠ 0 ∧ (τ 0 e = v ∨ τ 1 e = v) then dg_f τ set v e + 1 else dg_f τ set v e
/-- even, from vertex v on, k of them left -/
def ev_f (τ : cb_S) (set : Nat) : Nat → Nat → Nat
  | 0, _ => 1
  | k + 1, v => if dg_f τ set v (τ 3 0) % 2 = 0 then ev_f τ set k (v + 1) else 0
def ws_f (τ : cb_S) (set : Nat) : Nat → Nat
  | 0 => 0
  | e + 1 => if (set >>> e) &&& 1 ≠ 0 then ws_f τ set e + τ 2 e else ws_f τ set e
def cw_f (τ : cb_S) (set : Nat) : Nat := if set < 2 ^ τ 3 0 ∧ ev_f τ set 7 0 ≠ 0 then ws_f τ set (τ 3 0) else 4294967295
def rf_f (τ : cb_S) : Nat → cb_S
  | 0 => τ
  | k + 1 => cb_up (rf_f τ k) 5 k (cw_f (rf_f τ k) k)
def rf_S (τ : cb_S) : cb_S := rf_f τ 4096
def fo_f (τ : cb_S) : Nat → cb_S
  | 0 => τ
  | k + 1 => cb_up (fo_f τ k) 4 k (if k = 0 then 1 else 0)
def fo_S (τ : cb_S) : cb_S := fo_f τ 4096
def lt_f (cw sm : Nat → Nat) : Nat → Nat
  | 0 => 4294967295
  | x + 1 => if (cw x < 2147483648 ∧ sm x = 0) ∧ (lt_f cw sm x = 4294967295 ∨ cw x < cw (lt_f cw sm x)) then x else lt_f cw sm x
def lt_r (τ : cb_S) : Nat := lt_f (τ 5) (τ 4) 4096
def tk_f (τ : cb_S) (t : Nat) : Nat → cb_S
  | 0 => τ
  | k + 1 => if tk_f τ t k 4 k ≠ 0 ∧ tk_f τ t k 4 (k ^^^ t) = 0 then cb_up (tk_f τ t k) 4 (k ^^^ t) 1 else tk_f τ t k
def tk_S (τ : cb_S) (t : Nat) : cb_S := tk_f τ t 4096
/-- the model's rank: closed sets from 1 on, then the power -/
def rk_n (cw : Nat → Nat) : Nat → Nat
  | 0 => 0
  | k + 1 => if cw (k + 1) < 2147483648 then rk_n cw k + 1 else rk_n cw k
def rk_l (n : Nat) : Nat → Nat → Nat
  | 0, r => r
  | k + 1, r => if 2 ^ r < n + 1 then rk_l n k (r + 1) else r
def rk_r (τ : cb_S) : Nat := rk_l (rk_n (τ 5) 4095) 12 0
def mt_f : Nat → cb_S → Nat → cb_S × Nat
  | 0, τ, sum => (τ, sum)
  | k + 1, τ, sum => if lt_r τ = 4294967295 then mt_f k τ sum else mt_f k (tk_S τ (lt_r τ)) (sum + τ 5 (lt_r τ))
def mt_p (τ : cb_S) : cb_S × Nat := mt_f 12 (fo_S τ) 0
def mp_f (i : Nat) : Nat → Nat → cb_S → cb_S × Nat
  | 0, _, τ => (τ, 4294967291)
  | f + 1, k, τ => if lt_r τ = 4294967295 then (τ, 4294967291) else if k = i then (τ, τ 5 (lt_r τ)) else mp_f i f (k + 1) (tk_S τ (lt_r τ))
def mp_p (τ : cb_S) (i : Nat) : cb_S × Nat := mp_f i 12 0 (fo_S τ)
def mh_f (cw : Nat → Nat) (e : Nat) : Nat → Nat
  | 0 => 4294967291
  | k + 1 => if ((k + 1) >>> e) &&& 1 ≠ 0 ∧ cw (k + 1) < 2147483648 ∧ (2147483648 ≤ mh_f cw e k ∨ cw (k + 1) < mh_f cw e k) then cw (k + 1) else mh_f cw e k
def mh_r (τ : cb_S) (e : Nat) : Nat := if ¬ e < τ 3 0 then 4294967292 else mh_f (τ 5) e 4095
def mc_r (τ : cb_S) (mask : Nat) : Nat := if mask < 4096 ∧ τ 5 mask < 2147483648 then 1 else 0
def ml_f (mask : Nat) : Nat → cb_S → Nat → cb_S × Nat
  | 0, τ, last => (τ, last)
  | k + 1, τ, last => if τ 4 mask ≠ 0 then (τ, last) else ml_f mask k (tk_S τ (lt_r τ)) (τ 5 (lt_r τ))
def ml_p (τ : cb_S) (mask : Nat) : cb_S × Nat := if mc_r τ mask = 0 then (τ, 4294967291) else ml_f mask 12 (fo_S τ) 0
def mb_f (τ : cb_S) : Nat → Nat
  | 0 => 0
  | e + 1 => if mh_r τ e = 4294967291 then mb_f τ e + 1 else mb_f τ e
def me_p (τ : cb_S) (u v w : Nat) : cb_S × Nat :=
  if ¬ (u < 7 ∧ v < 7 ∧ u ≠ v) then (τ, 4294967295) else if ¬ (1 ≤ w ∧ w ≤ 100) then (τ, 4294967294) else if τ 3 0 = 12 then (τ, 4294967293)
  else (rf_S (cb_up (cb_up (cb_up (cb_up τ 0 (τ 3 0) u) 1 (τ 3 0) v) 2 (τ 3 0) w) 3 0 (τ 3 0 + 1)), τ 3 0)
def mr_p (τ : cb_S) (e w : Nat) : cb_S × Nat :=
  if ¬ e < τ 3 0 then (τ, 4294967292) else if ¬ (1 ≤ w ∧ w ≤ 100) then (τ, 4294967294) else (rf_S (cb_up τ 2 e w), τ 2 e)
def md_p (τ : cb_S) : cb_S × Nat := if τ 3 0 = 0 then (τ, 4294967292) else (rf_S (cb_up τ 3 0 (τ 3 0 - 1)), τ 3 0 - 1)
end
section
/-! what the calls ask -/
def R_law : String := "CycleBasisLaw"
theorem cwX0_X0_badVertex {R : Room} {s : State} {args : Array Value} (hts : ∀ w ∈ lw_all, w.before args s = true) (hR : 1 + 1 ≤ R.frames ∧ 8 + (1 + 11) + 0 ≤ R.locals) : CallB R s args RX0 48 yX0_badVertex cX0_badVertex 1 (some .boolean) (ws_ yX0_badVertex cX0_badVertex 1 (some .boolean)) (cb_R 1 0) 0 0 1 ∧ (Cond.static yX0_badVertex).before args s = true := va_cwS 1 hts (lw_S q83 q84 q18 q85) rfl rfl rfl (by decide +kernel) hR
theorem cwX0_X0_noEdge {R : Room} {s : State} {args : Array Value} (hts : ∀ w ∈ lw_all, w.before args s = true) (hR : 1 + 1 ≤ R.frames ∧ 8 + (2 + 11) + 0 ≤ R.locals) : CallW R s args RX0 RX0 52 yX0_noEdge cX0_noEdge 2 (some .boolean) (ws_ yX0_noEdge cX0_noEdge 2 (some .boolean)) (cb_R 1 0) 0 0 1 := cwV 1 hts (lw_V q90 q92 qs0 q18 q93) rfl rfl rfl (by decide +kernel) hR
theorem cwX0_X0_startWitnesses {R : Room} {s : State} {args : Array Value} (hts : ∀ w ∈ lw_all, w.before args s = true) (hR : 1 + 1 ≤ R.frames ∧ 8 + (5 + 11) + 0 ≤ R.locals) : CallW R s args RX0 RX0 76 yX0_startWitnesses cX0_startWitnesses 5 none (ws_ yX0_startWitnesses cX0_startWitnesses 5 none) (cb_R 1 0) 0 0 0 := cwV 0 hts (lw_V q102 q104 qs1 q18 q105) rfl rfl rfl (by decide +kernel) hR
theorem cwX0_X0_solve {R : Room} {s : State} {args : Array Value} (hts : ∀ w ∈ lw_all, w.before args s = true) (hR : 4 + 1 ≤ R.frames ∧ 8 + (4 + 11) + 76 ≤ R.locals) : CallW R s args RX0 RX0 94 yX0_solve cX0_solve 4 none (ws_ yX0_solve cX0_solve 4 none) (cb_R 4 76) 0 0 0 := cwV 0 hts (lw_V q110 q112 qs2 q18 q113) rfl rfl rfl (by decide +kernel) hR
theorem cwX0_X0_lightest {R : Room} {s : State} {args : Array Value} (hts : ∀ w ∈ lw_all, w.before args s = true) (hR : 3 + 1 ≤ R.frames ∧ 8 + (3 + 11) + 54 ≤ R.locals) : CallW R s args RX0 RX0 82 yX0_lightest cX0_lightest 3 none (ws_ yX0_lightest cX0_lightest 3 none) (cb_R 3 54) 0 0 1 := cwV 1 hts (lw_V q114 q116 qs3 q18 q117) rfl rfl rfl (by decide +kernel) hR
theorem cwX0_X0_searchFrom {R : Room} {s : State} {args : Array Value} (hts : ∀ w ∈ lw_all, w.before args s = true) (hR : 2 + 1 ≤ R.frames ∧ 8 + (7 + 11) + 28 ≤ R.locals) : CallW R s args RX0 RX0 73 yX0_searchFrom cX0_searchFrom 7 none (ws_ yX0_searchFrom cX0_searchFrom 7 none) (cb_R 2 28) 0 0 3 := cwV 3 hts (lw_V q119 q121 qs4 q18 q122) rfl rfl rfl (by decide +kernel) hR
theorem cwX0_X0_relax {R : Room} {s : State} {args : Array Value} (hts : ∀ w ∈ lw_all, w.before args s = true) (hR : 1 + 1 ≤ R.frames ∧ 8 + (9 + 11) + 0 ≤ R.locals) : CallW R s args RX0 RX0 59 yX0_relax cX0_relax 9 none (ws_ yX0_relax cX0_relax 9 none) (cb_R 1 0) 0 0 3 := cwV 3 hts (lw_V q123 q125 qs5 q18 q126) rfl rfl rfl (by decide +kernel) hR
theorem cwX0_X0_nearest {R : Room} {s : State} {args : Array Value} (hts : ∀ w ∈ lw_all, w.before args s = true) (hR : 1 + 1 ≤ R.frames ∧ 8 + (3 + 11) + 0 ≤ R.locals) : CallW R s args RX0 RX0 63 yX0_nearest cX0_nearest 3 (some .int) (ws_ yX0_nearest cX0_nearest 3 (some .int)) (cb_R 1 0) 0 0 0 := cwV 0 hts (lw_V q127 q129 qs6 q18 q130) rfl rfl rfl (by decide +kernel) hR
theorem cwX0_X0_addCycle {R : Room} {s : State} {args : Array Value} (hts : ∀ w ∈ lw_all, w.before args s = true) (hR : 1 + 1 ≤ R.frames ∧ 8 + (4 + 11) + 0 ≤ R.locals) : CallW R s args RX0 RX0 86 yX0_addCycle cX0_addCycle 4 none (ws_ yX0_addCycle cX0_addCycle 4 none) (cb_R 1 0) 0 0 2 := cwV 2 hts (lw_V q131 q133 qs7 q18 q134) rfl rfl rfl (by decide +kernel) hR
theorem cwX0_X0_oddlyMet {R : Room} {s : State} {args : Array Value} (hts : ∀ w ∈ lw_all, w.before args s = true) (hR : 1 + 1 ≤ R.frames ∧ 8 + (5 + 11) + 0 ≤ R.locals) : CallB R s args RX0 90 yX0_oddlyMet cX0_oddlyMet 5 (some .boolean) (ws_ yX0_oddlyMet cX0_oddlyMet 5 (some .boolean)) (cb_R 1 0) 0 0 2 ∧ (Cond.static yX0_oddlyMet).before args s = true := va_cwS 2 hts (lw_S q135 q136 q18 q137) rfl rfl rfl (by decide +kernel) hR
theorem cwX0_X0_closed {R : Room} {s : State} {args : Array Value} (hts : ∀ w ∈ lw_all, w.before args s = true) (hR : 1 + 1 ≤ R.frames ∧ 8 + (4 + 11) + 0 ≤ R.locals) : CallW R s args RX0 RX0 97 yX0_closed cX0_closed 4 (some .boolean) (ws_ yX0_closed cX0_closed 4 (some .boolean)) (cb_R 1 0) 0 0 1 := cwV 1 hts (lw_V q154 q147 q148 q18 q149) rfl rfl rfl (by decide +kernel) hR
theorem cwX0_X0_reduce {R : Room} {s : State} {args : Array Value} (hts : ∀ w ∈ lw_all, w.before args s = true) (hR : 1 + 1 ≤ R.frames ∧ 8 + (4 + 11) + 0 ≤ R.locals) : CallW R s args RX0 RX0 100 yX0_reduce cX0_reduce 4 (some .int) (ws_ yX0_reduce cX0_reduce 4 (some .int)) (cb_R 1 0) 0 0 1 := cwV 1 hts (lw_V q155 q157 qs8 q18 q158) rfl rfl rfl (by decide +kernel) hR
theorem cwX0_X0_highest {R : Room} {s : State} {args : Array Value} (hts : ∀ w ∈ lw_all, w.before args s = true) (hR : 1 + 1 ≤ R.frames ∧ 8 + (2 + 11) + 0 ≤ R.locals) : CallB R s args RX0 104 yX0_highest cX0_highest 2 (some .int) (ws_ yX0_highest cX0_highest 2 (some .int)) (cb_R 1 0) 0 0 1 ∧ (Cond.static yX0_highest).before args s = true := va_cwS 1 hts (lw_S q159 q160 q18 q161) rfl rfl rfl (by decide +kernel) hR
theorem cwX1_X1_refresh {R : Room} {s : State} {args : Array Value} (hts : ∀ w ∈ lw_all, w.before args s = true) (hR : 3 + 1 ≤ R.frames ∧ 8 + (4 + 11) + 46 ≤ R.locals) : CallW R s args RX1 RX1 26 yX1_refresh cX1_refresh 4 none (ws_ yX1_refresh cX1_refresh 4 none) (cb_R 3 46) 0 0 0 := cwV 0 hts (lw_V q172 q174 qs9 q19 q175) rfl rfl rfl (by decide +kernel) hR
theorem cwX1_X1_even {R : Room} {s : State} {args : Array Value} (hts : ∀ w ∈ lw_all, w.before args s = true) (hR : 2 + 1 ≤ R.frames ∧ 8 + (3 + 11) + 24 ≤ R.locals) : CallW R s args RX1 RX1 44 yX1_even cX1_even 3 (some .boolean) (ws_ yX1_even cX1_even 3 (some .boolean)) (cb_R 2 24) 0 0 1 := cwV 1 hts (lw_V q176 q178 qs10 q19 q179) rfl rfl rfl (by decide +kernel) hR
theorem cwX1_X1_degree {R : Room} {s : State} {args : Array Value} (hts : ∀ w ∈ lw_all, w.before args s = true) (hR : 1 + 1 ≤ R.frames ∧ 8 + (5 + 11) + 0 ≤ R.locals) : CallW R s args RX1 RX1 40 yX1_degree cX1_degree 5 (some .int) (ws_ yX1_degree cX1_degree 5 (some .int)) (cb_R 1 0) 0 0 2 := cwV 2 hts (lw_V q180 q182 qs11 q19 q183) rfl rfl rfl (by decide +kernel) hR
theorem cwX1_X1_isVertex {R : Room} {s : State} {args : Array Value} (hts : ∀ w ∈ lw_all, w.before args s = true) (hR : 1 + 1 ≤ R.frames ∧ 8 + (2 + 11) + 0 ≤ R.locals) : CallW R s args RX1 RX1 33 yX1_isVertex cX1_isVertex 2 (some .boolean) (ws_ yX1_isVertex cX1_isVertex 2 (some .boolean)) (cb_R 1 0) 0 0 1 := cwV 1 hts (lw_V q207 q209 qs12 q19 q210) rfl rfl rfl (by decide +kernel) hR
theorem cwX1_X1_isEdge {R : Room} {s : State} {args : Array Value} (hts : ∀ w ∈ lw_all, w.before args s = true) (hR : 1 + 1 ≤ R.frames ∧ 8 + (2 + 11) + 0 ≤ R.locals) : CallW R s args RX1 RX1 37 yX1_isEdge cX1_isEdge 2 (some .boolean) (ws_ yX1_isEdge cX1_isEdge 2 (some .boolean)) (cb_R 1 0) 0 0 1 := cwV 1 hts (lw_V q215 q217 qs13 q19 q218) rfl rfl rfl (by decide +kernel) hR
theorem cwX1_X1_forget {R : Room} {s : State} {args : Array Value} (hts : ∀ w ∈ lw_all, w.before args s = true) (hR : 1 + 1 ≤ R.frames ∧ 8 + (2 + 11) + 0 ≤ R.locals) : CallW R s args RX1 RX1 47 yX1_forget cX1_forget 2 none (ws_ yX1_forget cX1_forget 2 none) (cb_R 1 0) 0 0 0 := cwV 0 hts (lw_V q231 q233 qs14 q19 q234) rfl rfl rfl (by decide +kernel) hR
theorem cwX1_X1_lightest {R : Room} {s : State} {args : Array Value} (hts : ∀ w ∈ lw_all, w.before args s = true) (hR : 1 + 1 ≤ R.frames ∧ 8 + (4 + 11) + 0 ≤ R.locals) : CallW R s args RX1 RX1 50 yX1_lightest cX1_lightest 4 (some .int) (ws_ yX1_lightest cX1_lightest 4 (some .int)) (cb_R 1 0) 0 0 0 := cwV 0 hts (lw_V q235 q237 qs15 q19 q238) rfl rfl rfl (by decide +kernel) hR
theorem cwX1_X1_take {R : Room} {s : State} {args : Array Value} (hts : ∀ w ∈ lw_all, w.before args s = true) (hR : 1 + 1 ≤ R.frames ∧ 8 + (3 + 11) + 0 ≤ R.locals) : CallW R s args RX1 RX1 54 yX1_take cX1_take 3 none (ws_ yX1_take cX1_take 3 none) (cb_R 1 0) 0 0 1 := cwV 1 hts (lw_V q239 q241 qs16 q19 q242) rfl rfl rfl (by decide +kernel) hR
theorem cwX1_X1_closed {R : Room} {s : State} {args : Array Value} (hts : ∀ w ∈ lw_all, w.before args s = true) (hR : 1 + 1 ≤ R.frames ∧ 8 + (2 + 11) + 0 ≤ R.locals) : CallW R s args RX1 RX1 58 yX1_closed cX1_closed 2 (some .boolean) (ws_ yX1_closed cX1_closed 2 (some .boolean)) (cb_R 1 0) 0 0 1 := cwV 1 hts (lw_V q259 q252 q253 q19 q254) rfl rfl rfl (by decide +kernel) hR
theorem cwX1_X1_through {R : Room} {s : State} {args : Array Value} (hts : ∀ w ∈ lw_all, w.before args s = true) (hR : 2 + 1 ≤ R.frames ∧ 8 + (5 + 11) + 21 ≤ R.locals) : CallW R s args RX1 RX1 61 yX1_through cX1_through 5 (some .int) (ws_ yX1_through cX1_through 5 (some .int)) (cb_R 2 21) 0 0 1 := cwV 1 hts (lw_V q264 q248 q249 q19 q250) rfl rfl rfl (by decide +kernel) hR
theorem cwL_X0_edge {R : Room} {s : State} {args : Array Value} (hts : ∀ w ∈ lw_all, w.before args s = true) (hR : 2 + 1 ≤ R.frames ∧ 8 + (5 + 11) + 20 ≤ R.locals) : CallW R s args R_law RX0 13 yX0_edge cX0_edge 5 (some .int) (ws_ yX0_edge cX0_edge 5 (some .int)) (cb_R 2 20) 0 0 3 := cwV 3 hts (lw_V q79 q80 q81 q18 q82) rfl rfl rfl (by decide +kernel) hR
theorem cwL_X1_edge {R : Room} {s : State} {args : Array Value} (hts : ∀ w ∈ lw_all, w.before args s = true) (hR : 4 + 1 ≤ R.frames ∧ 8 + (4 + 11) + 69 ≤ R.locals) : CallW R s args R_law RX1 17 yX1_edge cX1_edge 4 (some .int) (ws_ yX1_edge cX1_edge 4 (some .int)) (cb_R 4 69) 0 0 3 := cwV 3 hts (lw_V q203 q204 q205 q19 q206) rfl rfl rfl (by decide +kernel) hR
theorem cwL_X0_reweigh {R : Room} {s : State} {args : Array Value} (hts : ∀ w ∈ lw_all, w.before args s = true) (hR : 2 + 1 ≤ R.frames ∧ 8 + (4 + 11) + 21 ≤ R.locals) : CallW R s args R_law RX0 18 yX0_reweigh cX0_reweigh 4 (some .int) (ws_ yX0_reweigh cX0_reweigh 4 (some .int)) (cb_R 2 21) 0 0 2 := cwV 2 hts (lw_V q86 q87 q88 q18 q89) rfl rfl rfl (by decide +kernel) hR
theorem cwL_X1_reweigh {R : Room} {s : State} {args : Array Value} (hts : ∀ w ∈ lw_all, w.before args s = true) (hR : 4 + 1 ≤ R.frames ∧ 8 + (4 + 11) + 69 ≤ R.locals) : CallW R s args R_law RX1 22 yX1_reweigh cX1_reweigh 4 (some .int) (ws_ yX1_reweigh cX1_reweigh 4 (some .int)) (cb_R 4 69) 0 0 2 := cwV 2 hts (lw_V q211 q212 q213 q19 q214) rfl rfl rfl (by decide +kernel) hR
theorem cwL_X0_dropLast {R : Room} {s : State} {args : Array Value} (hts : ∀ w ∈ lw_all, w.before args s = true) (hR : 1 + 1 ≤ R.frames ∧ 8 + (1 + 11) + 0 ≤ R.locals) : CallW R s args R_law RX0 23 yX0_dropLast cX0_dropLast 1 (some .int) (ws_ yX0_dropLast cX0_dropLast 1 (some .int)) (cb_R 1 0) 0 0 0 := cwV 0 hts (lw_V q94 q95 q96 q18 q97) rfl rfl rfl (by decide +kernel) hR
theorem cwL_X1_dropLast {R : Room} {s : State} {args : Array Value} (hts : ∀ w ∈ lw_all, w.before args s = true) (hR : 4 + 1 ≤ R.frames ∧ 8 + (1 + 11) + 69 ≤ R.locals) : CallW R s args R_law RX1 27 yX1_dropLast cX1_dropLast 1 (some .int) (ws_ yX1_dropLast cX1_dropLast 1 (some .int)) (cb_R 4 69) 0 0 0 := cwV 0 hts (lw_V q219 q220 q221 q19 q222) rfl rfl rfl (by decide +kernel) hR
theorem cwL_X0_rank {R : Room} {s : State} {args : Array Value} (hts : ∀ w ∈ lw_all, w.before args s = true) (hR : 2 + 1 ≤ R.frames ∧ 8 + (1 + 11) + 24 ≤ R.locals) : CallW R s args R_law RX0 28 yX0_rank cX0_rank 1 (some .int) (ws_ yX0_rank cX0_rank 1 (some .int)) (cb_R 2 24) 0 0 0 := cwV 0 hts (lw_V q98 q99 q100 q18 q101) rfl rfl rfl (by decide +kernel) hR
theorem cwL_X1_rank {R : Room} {s : State} {args : Array Value} (hts : ∀ w ∈ lw_all, w.before args s = true) (hR : 1 + 1 ≤ R.frames ∧ 8 + (3 + 11) + 0 ≤ R.locals) : CallW R s args R_law RX1 31 yX1_rank cX1_rank 3 (some .int) (ws_ yX1_rank cX1_rank 3 (some .int)) (cb_R 1 0) 0 0 0 := cwV 0 hts (lw_V q223 q224 q225 q19 q226) rfl rfl rfl (by decide +kernel) hR
theorem cwL_X0_total {R : Room} {s : State} {args : Array Value} (hts : ∀ w ∈ lw_all, w.before args s = true) (hR : 5 + 1 ≤ R.frames ∧ 8 + (3 + 11) + 99 ≤ R.locals) : CallW R s args R_law RX0 32 yX0_total cX0_total 3 (some .int) (ws_ yX0_total cX0_total 3 (some .int)) (cb_R 5 99) 0 0 0 := cwV 0 hts (lw_V q106 q107 q108 q18 q109) rfl rfl rfl (by decide +kernel) hR
theorem cwL_X1_total {R : Room} {s : State} {args : Array Value} (hts : ∀ w ∈ lw_all, w.before args s = true) (hR : 2 + 1 ≤ R.frames ∧ 8 + (4 + 11) + 23 ≤ R.locals) : CallW R s args R_law RX1 35 yX1_total cX1_total 4 (some .int) (ws_ yX1_total cX1_total 4 (some .int)) (cb_R 2 23) 0 0 0 := cwV 0 hts (lw_V q227 q228 q229 q19 q230) rfl rfl rfl (by decide +kernel) hR
theorem cwL_X0_part {R : Room} {s : State} {args : Array Value} (hts : ∀ w ∈ lw_all, w.before args s = true) (hR : 5 + 1 ≤ R.frames ∧ 8 + (2 + 11) + 99 ≤ R.locals) : CallW R s args R_law RX0 36 yX0_part cX0_part 2 (some .int) (ws_ yX0_part cX0_part 2 (some .int)) (cb_R 5 99) 0 0 1 := cwV 1 hts (lw_V q138 q139 q140 q18 q141) rfl rfl rfl (by decide +kernel) hR
theorem cwL_X1_part {R : Room} {s : State} {args : Array Value} (hts : ∀ w ∈ lw_all, w.before args s = true) (hR : 2 + 1 ≤ R.frames ∧ 8 + (4 + 11) + 23 ≤ R.locals) : CallW R s args R_law RX1 40 yX1_part cX1_part 4 (some .int) (ws_ yX1_part cX1_part 4 (some .int)) (cb_R 2 23) 0 0 1 := cwV 1 hts (lw_V q243 q244 q245 q19 q246) rfl rfl rfl (by decide +kernel) hR
theorem cwL_X0_through {R : Room} {s : State} {args : Array Value} (hts : ∀ w ∈ lw_all, w.before args s = true) (hR : 3 + 1 ≤ R.frames ∧ 8 + (2 + 11) + 54 ≤ R.locals) : CallW R s args R_law RX0 41 yX0_through cX0_through 2 (some .int) (ws_ yX0_through cX0_through 2 (some .int)) (cb_R 3 54) 0 0 1 := cwV 1 hts (lw_V q142 q143 q144 q18 q145) rfl rfl rfl (by decide +kernel) hR
theorem cwL_X1_through {R : Room} {s : State} {args : Array Value} (hts : ∀ w ∈ lw_all, w.before args s = true) (hR : 2 + 1 ≤ R.frames ∧ 8 + (5 + 11) + 21 ≤ R.locals) : CallW R s args R_law RX1 44 yX1_through cX1_through 5 (some .int) (ws_ yX1_through cX1_through 5 (some .int)) (cb_R 2 21) 0 0 1 := cwV 1 hts (lw_V q247 q248 q249 q19 q250) rfl rfl rfl (by decide +kernel) hR
theorem cwL_X0_closed {R : Room} {s : State} {args : Array Value} (hts : ∀ w ∈ lw_all, w.before args s = true) (hR : 1 + 1 ≤ R.frames ∧ 8 + (4 + 11) + 0 ≤ R.locals) : CallW R s args R_law RX0 45 yX0_closed cX0_closed 4 (some .boolean) (ws_ yX0_closed cX0_closed 4 (some .boolean)) (cb_R 1 0) 0 0 1 := cwV 1 hts (lw_V q146 q147 q148 q18 q149) rfl rfl rfl (by decide +kernel) hR
theorem cwL_X1_closed {R : Room} {s : State} {args : Array Value} (hts : ∀ w ∈ lw_all, w.before args s = true) (hR : 1 + 1 ≤ R.frames ∧ 8 + (2 + 11) + 0 ≤ R.locals) : CallW R s args R_law RX1 49 yX1_closed cX1_closed 2 (some .boolean) (ws_ yX1_closed cX1_closed 2 (some .boolean)) (cb_R 1 0) 0 0 1 := cwV 1 hts (lw_V q251 q252 q253 q19 q254) rfl rfl rfl (by decide +kernel) hR
theorem cwL_X0_level {R : Room} {s : State} {args : Array Value} (hts : ∀ w ∈ lw_all, w.before args s = true) (hR : 5 + 1 ≤ R.frames ∧ 8 + (7 + 11) + 99 ≤ R.locals) : CallW R s args R_law RX0 50 yX0_level cX0_level 7 (some .int) (ws_ yX0_level cX0_level 7 (some .int)) (cb_R 5 99) 0 0 1 := cwV 1 hts (lw_V q150 q151 q152 q18 q153) rfl rfl rfl (by decide +kernel) hR
theorem cwL_X1_level {R : Room} {s : State} {args : Array Value} (hts : ∀ w ∈ lw_all, w.before args s = true) (hR : 2 + 1 ≤ R.frames ∧ 8 + (5 + 11) + 23 ≤ R.locals) : CallW R s args R_law RX1 53 yX1_level cX1_level 5 (some .int) (ws_ yX1_level cX1_level 5 (some .int)) (cb_R 2 23) 0 0 1 := cwV 1 hts (lw_V q255 q256 q257 q19 q258) rfl rfl rfl (by decide +kernel) hR
theorem cwL_X0_bridges {R : Room} {s : State} {args : Array Value} (hts : ∀ w ∈ lw_all, w.before args s = true) (hR : 3 + 1 ≤ R.frames ∧ 8 + (3 + 11) + 54 ≤ R.locals) : CallW R s args R_law RX0 54 yX0_bridges cX0_bridges 3 (some .int) (ws_ yX0_bridges cX0_bridges 3 (some .int)) (cb_R 3 54) 0 0 0 := cwV 0 hts (lw_V q162 q163 q164 q18 q165) rfl rfl rfl (by decide +kernel) hR
theorem cwL_X1_bridges {R : Room} {s : State} {args : Array Value} (hts : ∀ w ∈ lw_all, w.before args s = true) (hR : 3 + 1 ≤ R.frames ∧ 8 + (3 + 11) + 45 ≤ R.locals) : CallW R s args R_law RX1 57 yX1_bridges cX1_bridges 3 (some .int) (ws_ yX1_bridges cX1_bridges 3 (some .int)) (cb_R 3 45) 0 0 0 := cwV 0 hts (lw_V q260 q261 q262 q19 q263) rfl rfl rfl (by decide +kernel) hR
section CBC2
variable {p : Program} {l : Launch} {e : Env} {R : Room} {s : State} {m : MethodId} {args : Array Value} {below : List Frame} {meth : Method} {c : Code} {H : Heap} {locs : List Loc} {cells slots : Nat} {Q : State → Prop}
variable {cc : ByteArray} {pc : Nat} {ls : Array Slot} {rest : List Value} {nL : Nat} {own : String} {D : va_G} {cI cZ : ClassId} {wd : cb_S → va_W} {A : Nat → Prop} {σ σ' : cb_S}
theorem cb_callVI (C : CallFix p m c cc nL s args lw_all own) (hw : cb_W D cI cZ wd A s σ H locs) {y : MethodName} {b : ByteArray} {nl fr lo n index h : Nat} {rt : Option FieldType} {as : List Value} {k : Nat} {CC : String} {st0 : List Value}
    (hM : cb_C l y b nl rt fr lo D cI cZ wd (.ref h :: as) σ (some k) σ') (cw : CallW R s args own CC index y b nl rt (ws_ y b nl rt) (cb_R fr lo) 0 0 n) (hre : ∃ cell : Cell, H[h]? = some cell ∧ cell.vm.isStatics = false ∧ s.vm.findClass CC = some cell.cls)
    (hn : as.length = n) (hsize : ls.size = nL) (hst : st0 = as.reverse ++ .ref h :: rest) (hroom : (rest.map fun v => v.category).sum ≤ 8) (hcs : cells ≤ R.cells ∧ slots ≤ R.slots) (hd : decode cc pc = .ok (.invokevirtual index, 3))
    (kk : ∀ (H : Heap) (locs : List Loc), cb_W D cI cZ wd A s σ' H locs → W p l e R s m args below meth c H locs cells slots Q (F0 m (pc + 3) ls (.int (nI k) :: rest))) : W p l e R s m args below meth c H locs cells slots Q (F0 m pc ls st0) :=
  cb_callV C hw hM cw hre hn hsize hst hroom hcs hd kk
theorem cb_callSI (C : CallFix p m c cc nL s args lw_all own) (hw : cb_W D cI cZ wd A s σ H locs) {y : MethodName} {b : ByteArray} {nl fr lo n index : Nat} {rt : Option FieldType} {as : List Value} {k : Nat} {st0 : List Value}
    (hM : cb_C l y b nl rt fr lo D cI cZ wd as σ (some k) σ') (cw : CallB R s args own index y b nl rt (ws_ y b nl rt) (cb_R fr lo) 0 0 n ∧ (Cond.static y).before args s = true)
    (hn : as.length = n) (hsize : ls.size = nL) (hst : st0 = as.reverse ++ rest) (hroom : (rest.map fun v => v.category).sum ≤ 8) (hcs : cells ≤ R.cells ∧ slots ≤ R.slots) (hd : decode cc pc = .ok (.invokestatic index, 3))
    (kk : ∀ (H : Heap) (locs : List Loc), cb_W D cI cZ wd A s σ' H locs → W p l e R s m args below meth c H locs cells slots Q (F0 m (pc + 3) ls (.int (nI k) :: rest))) : W p l e R s m args below meth c H locs cells slots Q (F0 m pc ls st0) :=
  cb_callS C hw hM cw hn hsize hst hroom hcs hd kk
theorem cb_callVV (C : CallFix p m c cc nL s args lw_all own) (hw : cb_W D cI cZ wd A s σ H locs) {y : MethodName} {b : ByteArray} {nl fr lo n index h : Nat} {rt : Option FieldType} {as : List Value} {CC : String} {st0 : List Value}
    (hM : cb_C l y b nl rt fr lo D cI cZ wd (.ref h :: as) σ none σ') (cw : CallW R s args own CC index y b nl rt (ws_ y b nl rt) (cb_R fr lo) 0 0 n) (hre : ∃ cell : Cell, H[h]? = some cell ∧ cell.vm.isStatics = false ∧ s.vm.findClass CC = some cell.cls)
    (hn : as.length = n) (hsize : ls.size = nL) (hst : st0 = as.reverse ++ .ref h :: rest) (hroom : (rest.map fun v => v.category).sum ≤ 8) (hcs : cells ≤ R.cells ∧ slots ≤ R.slots) (hd : decode cc pc = .ok (.invokevirtual index, 3))
    (kk : ∀ (H : Heap) (locs : List Loc), cb_W D cI cZ wd A s σ' H locs → W p l e R s m args below meth c H locs cells slots Q (F0 m (pc + 3) ls (rest))) : W p l e R s m args below meth c H locs cells slots Q (F0 m pc ls st0) :=
  cb_callV C hw hM cw hre hn hsize hst hroom hcs hd kk
theorem cb_callSV (C : CallFix p m c cc nL s args lw_all own) (hw : cb_W D cI cZ wd A s σ H locs) {y : MethodName} {b : ByteArray} {nl fr lo n index : Nat} {rt : Option FieldType} {as : List Value} {st0 : List Value}
    (hM : cb_C l y b nl rt fr lo D cI cZ wd as σ none σ') (cw : CallB R s args own index y b nl rt (ws_ y b nl rt) (cb_R fr lo) 0 0 n ∧ (Cond.static y).before args s = true)
    (hn : as.length = n) (hsize : ls.size = nL) (hst : st0 = as.reverse ++ rest) (hroom : (rest.map fun v => v.category).sum ≤ 8) (hcs : cells ≤ R.cells ∧ slots ≤ R.slots) (hd : decode cc pc = .ok (.invokestatic index, 3))
    (kk : ∀ (H : Heap) (locs : List Loc), cb_W D cI cZ wd A s σ' H locs → W p l e R s m args below meth c H locs cells slots Q (F0 m (pc + 3) ls (rest))) : W p l e R s m args below meth c H locs cells slots Q (F0 m pc ls st0) :=
  cb_callS C hw hM cw hn hsize hst hroom hcs hd kk
end CBC2
theorem cb_W.eq {D : va_G} {cI cZ : ClassId} {wd : cb_S → va_W} {A : Nat → Prop} {s : State} {σ σ' : cb_S} {H : Heap} {locs : List Loc} (hw : cb_W D cI cZ wd A s σ H locs) (h : σ = σ') : cb_W D cI cZ wd A s σ' H locs := h ▸ hw
end
section
/-! what the mirrors leave alone, and bounds -/
def cb_OK (σ : cb_S) : Prop := σ 0 0 ≤ 12 ∧ ∀ e, e < σ 0 0 → σ 1 e < 7 ∧ σ 2 e < 7 ∧ σ 1 e ≠ σ 2 e ∧ 1 ≤ σ 3 e ∧ σ 3 e ≤ 100
def cb_G (σ σ' : cb_S) : Prop := ∀ k, k < 4 → σ' k = σ k
theorem cb_G.rf (σ : cb_S) : cb_G σ σ := fun _ _ => rfl
theorem cb_G.tr {a b c : cb_S} (h : cb_G a b) (g : cb_G b c) : cb_G a c := fun k hk => (g k hk).trans (h k hk)
theorem cb_G.up {σ : cb_S} {k i v : Nat} (h : 4 ≤ k) : cb_G σ (cb_up σ k i v) := fun k' hk' => cb_up_k σ (by omega)
theorem cb_G.ok {σ σ' : cb_S} (g : cb_G σ σ') (h : cb_OK σ) : cb_OK σ' := by
  unfold cb_OK
  rw [g 0 (by decide), g 1 (by decide), g 2 (by decide), g 3 (by decide)]
  exact h
/-! startWitnesses -/
theorem sw_g_k (σ : cb_S) {k : Nat} (h4 : k ≠ 4) (h5 : k ≠ 5) (n : Nat) : sw_g σ n k = σ k := by
  induction n with
  | zero => simp [sw_g, cb_up_k, h5]
  | succ n ih => simp [sw_g, cb_up_k, h4, ih]
theorem sw_g_5 (σ : cb_S) (n : Nat) : sw_g σ n 5 0 = 0 := by
  induction n with
  | zero => simp [sw_g, cb_up]
  | succ n ih => simp [sw_g, cb_up, ih]
theorem sw_g_4 (σ : cb_S) (n : Nat) : ∀ v, v < n → sw_g σ n 4 v = v := by
  induction n with
  | zero => intro v h; omega
  | succ n ih =>
    intro v h
    by_cases hv : v = n
    · simp [sw_g, cb_up, hv]
    · simp [sw_g, cb_up, hv]; exact ih v (by omega)
theorem sw_m_k (σ : cb_S) (a b : Nat) {k : Nat} (h4 : k ≠ 4) (n : Nat) : sw_m σ a b n k = σ k := by
  induction n with
  | zero => simp [sw_m]
  | succ n ih =>
    unfold sw_m
    split
    · rw [cb_up_k _ h4, ih]
    · exact ih
theorem sw_m_4 (σ : cb_S) (a b n v : Nat) : sw_m σ a b n 4 v = if v < n ∧ σ 4 v = b then a else σ 4 v := by
  induction n with
  | zero => simp [sw_m]
  | succ n ih =>
    have hn : sw_m σ a b n 4 n = σ 4 n := by
      have : ∀ k, k ≤ n → sw_m σ a b k 4 n = σ 4 n := by
        intro k
        induction k with
        | zero => intro _; rfl
        | succ k ihk =>
          intro hk
          unfold sw_m
          split
          · rw [cb_up_i _ 4 (by omega : n ≠ k)]; exact ihk (by omega)
          · exact ihk (by omega)
      exact this n (Nat.le_refl n)
    unfold sw_m
    rw [hn]
    by_cases hv : v = n
    · subst hv
      by_cases hb : σ 4 v = b
      · rw [if_pos hb, cb_up_s, if_pos ⟨by omega, hb⟩]
      · rw [if_neg hb, hn, if_neg (fun q => hb q.2)]
    · by_cases hb : σ 4 n = b
      · rw [if_pos hb, cb_up_i _ 4 hv, ih]
        by_cases hc : v < n ∧ σ 4 v = b
        · rw [if_pos hc, if_pos ⟨by omega, hc.2⟩]
        · rw [if_neg hc, if_neg (fun q => hc ⟨by omega, q.2⟩)]
      · rw [if_neg hb, ih]
        by_cases hc : v < n ∧ σ 4 v = b
        · rw [if_pos hc, if_pos ⟨by omega, hc.2⟩]
        · rw [if_neg hc, if_neg (fun q => hc ⟨by omega, q.2⟩)]
theorem sw_1_k (s : cb_S) (e : Nat) {k : Nat} (h4 : k ≠ 4) (h5 : k ≠ 5) (h6 : k ≠ 6) : sw_1 s e k = s k := by
  unfold sw_1
  split
  · rw [cb_up_k _ h5, cb_up_k _ h6]
  · exact sw_m_k _ _ _ h4 _
theorem sw_e_k (σ : cb_S) {k : Nat} (h4 : k ≠ 4) (h5 : k ≠ 5) (h6 : k ≠ 6) (e : Nat) : sw_e σ e k = σ k := by
  induction e with
  | zero => exact sw_g_k σ h4 h5 7
  | succ e ih => unfold sw_e; rw [sw_1_k _ _ h4 h5 h6, ih]
theorem sw_e_G (σ : cb_S) (e : Nat) : cb_G σ (sw_e σ e) := fun k hk => sw_e_k σ (by omega) (by omega) (by omega) e
theorem sw_1_4 (s : cb_S) (e : Nat) (h : ∀ v, v < 7 → s 4 v < 7) (h1 : s 1 e < 7) : ∀ v, v < 7 → sw_1 s e 4 v < 7 := by
  intro v hv
  unfold sw_1
  split
  · rw [cb_up_k _ (by decide), cb_up_k _ (by decide)]; exact h v hv
  · rw [sw_m_4]
    split
    · exact h _ h1
    · exact h v hv
theorem sw_e_4 {σ : cb_S} (ok : cb_OK σ) : ∀ e, e ≤ σ 0 0 → ∀ v, v < 7 → sw_e σ e 4 v < 7 := by
  intro e
  induction e with
  | zero => intro _ v hv; unfold sw_e; rw [sw_g_4 σ 7 v hv]; exact hv
  | succ e ih =>
    intro he
    unfold sw_e
    refine sw_1_4 _ _ (ih (by omega)) ?_
    rw [sw_e_G σ e 1 (by decide)]
    exact (ok.2 e (by omega)).1
theorem sw_1_5 (s : cb_S) (e : Nat) : sw_1 s e 5 0 ≤ s 5 0 + 1 := by
  unfold sw_1
  split
  · rw [cb_up_s]; exact Nat.le_refl _
  · rw [sw_m_k _ _ _ (by decide)]; omega
theorem sw_e_5 (σ : cb_S) (e : Nat) : sw_e σ e 5 0 ≤ e := by
  induction e with
  | zero => unfold sw_e; rw [sw_g_5]; exact Nat.le_refl 0
  | succ e ih => unfold sw_e; have := sw_1_5 (sw_e σ e) e; omega
theorem sw_e_6 (σ : cb_S) (e : Nat) : ∀ j, j < sw_e σ e 5 0 → sw_e σ e 6 j < 2 ^ e := by
  induction e with
  | zero => intro j h; unfold sw_e at h; rw [sw_g_5] at h; omega
  | succ e ih =>
    intro j h
    have hp : 2 ^ (e + 1) = 2 ^ e + 2 ^ e := by rw [Nat.pow_succ]; omega
    have hq : 0 < 2 ^ e := Nat.two_pow_pos e
    unfold sw_e at h ⊢
    unfold sw_1 at h ⊢
    split
    · next hc =>
      rw [if_pos hc, cb_up_s] at h
      rw [cb_up_k _ (by decide)]
      by_cases hj : j = sw_e σ e 5 0
      · subst hj; rw [cb_up_s]; omega
      · rw [cb_up_i _ _ hj]; have := ih j (by omega); omega
    · next hc =>
      rw [if_neg hc, sw_m_k _ _ _ (by decide)] at h
      rw [sw_m_k _ _ _ (by decide)]
      have := ih j h; omega
theorem sw_S_k (σ : cb_S) {k : Nat} (h4 : k ≠ 4) (h5 : k ≠ 5) (h6 : k ≠ 6) : sw_S σ k = σ k := sw_e_k σ h4 h5 h6 _
theorem sw_S_G (σ : cb_S) : cb_G σ (sw_S σ) := sw_e_G σ _
theorem pw_12 {e : Nat} (h : e ≤ 12) : 2 ^ e ≤ 4096 := Nat.pow_le_pow_right (by decide) h
theorem sw_S_6 {σ : cb_S} (ok : cb_OK σ) : sw_S σ 5 0 ≤ 12 ∧ ∀ j, j < sw_S σ 5 0 → sw_S σ 6 j < 4096 :=
  ⟨Nat.le_trans (sw_e_5 σ _) ok.1, fun j hj => Nat.lt_of_lt_of_le (sw_e_6 σ _ j hj) (pw_12 ok.1)⟩
/-! nearest, relax, searchFrom -/
theorem ne_lt (di dn : Nat → Nat) (n : Nat) : ne_f di dn n = 4294967295 ∨ ne_f di dn n < n := by
  induction n with
  | zero => exact Or.inl rfl
  | succ n ih =>
    unfold ne_f
    split
    · exact Or.inr (by omega)
    · rcases ih with h | h
      · exact Or.inl h
      · exact Or.inr (by omega)
def sf_B (s : cb_S) : Prop := ∀ y, y < 14 → s 10 y ≤ 1000000 ∧ s 11 y < 4096
theorem rx_S_k (σ : cb_S) (x e set : Nat) {k : Nat} (h1 : k ≠ 10) (h2 : k ≠ 11) : rx_S σ x e set k = σ k := by
  unfold rx_S
  split
  · rfl
  · split
    · rw [cb_up_k _ h2, cb_up_k _ h1]
    · rfl
theorem rx_w_lt {σ : cb_S} (ok : cb_OK σ) {x e : Nat} (he : e < σ 0 0) : rx_w σ x e < 7 := by
  have h := ok.2 e he
  unfold rx_w
  split <;> omega
theorem rx_y_lt {σ : cb_S} (ok : cb_OK σ) {x e set : Nat} (he : e < σ 0 0) : rx_y σ x e set < 14 := by
  have h := rx_w_lt ok (x := x) he
  unfold rx_y
  generalize (if 7 ≤ x then 1 else 0) = q
  split <;> omega
theorem xor_12 {a b : Nat} (ha : a < 4096) (hb : b < 4096) : a ^^^ b < 4096 := Nat.xor_lt_two_pow (n := 12) ha hb
theorem rx_S_B {σ : cb_S} (ok : cb_OK σ) (hB : sf_B σ) {x e set : Nat} (hx : x < 14) (he : e < σ 0 0) : sf_B (rx_S σ x e set) := by
  intro y hy
  unfold rx_S
  split
  · exact hB y hy
  · split
    · next hlt =>
      have h1 := hB _ (rx_y_lt ok (x := x) (set := set) he)
      have h2 := ok.1
      by_cases hz : y = rx_y σ x e set
      · subst hz
        refine ⟨?_, ?_⟩
        · rw [cb_up_k _ (by decide), cb_up_s]; omega
        · rw [cb_up_s]
          exact xor_12 (hB x hx).2 (Nat.lt_of_lt_of_le (Nat.pow_lt_pow_right (by decide) (by omega : e < 12)) (Nat.le_refl (2 ^ 12)))
      · rw [cb_up_i _ _ hz, cb_up_i _ _ hz, cb_up_i _ _ hz, cb_up_i _ _ hz]
        exact hB y hy
    · exact hB y hy
theorem sf_r_k (σ : cb_S) (x set wo : Nat) {k : Nat} (h1 : k ≠ 10) (h2 : k ≠ 11) (e : Nat) : sf_r σ x set wo e k = σ k := by
  induction e with
  | zero => rfl
  | succ e ih =>
    unfold sf_r
    split
    · exact ih
    · rw [rx_S_k _ _ _ _ h1 h2]; exact ih
theorem sf_r_G (σ : cb_S) (x set wo e : Nat) : cb_G σ (sf_r σ x set wo e) := fun k hk => sf_r_k σ x set wo (by omega) (by omega) e
theorem sf_r_B {σ : cb_S} (ok : cb_OK σ) (hB : sf_B σ) {x : Nat} (set wo : Nat) (hx : x < 14) : ∀ e, e ≤ σ 0 0 → sf_B (sf_r σ x set wo e) := by
  intro e
  induction e with
  | zero => intro _; exact hB
  | succ e ih =>
    intro he
    unfold sf_r
    split
    · exact ih (by omega)
    · refine rx_S_B ((sf_r_G σ x set wo e).ok ok) (ih (by omega)) hx ?_
      rw [sf_r_G σ x set wo e 0 (by decide)]; omega
theorem sf_B_up {σ : cb_S} (hB : sf_B σ) {k i v : Nat} (h1 : k ≠ 10) (h2 : k ≠ 11) : sf_B (cb_up σ k i v) := by
  intro y hy
  rw [cb_up_k _ h1.symm, cb_up_k _ h2.symm]
  exact hB y hy
theorem sf_1_G (s : cb_S) (x set wo : Nat) : cb_G s (sf_1 s x set wo) := (cb_G.up (by decide)).tr (sf_r_G _ _ _ _ _)
theorem sf_1_k (s : cb_S) (x set wo : Nat) {k : Nat} (h1 : k ≠ 10) (h2 : k ≠ 11) (h3 : k ≠ 12) : sf_1 s x set wo k = s k := by
  unfold sf_1
  rw [sf_r_k _ _ _ _ h1 h2, cb_up_k _ h3]
theorem sf_1_B {s : cb_S} (ok : cb_OK s) (hB : sf_B s) {x : Nat} (set wo : Nat) (hx : x < 14) : sf_B (sf_1 s x set wo) := by
  refine sf_r_B ((cb_G.up (by decide)).ok ok) (sf_B_up hB (by decide) (by decide)) set wo hx _ ?_
  rw [cb_up_k _ (by decide)]
  exact Nat.le_refl _
theorem sf_l_k (set wo : Nat) {k : Nat} (h1 : k ≠ 10) (h2 : k ≠ 11) (h3 : k ≠ 12) : ∀ (n : Nat) (s : cb_S) (x : Nat), sf_l set wo n s x k = s k := by
  intro n
  induction n with
  | zero => intro s x; rfl
  | succ n ih =>
    intro s x
    unfold sf_l
    split
    · rfl
    · rw [ih, sf_1_k _ _ _ _ h1 h2 h3]
theorem sf_l_B (set wo : Nat) : ∀ (n : Nat) (s : cb_S) (x : Nat), cb_OK s → sf_B s → (x = 4294967295 ∨ x < 14) → sf_B (sf_l set wo n s x) := by
  intro n
  induction n with
  | zero => intro s x _ hB _; exact hB
  | succ n ih =>
    intro s x ok hB hx
    unfold sf_l
    split
    · exact hB
    · next h => exact ih _ _ ((sf_1_G _ _ _ _).ok ok) (sf_1_B ok hB set wo (by omega)) (ne_lt _ _ 14)
theorem sf_i_k (σ : cb_S) {k : Nat} (h1 : k ≠ 10) (h2 : k ≠ 11) (h3 : k ≠ 12) (n : Nat) : sf_i σ n k = σ k := by
  induction n with
  | zero => rfl
  | succ n ih => unfold sf_i; rw [cb_up_k _ h3, cb_up_k _ h2, cb_up_k _ h1, ih]
theorem sf_i_v (σ : cb_S) (n : Nat) : ∀ y, y < n → sf_i σ n 10 y = 1000000 ∧ sf_i σ n 11 y = 0 ∧ sf_i σ n 12 y = 0 := by
  induction n with
  | zero => intro y h; omega
  | succ n ih =>
    intro y h
    by_cases hy : y = n
    · subst hy; simp [sf_i, cb_up]
    · simp [sf_i, cb_up, hy]; exact ih y (by omega)
theorem sf_0_B (σ : cb_S) (start : Nat) : sf_B (cb_up (sf_i σ 14) 10 start 0) := by
  intro y hy
  obtain ⟨h1, h2, -⟩ := sf_i_v σ 14 y hy
  by_cases hs : y = start
  · subst hs; rw [cb_up_s, cb_up_k _ (by decide), h2]; omega
  · rw [cb_up_i _ _ hs, cb_up_i _ _ hs, h1, h2]; omega
theorem sf_0_G (σ : cb_S) (start : Nat) : cb_G σ (cb_up (sf_i σ 14) 10 start 0) := fun k hk => by
  rw [cb_up_k _ (by omega), sf_i_k _ (by omega) (by omega) (by omega)]
theorem sf_S_k (σ : cb_S) (start set wo : Nat) {k : Nat} (h1 : k ≠ 10) (h2 : k ≠ 11) (h3 : k ≠ 12) : sf_S σ start set wo k = σ k := by
  unfold sf_S
  rw [sf_l_k set wo h1 h2 h3, cb_up_k _ h1, sf_i_k _ h1 h2 h3]
theorem sf_S_G (σ : cb_S) (start set wo : Nat) : cb_G σ (sf_S σ start set wo) := fun k hk => sf_S_k σ start set wo (by omega) (by omega) (by omega)
theorem sf_S_B {σ : cb_S} (ok : cb_OK σ) {start : Nat} (set wo : Nat) (hs : start < 14) : sf_B (sf_S σ start set wo) :=
  sf_l_B set wo 14 _ _ ((sf_0_G σ start).ok ok) (sf_0_B σ start) (Or.inr hs)
/-! lightest -/
theorem li_1_k (s : cb_S) (v : Nat) {k : Nat} (h1 : k ≠ 13) (h2 : k ≠ 14) : li_1 s v k = s k := by
  unfold li_1
  split
  · rw [cb_up_k _ h2, cb_up_k _ h1]
  · rfl
theorem li_f_k (σ : cb_S) (set : Nat) {k : Nat} (h0 : k ≠ 10) (h1 : k ≠ 11) (h2 : k ≠ 12) (h3 : k ≠ 13) (h4 : k ≠ 14) (v : Nat) : li_f σ set v k = σ k := by
  induction v with
  | zero => unfold li_f; rw [cb_up_k _ h4, cb_up_k _ h3]
  | succ v ih => unfold li_f; rw [li_1_k _ _ h3 h4, sf_S_k _ _ _ _ h0 h1 h2, ih]
theorem li_f_G (σ : cb_S) (set v : Nat) : cb_G σ (li_f σ set v) := fun k hk => li_f_k σ set (by omega) (by omega) (by omega) (by omega) (by omega) v
theorem li_f_B {σ : cb_S} (ok : cb_OK σ) (set : Nat) : ∀ v, v ≤ 7 → li_f σ set v 13 0 ≤ 1000000 ∧ li_f σ set v 14 0 < 4096 := by
  intro v
  induction v with
  | zero => intro _; unfold li_f; rw [cb_up_s, cb_up_k _ (by decide), cb_up_s]; omega
  | succ v ih =>
    intro hv
    have hB := sf_S_B ((li_f_G σ set v).ok ok) set 4294967295 (by omega : v < 14) (v + 7) (by omega)
    have e1 := sf_S_k (li_f σ set v) v set 4294967295 (k := 13) (by decide) (by decide) (by decide)
    have e2 := sf_S_k (li_f σ set v) v set 4294967295 (k := 14) (by decide) (by decide) (by decide)
    unfold li_f li_1
    split
    · rw [cb_up_s, cb_up_k _ (by decide), cb_up_s]; exact hB
    · rw [e1, e2]; exact ih (by omega)
theorem li_S_k (σ : cb_S) (set : Nat) {k : Nat} (h0 : k ≠ 10) (h1 : k ≠ 11) (h2 : k ≠ 12) (h3 : k ≠ 13) (h4 : k ≠ 14) : li_S σ set k = σ k := li_f_k σ set h0 h1 h2 h3 h4 7
theorem li_S_G (σ : cb_S) (set : Nat) : cb_G σ (li_S σ set) := li_f_G σ set 7
theorem li_S_B {σ : cb_S} (ok : cb_OK σ) (set : Nat) : li_S σ set 13 0 ≤ 1000000 ∧ li_S σ set 14 0 < 4096 := li_f_B ok set 7 (Nat.le_refl 7)
/-! addCycle -/
theorem ac_f_spec (w : Nat) : ∀ (n : Nat) (σ : cb_S), (ac_f w n σ).2 ≤ n ∧ (∀ k, k ≠ 8 → k ≠ 9 → (ac_f w n σ).1 k = σ k) ∧
    (∀ j, (ac_f w n σ).1 8 j = if (ac_f w n σ).2 < j ∧ j ≤ n then σ 8 (j - 1) else σ 8 j) ∧ (∀ j, (ac_f w n σ).1 9 j = if (ac_f w n σ).2 < j ∧ j ≤ n then σ 9 (j - 1) else σ 9 j) ∧
    (∀ j, (ac_f w n σ).2 ≤ j → j < n → w < σ 9 j) ∧ (0 < (ac_f w n σ).2 → σ 9 ((ac_f w n σ).2 - 1) ≤ w) := by
  intro n
  induction n with
  | zero =>
    intro σ
    refine ⟨Nat.le_refl 0, fun k _ _ => rfl, fun j => ?_, fun j => ?_, fun j h1 h2 => by omega, fun h => absurd h (by simp [ac_f])⟩
    · have : ¬ ((ac_f w 0 σ).2 < j ∧ j ≤ 0) := by omega
      rw [if_neg this]; rfl
    · have : ¬ ((ac_f w 0 σ).2 < j ∧ j ≤ 0) := by omega
      rw [if_neg this]; rfl
  | succ n ih =>
    intro σ
    unfold ac_f
    by_cases hc : w < σ 9 n
    · rw [if_pos hc]
      obtain ⟨i1, i2, i3, i4, i5, i6⟩ := ih (cb_up (cb_up σ 8 (n + 1) (σ 8 n)) 9 (n + 1) (σ 9 n))
      generalize ac_f w n (cb_up (cb_up σ 8 (n + 1) (σ 8 n)) 9 (n + 1) (σ 9 n)) = r at i1 i2 i3 i4 i5 i6 ⊢
      refine ⟨by omega, fun k h8 h9 => by rw [i2 k h8 h9, cb_up_k _ h9, cb_up_k _ h8], fun j => ?_, fun j => ?_, fun j h1 h2 => ?_, fun h => ?_⟩
      · rw [i3 j]
        by_cases hj : j = n + 1
        · subst hj
          rw [if_neg (by omega), if_pos (by omega)]
          simp [cb_up]
        · by_cases hh : r.2 < j ∧ j ≤ n
          · rw [if_pos hh, if_pos (by omega), cb_up_k _ (by decide), cb_up_i _ _ (by omega)]
          · rw [if_neg hh, if_neg (by omega), cb_up_k _ (by decide), cb_up_i _ _ hj]
      · rw [i4 j]
        by_cases hj : j = n + 1
        · subst hj
          rw [if_neg (by omega), if_pos (by omega)]
          simp [cb_up]
        · by_cases hh : r.2 < j ∧ j ≤ n
          · rw [if_pos hh, if_pos (by omega), cb_up_i _ _ (by omega), cb_up_k _ (by decide)]
          · rw [if_neg hh, if_neg (by omega), cb_up_i _ _ hj, cb_up_k _ (by decide)]
      · by_cases hj : j = n
        · subst hj; exact hc
        · have h3 := i5 j h1 (by omega)
          rw [cb_up_i _ _ (by omega), cb_up_k _ (by decide)] at h3
          exact h3
      · have h3 := i6 h
        rw [cb_up_i _ _ (by omega), cb_up_k _ (by decide)] at h3
        exact h3
    · rw [if_neg hc]
      refine ⟨Nat.le_refl _, fun k _ _ => rfl, fun j => ?_, fun j => ?_, fun j h1 h2 => ?_, fun _ => ?_⟩
      · rw [if_neg (by intro q; have := q.1; have := q.2; simp at *; omega)]
      · rw [if_neg (by intro q; have := q.1; have := q.2; simp at *; omega)]
      · simp at h1; omega
      · simp; omega
theorem ac_S_k (σ : cb_S) (set w : Nat) {k : Nat} (h7 : k ≠ 7) (h8 : k ≠ 8) (h9 : k ≠ 9) : ac_S σ set w k = σ k := by
  unfold ac_S
  rw [cb_up_k _ h7, cb_up_k _ h9, cb_up_k _ h8, (ac_f_spec w (σ 7 0) σ).2.1 k h8 h9]
theorem ac_S_7 (σ : cb_S) (set w : Nat) : ac_S σ set w 7 0 = σ 7 0 + 1 := by unfold ac_S; rw [cb_up_s]
/-- the place of the new one, and what the arrays hold behind addCycle -/
theorem ac_S_spec (σ : cb_S) (set w : Nat) : ∃ p, p ≤ σ 7 0 ∧ (∀ j, ac_S σ set w 8 j = if j = p then set else if p < j ∧ j ≤ σ 7 0 then σ 8 (j - 1) else σ 8 j) ∧ (∀ j, ac_S σ set w 9 j = if j = p then w else if p < j ∧ j ≤ σ 7 0 then σ 9 (j - 1) else σ 9 j) ∧ (∀ j, p ≤ j → j < σ 7 0 → w < σ 9 j) ∧ (0 < p → σ 9 (p - 1) ≤ w) := by
  obtain ⟨i1, i2, i3, i4, i5, i6⟩ := ac_f_spec w (σ 7 0) σ
  refine ⟨(ac_f w (σ 7 0) σ).2, i1, fun j => ?_, fun j => ?_, i5, i6⟩
  · unfold ac_S
    rw [cb_up_k _ (by decide), cb_up_k _ (by decide)]
    by_cases hj : j = (ac_f w (σ 7 0) σ).2
    · rw [if_pos hj, hj, cb_up_s]
    · rw [if_neg hj, cb_up_i _ _ hj, i3 j]
  · unfold ac_S
    rw [cb_up_k _ (by decide)]
    by_cases hj : j = (ac_f w (σ 7 0) σ).2
    · rw [if_pos hj, hj, cb_up_s]
    · rw [if_neg hj, cb_up_i _ _ hj, cb_up_k _ (by decide), i4 j]
/-! solve -/
theorem so_j_k (s : cb_S) (i : Nat) {k : Nat} (h6 : k ≠ 6) (n : Nat) : so_j s i n k = s k := by
  induction n with
  | zero => rfl
  | succ n ih =>
    unfold so_j
    split
    · rw [cb_up_k _ h6]; exact ih
    · exact ih
/-- the witnesses behind the inner loop -/
theorem so_j_6 (s : cb_S) (i n j : Nat) : so_j s i n 6 j = if i < j ∧ j < i + 1 + n ∧ om_r (s 6 j) (s 14 0) = 1 then s 6 j ^^^ s 6 i else s 6 j := by
  induction n with
  | zero => rw [if_neg (by omega)]; rfl
  | succ n ih =>
    have hi : so_j s i n 6 i = s 6 i := by
      have : ∀ m, so_j s i m 6 i = s 6 i := by
        intro m
        induction m with
        | zero => rfl
        | succ m ihm =>
          unfold so_j
          split
          · rw [cb_up_i _ _ (by omega)]; exact ihm
          · exact ihm
      exact this n
    have hn : so_j s i n 6 (i + 1 + n) = s 6 (i + 1 + n) := by
      have : ∀ m, m ≤ n → so_j s i m 6 (i + 1 + n) = s 6 (i + 1 + n) := by
        intro m
        induction m with
        | zero => intro _; rfl
        | succ m ihm =>
          intro hm
          unfold so_j
          split
          · rw [cb_up_i _ _ (by omega)]; exact ihm (by omega)
          · exact ihm (by omega)
      exact this n (Nat.le_refl n)
    unfold so_j
    rw [hn, hi, so_j_k s i (by decide : (14 : Nat) ≠ 6) n]
    by_cases hj : j = i + 1 + n
    · subst hj
      by_cases ho : om_r (s 6 (i + 1 + n)) (s 14 0) = 1
      · rw [if_pos ho, cb_up_s, if_pos (by omega)]
      · rw [if_neg ho, hn, if_neg (by omega)]
    · by_cases ho : om_r (s 6 (i + 1 + n)) (s 14 0) = 1
      · rw [if_pos ho, cb_up_i _ _ hj, ih]
        by_cases hc : i < j ∧ j < i + 1 + n ∧ om_r (s 6 j) (s 14 0) = 1
        · rw [if_pos hc, if_pos (by omega)]
        · rw [if_neg hc, if_neg (by omega)]
      · rw [if_neg ho, ih]
        by_cases hc : i < j ∧ j < i + 1 + n ∧ om_r (s 6 j) (s 14 0) = 1
        · rw [if_pos hc, if_pos (by omega)]
        · rw [if_neg hc, if_neg (by omega)]
/-- what holds all through solve's loop -/
def so_B (s : cb_S) (i : Nat) : Prop := cb_OK s ∧ s 5 0 ≤ 12 ∧ i ≤ s 5 0 ∧ s 7 0 = i ∧ (∀ j, j < s 5 0 → s 6 j < 4096) ∧ (∀ j, j < i → s 9 j ≤ 1000000 ∧ s 8 j < 4096)
theorem so_1_k (s : cb_S) (i : Nat) {k : Nat} (h : k < 6 ∨ 15 ≤ k) : so_1 s i k = s k := by
  unfold so_1
  rw [so_j_k _ _ (by omega), ac_S_k _ _ _ (by omega) (by omega) (by omega), li_S_k _ _ (by omega) (by omega) (by omega) (by omega) (by omega)]
theorem so_1_G (s : cb_S) (i : Nat) : cb_G s (so_1 s i) := fun k hk => so_1_k s i (by omega)
theorem so_1_B {s : cb_S} {i : Nat} (h : so_B s i) (hi : i < s 5 0) : so_B (so_1 s i) (i + 1) := by
  obtain ⟨ok, h5, -, h7, h6, h9⟩ := h
  have hb := li_S_B ok (s 6 i)
  refine ⟨(so_1_G s i).ok ok, by rw [so_1_k s i (by omega)]; exact h5, by rw [so_1_k s i (by omega)]; exact hi, ?_, ?_, ?_⟩
  · unfold so_1
    rw [so_j_k _ _ (by decide), ac_S_7, li_S_k _ _ (by decide) (by decide) (by decide) (by decide) (by decide), h7]
  · intro j hj
    rw [so_1_k s i (by omega)] at hj
    unfold so_1
    rw [so_j_6]
    rw [ac_S_k _ _ _ (by decide) (by decide) (by decide), li_S_k _ _ (by decide) (by decide) (by decide) (by decide) (by decide)]
    split
    · exact xor_12 (h6 j hj) (h6 i hi)
    · exact h6 j hj
  · intro j hj
    unfold so_1
    rw [so_j_k _ _ (by decide), so_j_k _ _ (by decide)]
    obtain ⟨p, p1, p2, p3, -, -⟩ := ac_S_spec (li_S s (s 6 i)) (li_S s (s 6 i) 14 0) (li_S s (s 6 i) 13 0)
    rw [p2 j, p3 j]
    rw [li_S_k s (s 6 i) (k := 7) (by decide) (by decide) (by decide) (by decide) (by decide), h7] at p1 ⊢
    rw [li_S_k s (s 6 i) (k := 8) (by decide) (by decide) (by decide) (by decide) (by decide), li_S_k s (s 6 i) (k := 9) (by decide) (by decide) (by decide) (by decide) (by decide)]
    by_cases hjp : j = p
    · rw [if_pos hjp, if_pos hjp]; exact hb
    · rw [if_neg hjp, if_neg hjp]
      by_cases hq : p < j ∧ j ≤ i
      · rw [if_pos hq, if_pos hq]; exact h9 (j - 1) (by omega)
      · rw [if_neg hq, if_neg hq]; exact h9 j (by omega)
theorem so_i_k (s : cb_S) {k : Nat} (h : k < 6 ∨ 15 ≤ k) (i : Nat) : so_i s i k = s k := by
  induction i with
  | zero => unfold so_i; rw [cb_up_k _ (by omega)]
  | succ i ih => unfold so_i; rw [so_1_k _ _ h, ih]
theorem so_i_B {σ : cb_S} (ok : cb_OK σ) : ∀ i, i ≤ sw_S σ 5 0 → so_B (so_i (sw_S σ) i) i := by
  intro i
  induction i with
  | zero =>
    intro _
    obtain ⟨h1, h2⟩ := sw_S_6 ok
    unfold so_i
    refine ⟨(cb_G.up (by decide)).ok ((sw_S_G σ).ok ok), by rw [cb_up_k _ (by decide)]; exact h1, Nat.zero_le _, by rw [cb_up_s], ?_, fun j hj => by omega⟩
    intro j hj
    rw [cb_up_k _ (by decide)] at hj ⊢
    exact h2 j hj
  | succ i ih =>
    intro hi
    unfold so_i
    exact so_1_B (ih (by omega)) (by rw [so_i_k _ (by omega)]; omega)
theorem so_S_B {σ : cb_S} (ok : cb_OK σ) : so_B (so_S σ) (sw_S σ 5 0) := so_i_B ok _ (Nat.le_refl _)
theorem so_S_G (σ : cb_S) : cb_G σ (so_S σ) := fun k hk => by unfold so_S; rw [so_i_k _ (by omega), sw_S_k _ (by omega) (by omega) (by omega)]
/-! reduce, highest, level -/
theorem hi_le (s n : Nat) : hi_f s n ≤ n := by
  induction n with
  | zero => exact Nat.le_refl 0
  | succ n ih =>
    unfold hi_f
    split
    · omega
    · exact Nat.le_refl _
theorem rd_lt {pv : Nat → Nat} (hp : ∀ k, k < 12 → pv k < 4096) : ∀ n, n ≤ 12 → ∀ s, s < 4096 → rd_f pv n s < 4096 := by
  intro n
  induction n with
  | zero => intro _ s hs; exact hs
  | succ n ih =>
    intro hn s hs
    unfold rd_f
    refine ih (by omega) _ ?_
    split
    · exact xor_12 hs (hp n (by omega))
    · exact hs
theorem le_z_k (σ : cb_S) {k : Nat} (h : k ≠ 15) (n : Nat) : le_z σ n k = σ k := by
  induction n with
  | zero => rfl
  | succ n ih => unfold le_z; rw [cb_up_k _ h, ih]
theorem le_z_15 (σ : cb_S) (n : Nat) : ∀ j, j < n → le_z σ n 15 j = 0 := by
  induction n with
  | zero => intro j h; omega
  | succ n ih =>
    intro j h
    unfold le_z
    by_cases hj : j = n
    · subst hj; rw [cb_up_s]
    · rw [cb_up_i _ _ hj]; exact ih j (by omega)
def le_B (s : cb_S) : Prop := s 7 0 ≤ 12 ∧ (∀ j, j < s 7 0 → s 9 j ≤ 1000000 ∧ s 8 j < 4096) ∧ ∀ j, j < 12 → s 15 j < 4096
theorem le_1_k (s : cb_S) (i : Nat) {k : Nat} (h : k ≠ 15) : le_1 s i k = s k := by
  unfold le_1
  split
  · rfl
  · rw [cb_up_k _ h]
theorem le_1_B {s : cb_S} (h : le_B s) {i : Nat} (hi : i < s 7 0) : le_B (le_1 s i) := by
  unfold le_B
  rw [le_1_k s i (by decide), le_1_k s i (by decide), le_1_k s i (by decide)]
  refine ⟨h.1, h.2.1, fun j hj => ?_⟩
  unfold le_1
  split
  · exact h.2.2 j hj
  · by_cases hq : j = hi_f (rd_f (s 15) 12 (s 8 i)) 12 - 1
    · rw [hq, cb_up_s]; exact rd_lt h.2.2 12 (Nat.le_refl _) _ (h.2.1 i hi).2
    · rw [cb_up_i _ _ hq]; exact h.2.2 j hj
theorem le_0_B {σ : cb_S} (ok : cb_OK σ) : le_B (le_z (so_S σ) 12) := by
  obtain ⟨-, h5, -, h7, -, h9⟩ := so_S_B ok
  unfold so_S at h5
  rw [so_i_k _ (by omega)] at h5
  unfold le_B
  rw [le_z_k _ (by decide), le_z_k _ (by decide), le_z_k _ (by decide), h7]
  exact ⟨h5, h9, fun j hj => by rw [le_z_15 _ _ j hj]; decide⟩
end
section
/-! the model: what the mirrors leave alone, and bounds -/
def mo_OK (τ : cb_S) : Prop := τ 3 0 ≤ 12 ∧ ∀ e, e < τ 3 0 → τ 0 e < 7 ∧ τ 1 e < 7 ∧ τ 0 e ≠ τ 1 e ∧ 1 ≤ τ 2 e ∧ τ 2 e ≤ 100
def mo_W (τ : cb_S) : Prop := ∀ x, x < 4096 → τ 5 x < 4294967296
def mo_Z (τ : cb_S) : Prop := ∀ x, x < 4096 → τ 4 x ≤ 1
theorem mo_OK.of {τ τ' : cb_S} (g : cb_G τ τ') (h : mo_OK τ) : mo_OK τ' := by
  unfold mo_OK
  rw [g 0 (by decide), g 1 (by decide), g 2 (by decide), g 3 (by decide)]
  exact h
theorem rf_f_k (τ : cb_S) {k : Nat} (h : k ≠ 5) (n : Nat) : rf_f τ n k = τ k := by
  induction n with
  | zero => rfl
  | succ n ih => unfold rf_f; rw [cb_up_k _ h, ih]
theorem rf_f_G (τ : cb_S) (n : Nat) : cb_G τ (rf_f τ n) := fun k hk => rf_f_k τ (by omega) n
theorem dg_f_G {τ τ' : cb_S} (g : cb_G τ τ') (set v n : Nat) : dg_f τ' set v n = dg_f τ set v n := by
  induction n with
  | zero => rfl
  | succ n ih => unfold dg_f; rw [g 0 (by decide), g 1 (by decide), ih]
theorem ev_f_G {τ τ' : cb_S} (g : cb_G τ τ') (set : Nat) : ∀ k v, ev_f τ' set k v = ev_f τ set k v := by
  intro k
  induction k with
  | zero => intro v; rfl
  | succ k ih => intro v; unfold ev_f; rw [g 3 (by decide), dg_f_G g, ih]
theorem ws_f_G {τ τ' : cb_S} (g : cb_G τ τ') (set n : Nat) : ws_f τ' set n = ws_f τ set n := by
  induction n with
  | zero => rfl
  | succ n ih => unfold ws_f; rw [g 2 (by decide), ih]
theorem cw_f_G {τ τ' : cb_S} (g : cb_G τ τ') (set : Nat) : cw_f τ' set = cw_f τ set := by
  unfold cw_f
  rw [g 3 (by decide), ev_f_G g, ws_f_G g]
theorem rf_f_5 (τ : cb_S) (n : Nat) : ∀ x, x < n → rf_f τ n 5 x = cw_f τ x := by
  induction n with
  | zero => intro x h; omega
  | succ n ih =>
    intro x h
    unfold rf_f
    by_cases hx : x = n
    · subst hx; rw [cb_up_s, cw_f_G (rf_f_G τ x)]
    · rw [cb_up_i _ _ hx]; exact ih x (by omega)
theorem rf_S_k (τ : cb_S) {k : Nat} (h : k ≠ 5) : rf_S τ k = τ k := rf_f_k τ h _
theorem rf_S_5 (τ : cb_S) : ∀ x, x < 4096 → rf_S τ 5 x = cw_f τ x := rf_f_5 τ 4096
theorem ws_f_le {τ : cb_S} (set : Nat) : ∀ n, (∀ e, e < n → τ 2 e ≤ 100) → ws_f τ set n ≤ n * 100 := by
  intro n
  induction n with
  | zero => intro _; exact Nat.le_refl 0
  | succ n ih =>
    intro h
    have h1 := ih (fun e he => h e (by omega))
    have h2 := h n (by omega)
    unfold ws_f
    split <;> omega
theorem cw_f_lt {τ : cb_S} (ok : mo_OK τ) (set : Nat) : cw_f τ set ≤ 1200 ∨ cw_f τ set = 4294967295 := by
  unfold cw_f
  split
  · have h := ws_f_le (τ := τ) set (τ 3 0) (fun e he => (ok.2 e he).2.2.2.2)
    have h2 := ok.1
    exact Or.inl (by omega)
  · exact Or.inr rfl
theorem ev_le (τ : cb_S) (set : Nat) : ∀ k v, ev_f τ set k v ≤ 1 := by
  intro k
  induction k with
  | zero => intro v; exact Nat.le_refl 1
  | succ k ih =>
    intro v
    unfold ev_f
    split
    · exact ih _
    · exact Nat.zero_le 1
theorem dg_le (τ : cb_S) (set v n : Nat) : dg_f τ set v n ≤ n := by
  induction n with
  | zero => exact Nat.le_refl 0
  | succ n ih => unfold dg_f; split <;> omega
theorem fo_f_k (τ : cb_S) {k : Nat} (h : k ≠ 4) (n : Nat) : fo_f τ n k = τ k := by
  induction n with
  | zero => rfl
  | succ n ih => unfold fo_f; rw [cb_up_k _ h, ih]
theorem fo_f_4 (τ : cb_S) (n : Nat) : ∀ x, x < n → fo_f τ n 4 x = if x = 0 then 1 else 0 := by
  induction n with
  | zero => intro x h; omega
  | succ n ih =>
    intro x h
    unfold fo_f
    by_cases hx : x = n
    · subst hx; rw [cb_up_s]
    · rw [cb_up_i _ _ hx]; exact ih x (by omega)
theorem fo_S_k (τ : cb_S) {k : Nat} (h : k ≠ 4) : fo_S τ k = τ k := fo_f_k τ h _
theorem fo_S_4 (τ : cb_S) : ∀ x, x < 4096 → fo_S τ 4 x = if x = 0 then 1 else 0 := fo_f_4 τ 4096
theorem fo_S_Z (τ : cb_S) : mo_Z (fo_S τ) := fun x hx => by rw [fo_S_4 τ x hx]; split <;> omega
theorem lt_f_spec (cw sm : Nat → Nat) : ∀ n, n ≤ 4096 → (lt_f cw sm n = 4294967295 ∧ ∀ x, x < n → ¬ (cw x < 2147483648 ∧ sm x = 0)) ∨
    (lt_f cw sm n < n ∧ cw (lt_f cw sm n) < 2147483648 ∧ sm (lt_f cw sm n) = 0 ∧ ∀ x, x < n → cw x < 2147483648 → sm x = 0 → cw (lt_f cw sm n) ≤ cw x) := by
  intro n
  induction n with
  | zero => intro _; exact Or.inl ⟨rfl, fun x h => by omega⟩
  | succ n ih' =>
    intro hn
    have ih := ih' (by omega)
    unfold lt_f
    by_cases hc : (cw n < 2147483648 ∧ sm n = 0) ∧ (lt_f cw sm n = 4294967295 ∨ cw n < cw (lt_f cw sm n))
    · rw [if_pos hc]
      refine Or.inr ⟨by omega, hc.1.1, hc.1.2, fun x hx h1 h2 => ?_⟩
      by_cases hxn : x = n
      · subst hxn; exact Nat.le_refl _
      · rcases ih with ⟨i1, i2⟩ | ⟨i1, i2, i3, i4⟩
        · exact absurd ⟨h1, h2⟩ (i2 x (by omega))
        · rcases hc.2 with q | q
          · exact absurd q (by omega)
          · have := i4 x (by omega) h1 h2; omega
    · rw [if_neg hc]
      rcases ih with ⟨i1, i2⟩ | ⟨i1, i2, i3, i4⟩
      · refine Or.inl ⟨i1, fun x hx h => ?_⟩
        by_cases hxn : x = n
        · subst hxn; exact hc ⟨h, Or.inl i1⟩
        · exact i2 x (by omega) h
      · refine Or.inr ⟨by omega, i2, i3, fun x hx h1 h2 => ?_⟩
        by_cases hxn : x = n
        · subst hxn
          rcases Nat.lt_or_ge (cw x) (cw (lt_f cw sm x)) with q | q
          · exact absurd ⟨⟨h1, h2⟩, Or.inr q⟩ hc
          · exact q
        · exact i4 x (by omega) h1 h2
theorem lt_r_lt (τ : cb_S) : lt_r τ = 4294967295 ∨ lt_r τ < 4096 := by
  rcases lt_f_spec (τ 5) (τ 4) 4096 (Nat.le_refl _) with h | h
  · exact Or.inl h.1
  · exact Or.inr h.1
theorem tk_f_k (τ : cb_S) (t : Nat) {k : Nat} (h : k ≠ 4) (n : Nat) : tk_f τ t n k = τ k := by
  induction n with
  | zero => rfl
  | succ n ih =>
    unfold tk_f
    split
    · rw [cb_up_k _ h, ih]
    · exact ih
theorem tk_f_Z {τ : cb_S} (hz : mo_Z τ) (t n : Nat) : mo_Z (tk_f τ t n) := by
  induction n with
  | zero => exact hz
  | succ n ih =>
    unfold tk_f
    split
    · intro x hx
      by_cases hq : x = n ^^^ t
      · rw [hq, cb_up_s]; exact Nat.le_refl 1
      · rw [cb_up_i _ _ hq]; exact ih x hx
    · exact ih
theorem tk_S_k (τ : cb_S) (t : Nat) {k : Nat} (h : k ≠ 4) : tk_S τ t k = τ k := tk_f_k τ t h _
theorem tk_S_Z {τ : cb_S} (hz : mo_Z τ) (t : Nat) : mo_Z (tk_S τ t) := tk_f_Z hz t _
theorem rk_n_le (cw : Nat → Nat) (n : Nat) : rk_n cw n ≤ n := by
  induction n with
  | zero => exact Nat.le_refl 0
  | succ n ih => unfold rk_n; split <;> omega
theorem mh_f_lt (cw : Nat → Nat) (e n : Nat) : mh_f cw e n = 4294967291 ∨ mh_f cw e n < 2147483648 := by
  induction n with
  | zero => exact Or.inl rfl
  | succ n ih =>
    unfold mh_f
    split
    · next h => exact Or.inr h.2.1
    · exact ih
end
section
/-! CycleBasis: badVertex, noEdge, edge, reweigh, dropLast -/
theorem met_badVertex (l : Launch) (D : va_G) (cI cZ : ClassId) (wd : cb_S → va_W) (σ : cb_S) {k : Nat} (hk : k < 4294967296) : cb_C l yX0_badVertex cX0_badVertex 1 (some .boolean) 1 0 D cI cZ wd [.int (nI k)] σ (some (if k < 7 then 0 else 1)) σ := by
  refine cb_ofZ (by split <;> omega) (by decide) rfl (Nat.le_of_ble_eq_true rfl) ?_
  intro p e_ s m args below meth c A Q C hw ret ls hl
  have hl : cb_L ls 1 [_] := hl
  refine cb_iload_n C hl dX0_badVertex_0 rfl ?_
  refine cb_if_lt C 10 dX0_badVertex_1 (by decide) (by omega) (fun h1 => ?_) (fun h1 => ?_)
  · refine cb_iconst C 1 dX0_badVertex_10 rfl ?_
    refine cb_goto C 15 dX0_badVertex_11 (by decide) ?_
    exact cb_top (by rw [if_neg (by omega)]) (ret _ _ _ _ hw dX0_badVertex_15)
  · refine cb_iload_n C hl dX0_badVertex_4 rfl ?_
    refine cb_bipush C 7 dX0_badVertex_5 rfl ?_
    refine cb_icmp_lt C 14 dX0_badVertex_7 (by decide) (by omega) (by omega) (fun h2 => ?_) (fun h2 => ?_)
    · refine cb_iconst C 0 dX0_badVertex_14 rfl ?_
      exact cb_top (by rw [if_pos (by omega)]) (ret _ _ _ _ hw dX0_badVertex_15)
    · refine cb_iconst C 1 dX0_badVertex_10 rfl ?_
      refine cb_goto C 15 dX0_badVertex_11 (by decide) ?_
      exact cb_top (by rw [if_neg (by omega)]) (ret _ _ _ _ hw dX0_badVertex_15)
theorem met_noEdge (l : Launch) (D : va_G) (cI cZ : ClassId) (h : Nat) (a : Nat → Nat) (σ : cb_S) (hc : σ 0 0 ≤ 12) {k : Nat} (hk : k < 4294967296) : cb_C l yX0_noEdge cX0_noEdge 2 (some .boolean) 1 0 D cI cZ (cb_WX h a cI cZ) [.ref h, .int (nI k)] σ (some (if k < σ 0 0 then 0 else 1)) σ := by
  refine cb_ofZ (by split <;> omega) (by decide) rfl (Nat.le_of_ble_eq_true rfl) ?_
  intro p e_ s m args below meth c A Q C hw ret ls hl
  have hl : cb_L ls 2 [_, _] := hl
  refine cb_iload_n C hl dX0_noEdge_0 rfl ?_
  refine cb_if_lt C 12 dX0_noEdge_1 (by decide) (by omega) (fun h1 => ?_) (fun h1 => ?_)
  · refine cb_iconst C 1 dX0_noEdge_12 rfl ?_
    refine cb_goto C 17 dX0_noEdge_13 (by decide) ?_
    exact cb_top (by rw [if_neg (by omega)]) (ret _ _ _ _ hw dX0_noEdge_17)
  · refine cb_iload_n C hl dX0_noEdge_4 rfl ?_
    refine cb_aload_n C hl dX0_noEdge_5 rfl ?_
    refine cb_xg_44 C hw dX0_noEdge_6 ?_
    refine cb_icmp_lt C 16 dX0_noEdge_9 (by decide) (by omega) (by omega) (fun h2 => ?_) (fun h2 => ?_)
    · refine cb_iconst C 0 dX0_noEdge_16 rfl ?_
      exact cb_top (by rw [if_pos (by omega)]) (ret _ _ _ _ hw dX0_noEdge_17)
    · refine cb_iconst C 1 dX0_noEdge_12 rfl ?_
      refine cb_goto C 17 dX0_noEdge_13 (by decide) ?_
      exact cb_top (by rw [if_neg (by omega)]) (ret _ _ _ _ hw dX0_noEdge_17)
theorem met_edge (l : Launch) (D : va_G) (cI cZ : ClassId) (h : Nat) (a : Nat → Nat) (σ : cb_S) (hc : σ 0 0 ≤ 12) {u v w : Nat} (hu : u < 4294967296) (hv : v < 4294967296) (hww : w < 4294967296) : cb_C l yX0_edge cX0_edge 5 (some .int) 2 20 D cI cZ (cb_WX h a cI cZ) [.ref h, .int (nI u), .int (nI v), .int (nI w)] σ (some (ed_p σ u v w).2) (ed_p σ u v w).1 := by
  refine cb_ofI (by decide) rfl (Nat.le_of_ble_eq_true rfl) ?_
  intro p e_ s m args below meth c A Q C hw ret ls hl
  have hl : cb_L ls 5 [_, _, _, _, _] := hl
  have B1 : ¬ (u < 7 ∧ v < 7 ∧ u ≠ v) → ∀ (H : Heap) (locs : List Loc) (ls : Array Slot), cb_W D cI cZ (cb_WX h a cI cZ) A s σ H locs → W p l e_ (cb_R 2 20) s m args below meth c H locs 0 0 Q (F0 m 19 ls []) := by
    intro hb H locs ls hw
    refine cb_iconst C 4294967295 dX0_edge_19 rfl ?_
    exact cb_top (by simp only [ed_p]; rw [if_pos hb]) (ret _ _ _ _ (hw.eq (by simp only [ed_p]; rw [if_pos hb])) dX0_edge_20)
  refine cb_iload_n C hl dX0_edge_0 rfl ?_
  refine cb_callSI C hw (met_badVertex l D cI cZ _ σ hu) (cwX0_X0_badVertex C.2.2.2.2 ⟨by decide, by decide⟩) rfl hl.1 rfl (Nat.le_of_ble_eq_true rfl) ⟨Nat.zero_le _, Nat.zero_le _⟩ dX0_edge_1 (fun H locs hw => ?_)
  by_cases h1 : u < 7
  · rw [if_pos h1]
    refine cb_if_ne C 19 dX0_edge_4 (by decide) (by omega) (fun h2 => ?_) (fun h2 => ?_)
    · exact absurd h2 (by omega)
    refine cb_iload_n C hl dX0_edge_7 rfl ?_
    refine cb_callSI C hw (met_badVertex l D cI cZ _ σ hv) (cwX0_X0_badVertex C.2.2.2.2 ⟨by decide, by decide⟩) rfl hl.1 rfl (Nat.le_of_ble_eq_true rfl) ⟨Nat.zero_le _, Nat.zero_le _⟩ dX0_edge_8 (fun H locs hw => ?_)
    by_cases h3 : v < 7
    · rw [if_pos h3]
      refine cb_if_ne C 19 dX0_edge_11 (by decide) (by omega) (fun h4 => ?_) (fun h4 => ?_)
      · exact absurd h4 (by omega)
      refine cb_iload_n C hl dX0_edge_14 rfl ?_
      refine cb_iload_n C hl dX0_edge_15 rfl ?_
      refine cb_icmp_ne C 21 dX0_edge_16 (by decide) (by omega) (by omega) (fun h5 => ?_) (fun h5 => ?_)
      · have B2 : ¬ (1 ≤ w ∧ w ≤ 100) → ∀ (H : Heap) (locs : List Loc) (ls : Array Slot), cb_W D cI cZ (cb_WX h a cI cZ) A s σ H locs → W p l e_ (cb_R 2 20) s m args below meth c H locs 0 0 Q (F0 m 32 ls []) := by
          intro hb H locs ls hw
          refine cb_bipush C 4294967294 dX0_edge_32 rfl ?_
          exact cb_top (by simp only [ed_p]; rw [if_neg (by omega), if_pos hb]) (ret _ _ _ _ (hw.eq (by simp only [ed_p]; rw [if_neg (by omega), if_pos hb])) dX0_edge_34)
        refine cb_iload_n C hl dX0_edge_21 rfl ?_
        refine cb_iconst C 1 dX0_edge_22 rfl ?_
        refine cb_icmpS_lt C 32 dX0_edge_23 (by decide) (by omega) (by omega) (fun h6 => ?_) (fun h6 => ?_)
        · exact B2 (by omega) _ _ _ hw
        · refine cb_iload_n C hl dX0_edge_26 rfl ?_
          refine cb_bipush C 100 dX0_edge_27 rfl ?_
          refine cb_icmpS_le C 35 dX0_edge_29 (by decide) (by omega) (by omega) (fun h7 => ?_) (fun h7 => ?_)
          · refine cb_aload_n C hl dX0_edge_35 rfl ?_
            refine cb_xg_44 C hw dX0_edge_36 ?_
            refine cb_bipush C 12 dX0_edge_39 rfl ?_
            refine cb_icmp_lt C 47 dX0_edge_41 (by decide) (by omega) (by omega) (fun h8 => ?_) (fun h8 => ?_)
            · refine cb_aload_n C hl dX0_edge_47 rfl ?_
              refine cb_xg_44 C hw dX0_edge_48 ?_
              refine cb_istore C hl dX0_edge_51 (by decide) (fun ls (hl : cb_L ls 5 [_, _, _, _, _]) => ?_)
              refine cb_aload_n C hl dX0_edge_53 rfl ?_
              refine cb_xg_7 C hw dX0_edge_54 ?_
              refine cb_iload C hl dX0_edge_57 rfl ?_
              refine cb_iload_n C hl dX0_edge_59 rfl ?_
              refine cb_xiast C hw dX0_edge_60 rfl (by omega) (fun H locs hw => ?_)
              refine cb_aload_n C hl dX0_edge_61 rfl ?_
              refine cb_xg_13 C hw dX0_edge_62 ?_
              refine cb_iload C hl dX0_edge_65 rfl ?_
              refine cb_iload_n C hl dX0_edge_67 rfl ?_
              refine cb_xiast C hw dX0_edge_68 rfl (by omega) (fun H locs hw => ?_)
              refine cb_aload_n C hl dX0_edge_69 rfl ?_
              refine cb_xg_16 C hw dX0_edge_70 ?_
              refine cb_iload C hl dX0_edge_73 rfl ?_
              refine cb_iload_n C hl dX0_edge_75 rfl ?_
              refine cb_xiast C hw dX0_edge_76 rfl (by omega) (fun H locs hw => ?_)
              refine cb_aload_n C hl dX0_edge_77 rfl ?_
              refine cb_dup C dX0_edge_78 rfl ?_
              refine cb_xg_44 C hw dX0_edge_79 ?_
              refine cb_iconst C 1 dX0_edge_82 rfl ?_
              refine cb_iadd C dX0_edge_83 ?_
              refine cb_xp_44 C hw dX0_edge_84 (fun H locs hw => ?_)
              refine cb_iload C hl dX0_edge_87 rfl ?_
              refine cb_top ?_ (ret _ _ _ _ (hw.eq ?_) dX0_edge_89)
              · simp only [ed_p]; rw [if_neg (by omega), if_neg (by omega), if_neg (by omega)]
              · simp only [ed_p]; rw [if_neg (by omega), if_neg (by omega), if_neg (by omega)]
                simp [cb_up]
            · refine cb_bipush C 4294967293 dX0_edge_44 rfl ?_
              refine cb_top ?_ (ret _ _ _ _ (hw.eq ?_) dX0_edge_46)
              · simp only [ed_p]; rw [if_neg (by omega), if_neg (by omega), if_pos (by omega)]
              · simp only [ed_p]; rw [if_neg (by omega), if_neg (by omega), if_pos (by omega)]
          · exact B2 (by omega) _ _ _ hw
      · exact B1 (by omega) _ _ _ hw
    · rw [if_neg h3]
      refine cb_if_ne C 19 dX0_edge_11 (by decide) (by omega) (fun h4 => ?_) (fun h4 => ?_)
      · exact B1 (by omega) _ _ _ hw
      · exact absurd h4 (by omega)
  · rw [if_neg h1]
    refine cb_if_ne C 19 dX0_edge_4 (by decide) (by omega) (fun h2 => ?_) (fun h2 => ?_)
    · exact B1 (by omega) _ _ _ hw
    · exact absurd h2 (by omega)
theorem met_reweigh (l : Launch) (D : va_G) (cI cZ : ClassId) (h : Nat) (a : Nat → Nat) (σ : cb_S) (hc : σ 0 0 ≤ 12) {k w : Nat} (hk : k < 4294967296) (hww : w < 4294967296) : cb_C l yX0_reweigh cX0_reweigh 4 (some .int) 2 21 D cI cZ (cb_WX h a cI cZ) [.ref h, .int (nI k), .int (nI w)] σ (some (rw_p σ k w).2) (rw_p σ k w).1 := by
  refine cb_ofI (by decide) rfl (Nat.le_of_ble_eq_true rfl) ?_
  intro p e_ s m args below meth c A Q C hw ret ls hl
  have hl : cb_L ls 4 [_, _, _, _] := hl
  refine cb_aload_n C hl dX0_reweigh_0 rfl ?_
  refine cb_iload_n C hl dX0_reweigh_1 rfl ?_
  refine cb_callVI C hw (met_noEdge l D cI cZ h a σ hc hk) (cwX0_X0_noEdge C.2.2.2.2 ⟨by decide, by decide⟩) (cb_reX hw) rfl hl.1 rfl (Nat.le_of_ble_eq_true rfl) ⟨Nat.zero_le _, Nat.zero_le _⟩ dX0_reweigh_2 (fun H locs hw => ?_)
  by_cases h1 : k < σ 0 0
  · rw [if_pos h1]
    refine cb_if_eq C 11 dX0_reweigh_5 (by decide) (by omega) (fun h2 => ?_) (fun h2 => ?_)
    · have B2 : ¬ (1 ≤ w ∧ w ≤ 100) → ∀ (H : Heap) (locs : List Loc) (ls : Array Slot), cb_W D cI cZ (cb_WX h a cI cZ) A s σ H locs → W p l e_ (cb_R 2 21) s m args below meth c H locs 0 0 Q (F0 m 22 ls []) := by
        intro hb H locs ls hw
        refine cb_bipush C 4294967294 dX0_reweigh_22 rfl ?_
        exact cb_top (by simp only [rw_p]; rw [if_neg (by omega), if_pos hb]) (ret _ _ _ _ (hw.eq (by simp only [rw_p]; rw [if_neg (by omega), if_pos hb])) dX0_reweigh_24)
      refine cb_iload_n C hl dX0_reweigh_11 rfl ?_
      refine cb_iconst C 1 dX0_reweigh_12 rfl ?_
      refine cb_icmpS_lt C 22 dX0_reweigh_13 (by decide) (by omega) (by omega) (fun h6 => ?_) (fun h6 => ?_)
      · exact B2 (by omega) _ _ _ hw
      · refine cb_iload_n C hl dX0_reweigh_16 rfl ?_
        refine cb_bipush C 100 dX0_reweigh_17 rfl ?_
        refine cb_icmpS_le C 25 dX0_reweigh_19 (by decide) (by omega) (by omega) (fun h7 => ?_) (fun h7 => ?_)
        · refine cb_aload_n C hl dX0_reweigh_25 rfl ?_
          refine cb_xg_16 C hw dX0_reweigh_26 ?_
          refine cb_iload_n C hl dX0_reweigh_29 rfl ?_
          refine cb_xiald C hw dX0_reweigh_30 rfl (by omega) ?_
          refine cb_istore_n C hl dX0_reweigh_31 (by decide) (fun ls (hl : cb_L ls 4 [_, _, _, _]) => ?_)
          refine cb_aload_n C hl dX0_reweigh_32 rfl ?_
          refine cb_xg_16 C hw dX0_reweigh_33 ?_
          refine cb_iload_n C hl dX0_reweigh_36 rfl ?_
          refine cb_iload_n C hl dX0_reweigh_37 rfl ?_
          refine cb_xiast C hw dX0_reweigh_38 rfl (by omega) (fun H locs hw => ?_)
          refine cb_iload_n C hl dX0_reweigh_39 rfl ?_
          refine cb_top ?_ (ret _ _ _ _ (hw.eq ?_) dX0_reweigh_40)
          · simp only [rw_p]; rw [if_neg (by omega), if_neg (by omega)]
          · simp only [rw_p]; rw [if_neg (by omega), if_neg (by omega)]
        · exact B2 (by omega) _ _ _ hw
    · exact absurd h2 (by omega)
  · rw [if_neg h1]
    refine cb_if_eq C 11 dX0_reweigh_5 (by decide) (by omega) (fun h2 => ?_) (fun h2 => ?_)
    · exact absurd h2 (by omega)
    · refine cb_bipush C 4294967292 dX0_reweigh_8 rfl ?_
      exact cb_top (by simp only [rw_p]; rw [if_pos (by omega)]) (ret _ _ _ _ (hw.eq (by simp only [rw_p]; rw [if_pos (by omega)])) dX0_reweigh_10)
theorem met_dropLast (l : Launch) (D : va_G) (cI cZ : ClassId) (h : Nat) (a : Nat → Nat) (σ : cb_S) (hc : σ 0 0 ≤ 12) : cb_C l yX0_dropLast cX0_dropLast 1 (some .int) 1 0 D cI cZ (cb_WX h a cI cZ) [.ref h] σ (some (dr_p σ).2) (dr_p σ).1 := by
  refine cb_ofI (by decide) rfl (Nat.le_of_ble_eq_true rfl) ?_
  intro p e_ s m args below meth c A Q C hw ret ls hl
  have hl : cb_L ls 1 [_] := hl
  refine cb_aload_n C hl dX0_dropLast_0 rfl ?_
  refine cb_xg_44 C hw dX0_dropLast_1 ?_
  refine cb_if_ne C 10 dX0_dropLast_4 (by decide) (by omega) (fun h1 => ?_) (fun h1 => ?_)
  · refine cb_aload_n C hl dX0_dropLast_10 rfl ?_
    refine cb_dup C dX0_dropLast_11 rfl ?_
    refine cb_xg_44 C hw dX0_dropLast_12 ?_
    refine cb_iconst C 1 dX0_dropLast_15 rfl ?_
    refine cb_isub C dX0_dropLast_16 (by omega) ?_
    refine cb_xp_44 C hw dX0_dropLast_17 (fun H locs hw => ?_)
    refine cb_aload_n C hl dX0_dropLast_20 rfl ?_
    refine cb_xg_44 C hw dX0_dropLast_21 ?_
    refine cb_top ?_ (ret _ _ _ _ (hw.eq ?_) dX0_dropLast_24)
    · simp [dr_p, h1, cb_up]
    · simp [dr_p, h1]
  · refine cb_bipush C 4294967292 dX0_dropLast_7 rfl ?_
    refine cb_top ?_ (ret _ _ _ _ (hw.eq ?_) dX0_dropLast_9)
    · simp [dr_p, h1]
    · simp [dr_p, h1]
end
section
/-! CycleBasis: startWitnesses, oddlyMet, nearest, relax -/
theorem met_startWitnesses (l : Launch) (D : va_G) (cI cZ : ClassId) (h : Nat) (a : Nat → Nat) (σ : cb_S) (ok : cb_OK σ) : cb_C l yX0_startWitnesses cX0_startWitnesses 5 none 1 0 D cI cZ (cb_WX h a cI cZ) [.ref h] σ none (sw_S σ) := by
  refine cb_ofV (by decide) rfl (Nat.le_of_ble_eq_true rfl) ?_
  intro p e_ s m args below meth c A Q C hw ret ls hl
  have hl : cb_L ls 5 [_, _, _, _, _] := hl
  have hc := ok.1
  -- the loop over the edges
  have L28 : ∀ (k e : Nat), e + k = σ 0 0 → ∀ (H : Heap) (locs : List Loc) (ls : Array Slot) (o2 o3 o4 : Option Value), cb_W D cI cZ (cb_WX h a cI cZ) A s (sw_e σ e) H locs → cb_L ls 5 [some (.ref h), some (.int (nI e)), o2, o3, o4] → W p l e_ (cb_R 1 0) s m args below meth c H locs 0 0 Q (F0 m 28 ls []) := by
    intro k
    induction k with
    | zero =>
      intro e he H locs ls o2 o3 o4 hw hl
      have e0 : sw_e σ e 0 0 = σ 0 0 := by rw [sw_e_G σ e 0 (by decide)]
      refine cb_iload_n C hl dX0_startWitnesses_28 rfl ?_
      refine cb_aload_n C hl dX0_startWitnesses_29 rfl ?_
      refine cb_xg_44 C hw dX0_startWitnesses_30 ?_
      refine cb_icmp_ge C 131 dX0_startWitnesses_33 (by decide) (by omega) (by omega) (fun h1 => ?_) (fun h1 => ?_)
      · exact ret _ _ _ _ (hw.eq (by unfold sw_S; rw [show σ 0 0 = e by omega])) dX0_startWitnesses_131
      · exact absurd h1 (by omega)
    | succ k ih =>
      intro e he H locs ls o2 o3 o4 hw hl
      have e0 : sw_e σ e 0 0 = σ 0 0 := by rw [sw_e_G σ e 0 (by decide)]
      have e1 : sw_e σ e 1 e < 7 := by rw [sw_e_G σ e 1 (by decide)]; exact (ok.2 e (by omega)).1
      have e2 : sw_e σ e 2 e < 7 := by rw [sw_e_G σ e 2 (by decide)]; exact (ok.2 e (by omega)).2.1
      have g1 := sw_e_4 ok e (by omega) _ e1
      have g2 := sw_e_4 ok e (by omega) _ e2
      have g5 := sw_e_5 σ e
      have g4 := sw_e_4 ok e (by omega)
      refine cb_iload_n C hl dX0_startWitnesses_28 rfl ?_
      refine cb_aload_n C hl dX0_startWitnesses_29 rfl ?_
      refine cb_xg_44 C hw dX0_startWitnesses_30 ?_
      refine cb_icmp_ge C 131 dX0_startWitnesses_33 (by decide) (by omega) (by omega) (fun h1 => ?_) (fun h1 => ?_)
      · exact absurd h1 (by omega)
      refine cb_aload_n C hl dX0_startWitnesses_36 rfl ?_
      refine cb_xg_19 C hw dX0_startWitnesses_37 ?_
      refine cb_aload_n C hl dX0_startWitnesses_40 rfl ?_
      refine cb_xg_7 C hw dX0_startWitnesses_41 ?_
      refine cb_iload_n C hl dX0_startWitnesses_44 rfl ?_
      refine cb_xiald C hw dX0_startWitnesses_45 rfl (by omega) ?_
      refine cb_xiald C hw dX0_startWitnesses_46 rfl (by omega) ?_
      refine cb_istore_n C hl dX0_startWitnesses_47 (by decide) (fun ls (hl : cb_L ls 5 [_, _, _, _, _]) => ?_)
      refine cb_aload_n C hl dX0_startWitnesses_48 rfl ?_
      refine cb_xg_19 C hw dX0_startWitnesses_49 ?_
      refine cb_aload_n C hl dX0_startWitnesses_52 rfl ?_
      refine cb_xg_13 C hw dX0_startWitnesses_53 ?_
      refine cb_iload_n C hl dX0_startWitnesses_56 rfl ?_
      refine cb_xiald C hw dX0_startWitnesses_57 rfl (by omega) ?_
      refine cb_xiald C hw dX0_startWitnesses_58 rfl (by omega) ?_
      refine cb_istore_n C hl dX0_startWitnesses_59 (by decide) (fun ls (hl : cb_L ls 5 [_, _, _, _, _]) => ?_)
      refine cb_iload_n C hl dX0_startWitnesses_60 rfl ?_
      refine cb_iload_n C hl dX0_startWitnesses_61 rfl ?_
      refine cb_icmp_ne C 90 dX0_startWitnesses_62 (by decide) (by omega) (by omega) (fun h2 => ?_) (fun h2 => ?_)
      · refine cb_iconst C 0 dX0_startWitnesses_90 rfl ?_
        refine cb_istore C hl dX0_startWitnesses_91 (by decide) (fun ls (hl : cb_L ls 5 [_, _, _, _, _]) => ?_)
        have L93 : ∀ (j v : Nat), v + j = 7 → ∀ (H : Heap) (locs : List Loc) (ls : Array Slot), cb_W D cI cZ (cb_WX h a cI cZ) A s (sw_m (sw_e σ e) (sw_e σ e 4 (sw_e σ e 1 e)) (sw_e σ e 4 (sw_e σ e 2 e)) v) H locs → cb_L ls 5 [some (.ref h), some (.int (nI e)), some (.int (nI (sw_e σ e 4 (sw_e σ e 1 e)))), some (.int (nI (sw_e σ e 4 (sw_e σ e 2 e)))), some (.int (nI v))] → W p l e_ (cb_R 1 0) s m args below meth c H locs 0 0 Q (F0 m 93 ls []) := by
          intro j
          induction j with
          | zero =>
            intro v hv H locs ls hw hl
            refine cb_iload C hl dX0_startWitnesses_93 rfl ?_
            refine cb_bipush C 7 dX0_startWitnesses_95 rfl ?_
            refine cb_icmp_ge C 125 dX0_startWitnesses_97 (by decide) (by omega) (by omega) (fun h3 => ?_) (fun h3 => ?_)
            · refine cb_inc1 C hl dX0_startWitnesses_125 rfl (by decide) (fun ls (hl : cb_L ls 5 [_, _, _, _, _]) => ?_)
              refine cb_goto C 28 dX0_startWitnesses_128 (by decide) ?_
              refine ih (e + 1) (by omega) H locs ls _ _ _ (hw.eq ?_) hl
              rw [show v = 7 by omega]
              show _ = sw_1 (sw_e σ e) e
              unfold sw_1
              rw [if_neg h2]
            · exact absurd h3 (by omega)
          | succ j ihj =>
            intro v hv H locs ls hw hl
            have g6 : sw_m (sw_e σ e) (sw_e σ e 4 (sw_e σ e 1 e)) (sw_e σ e 4 (sw_e σ e 2 e)) v 4 v < 7 := by
              rw [sw_m_4]
              split
              · exact g1
              · exact g4 v (by omega)
            refine cb_iload C hl dX0_startWitnesses_93 rfl ?_
            refine cb_bipush C 7 dX0_startWitnesses_95 rfl ?_
            refine cb_icmp_ge C 125 dX0_startWitnesses_97 (by decide) (by omega) (by omega) (fun h3 => ?_) (fun h3 => ?_)
            · exact absurd h3 (by omega)
            refine cb_aload_n C hl dX0_startWitnesses_100 rfl ?_
            refine cb_xg_19 C hw dX0_startWitnesses_101 ?_
            refine cb_iload C hl dX0_startWitnesses_104 rfl ?_
            refine cb_xiald C hw dX0_startWitnesses_106 rfl (by omega) ?_
            refine cb_iload_n C hl dX0_startWitnesses_107 rfl ?_
            refine cb_icmp_ne C 119 dX0_startWitnesses_108 (by decide) (by omega) (by omega) (fun h4 => ?_) (fun h4 => ?_)
            · refine cb_inc1 C hl dX0_startWitnesses_119 rfl (by decide) (fun ls (hl : cb_L ls 5 [_, _, _, _, _]) => ?_)
              refine cb_goto C 93 dX0_startWitnesses_122 (by decide) ?_
              refine ihj (v + 1) (by omega) H locs ls (hw.eq ?_) hl
              show _ = (if _ then _ else _)
              rw [if_neg h4]
            · refine cb_aload_n C hl dX0_startWitnesses_111 rfl ?_
              refine cb_xg_19 C hw dX0_startWitnesses_112 ?_
              refine cb_iload C hl dX0_startWitnesses_115 rfl ?_
              refine cb_iload_n C hl dX0_startWitnesses_117 rfl ?_
              refine cb_xiast C hw dX0_startWitnesses_118 rfl (by omega) (fun H locs hw => ?_)
              refine cb_inc1 C hl dX0_startWitnesses_119 rfl (by decide) (fun ls (hl : cb_L ls 5 [_, _, _, _, _]) => ?_)
              refine cb_goto C 93 dX0_startWitnesses_122 (by decide) ?_
              refine ihj (v + 1) (by omega) H locs ls (hw.eq ?_) hl
              show _ = (if _ then _ else _)
              rw [if_pos h4]
        exact L93 7 0 rfl H locs ls hw hl
      · refine cb_aload_n C hl dX0_startWitnesses_65 rfl ?_
        refine cb_xg_22 C hw dX0_startWitnesses_66 ?_
        refine cb_aload_n C hl dX0_startWitnesses_69 rfl ?_
        refine cb_xg_55 C hw dX0_startWitnesses_70 ?_
        refine cb_iconst C 1 dX0_startWitnesses_73 rfl ?_
        refine cb_iload_n C hl dX0_startWitnesses_74 rfl ?_
        refine cb_ishl C dX0_startWitnesses_75 (by omega) ?_
        refine cb_xiast C hw dX0_startWitnesses_76 rfl (by omega) (fun H locs hw => ?_)
        refine cb_aload_n C hl dX0_startWitnesses_77 rfl ?_
        refine cb_dup C dX0_startWitnesses_78 rfl ?_
        refine cb_xg_55 C hw dX0_startWitnesses_79 ?_
        refine cb_iconst C 1 dX0_startWitnesses_82 rfl ?_
        refine cb_iadd C dX0_startWitnesses_83 ?_
        refine cb_xp_55 C hw dX0_startWitnesses_84 (fun H locs hw => ?_)
        refine cb_goto C 125 dX0_startWitnesses_87 (by decide) ?_
        refine cb_inc1 C hl dX0_startWitnesses_125 rfl (by decide) (fun ls (hl : cb_L ls 5 [_, _, _, _, _]) => ?_)
        refine cb_goto C 28 dX0_startWitnesses_128 (by decide) ?_
        refine ih (e + 1) (by omega) H locs ls _ _ _ (hw.eq ?_) hl
        show _ = sw_1 (sw_e σ e) e
        unfold sw_1
        rw [if_pos h2]
        rfl
  refine cb_aload_n C hl dX0_startWitnesses_0 rfl ?_
  refine cb_iconst C 0 dX0_startWitnesses_1 rfl ?_
  refine cb_xp_55 C hw dX0_startWitnesses_2 (fun H locs hw => ?_)
  refine cb_iconst C 0 dX0_startWitnesses_5 rfl ?_
  refine cb_istore_n C hl dX0_startWitnesses_6 (by decide) (fun ls (hl : cb_L ls 5 [_, _, _, _, _]) => ?_)
  have L7 : ∀ (k v : Nat), v + k = 7 → ∀ (H : Heap) (locs : List Loc) (ls : Array Slot), cb_W D cI cZ (cb_WX h a cI cZ) A s (sw_g σ v) H locs → cb_L ls 5 [some (.ref h), some (.int (nI v)), none, none, none] → W p l e_ (cb_R 1 0) s m args below meth c H locs 0 0 Q (F0 m 7 ls []) := by
    intro k
    induction k with
    | zero =>
      intro v hv H locs ls hw hl
      refine cb_iload_n C hl dX0_startWitnesses_7 rfl ?_
      refine cb_bipush C 7 dX0_startWitnesses_8 rfl ?_
      refine cb_icmp_ge C 26 dX0_startWitnesses_10 (by decide) (by omega) (by omega) (fun h1 => ?_) (fun h1 => ?_)
      · refine cb_iconst C 0 dX0_startWitnesses_26 rfl ?_
        refine cb_istore_n C hl dX0_startWitnesses_27 (by decide) (fun ls (hl : cb_L ls 5 [_, _, _, _, _]) => ?_)
        exact L28 (σ 0 0) 0 (by omega) H locs ls _ _ _ (hw.eq (by rw [show v = 7 by omega]; rfl)) hl
      · exact absurd h1 (by omega)
    | succ k ih =>
      intro v hv H locs ls hw hl
      refine cb_iload_n C hl dX0_startWitnesses_7 rfl ?_
      refine cb_bipush C 7 dX0_startWitnesses_8 rfl ?_
      refine cb_icmp_ge C 26 dX0_startWitnesses_10 (by decide) (by omega) (by omega) (fun h1 => ?_) (fun h1 => ?_)
      · exact absurd h1 (by omega)
      refine cb_aload_n C hl dX0_startWitnesses_13 rfl ?_
      refine cb_xg_19 C hw dX0_startWitnesses_14 ?_
      refine cb_iload_n C hl dX0_startWitnesses_17 rfl ?_
      refine cb_iload_n C hl dX0_startWitnesses_18 rfl ?_
      refine cb_xiast C hw dX0_startWitnesses_19 rfl (by omega) (fun H locs hw => ?_)
      refine cb_inc1 C hl dX0_startWitnesses_20 rfl (by decide) (fun ls (hl : cb_L ls 5 [_, _, _, _, _]) => ?_)
      refine cb_goto C 7 dX0_startWitnesses_23 (by decide) ?_
      exact ih (v + 1) (by omega) H locs ls (hw.eq rfl) hl
  exact L7 7 0 rfl H locs ls (hw.eq rfl) hl
theorem met_oddlyMet (l : Launch) (D : va_G) (cI cZ : ClassId) (wd : cb_S → va_W) (σ : cb_S) {x y : Nat} (hx : x < 4096) : cb_C l yX0_oddlyMet cX0_oddlyMet 5 (some .boolean) 1 0 D cI cZ wd [.int (nI x), .int (nI y)] σ (some (om_r x y)) σ := by
  refine cb_ofZ (by unfold om_r; split <;> omega) (by decide) rfl (Nat.le_of_ble_eq_true rfl) ?_
  intro p e_ s m args below meth c A Q C hw ret ls hl
  have hl : cb_L ls 5 [_, _, _, _, _] := hl
  have hb : x &&& y < 4096 := Nat.lt_of_le_of_lt Nat.and_le_left hx
  have hom : ∀ k, om_f (x &&& y) k < 4096 := by
    intro k
    induction k with
    | zero => exact (by decide : 0 < 4096)
    | succ k ih => unfold om_f; exact xor_12 ih (Nat.lt_of_le_of_lt Nat.and_le_right (by decide))
  refine cb_iload_n C hl dX0_oddlyMet_0 rfl ?_
  refine cb_iload_n C hl dX0_oddlyMet_1 rfl ?_
  refine cb_iand C dX0_oddlyMet_2 ?_
  refine cb_istore_n C hl dX0_oddlyMet_3 (by decide) (fun ls (hl : cb_L ls 5 [_, _, _, _, _]) => ?_)
  refine cb_iconst C 0 dX0_oddlyMet_4 rfl ?_
  refine cb_istore_n C hl dX0_oddlyMet_5 (by decide) (fun ls (hl : cb_L ls 5 [_, _, _, _, _]) => ?_)
  refine cb_iconst C 0 dX0_oddlyMet_6 rfl ?_
  refine cb_istore C hl dX0_oddlyMet_7 (by decide) (fun ls (hl : cb_L ls 5 [_, _, _, _, _]) => ?_)
  have L9 : ∀ (k e : Nat), e + k = 12 → ∀ (H : Heap) (locs : List Loc) (ls : Array Slot), cb_W D cI cZ wd A s σ H locs → cb_L ls 5 [some (.int (nI x)), some (.int (nI y)), some (.int (nI (x &&& y))), some (.int (nI (om_f (x &&& y) e))), some (.int (nI e))] → W p l e_ (cb_R 1 0) s m args below meth c H locs 0 0 Q (F0 m 9 ls []) := by
    intro k
    induction k with
    | zero =>
      intro e he H locs ls hw hl
      obtain rfl : e = 12 := by omega
      have h0 := hom 12
      refine cb_iload C hl dX0_oddlyMet_9 rfl ?_
      refine cb_bipush C 12 dX0_oddlyMet_11 rfl ?_
      refine cb_icmp_ge C 31 dX0_oddlyMet_13 (by decide) (by omega) (by omega) (fun h1 => ?_) (fun h1 => ?_)
      · refine cb_iload_n C hl dX0_oddlyMet_31 rfl ?_
        refine cb_iconst C 1 dX0_oddlyMet_32 rfl ?_
        refine cb_icmp_ne C 40 dX0_oddlyMet_33 (by decide) (by omega) (by omega) (fun h2 => ?_) (fun h2 => ?_)
        · refine cb_iconst C 0 dX0_oddlyMet_40 rfl ?_
          exact cb_top (by unfold om_r; rw [if_neg h2]) (ret _ _ _ _ hw dX0_oddlyMet_41)
        · refine cb_iconst C 1 dX0_oddlyMet_36 rfl ?_
          refine cb_goto C 41 dX0_oddlyMet_37 (by decide) ?_
          exact cb_top (by unfold om_r; rw [if_pos h2]) (ret _ _ _ _ hw dX0_oddlyMet_41)
      · exact absurd h1 (by omega)
    | succ k ih =>
      intro e he H locs ls hw hl
      refine cb_iload C hl dX0_oddlyMet_9 rfl ?_
      refine cb_bipush C 12 dX0_oddlyMet_11 rfl ?_
      refine cb_icmp_ge C 31 dX0_oddlyMet_13 (by decide) (by omega) (by omega) (fun h1 => ?_) (fun h1 => ?_)
      · exact absurd h1 (by omega)
      refine cb_iload_n C hl dX0_oddlyMet_16 rfl ?_
      refine cb_iload_n C hl dX0_oddlyMet_17 rfl ?_
      refine cb_iload C hl dX0_oddlyMet_18 rfl ?_
      refine cb_ishr C dX0_oddlyMet_20 (by omega) (by omega) ?_
      refine cb_iconst C 1 dX0_oddlyMet_21 rfl ?_
      refine cb_iand C dX0_oddlyMet_22 ?_
      refine cb_ixor C dX0_oddlyMet_23 ?_
      refine cb_istore_n C hl dX0_oddlyMet_24 (by decide) (fun ls (hl : cb_L ls 5 [_, _, _, _, _]) => ?_)
      refine cb_inc1 C hl dX0_oddlyMet_25 rfl (by decide) (fun ls (hl : cb_L ls 5 [_, _, _, _, _]) => ?_)
      refine cb_goto C 9 dX0_oddlyMet_28 (by decide) ?_
      exact ih (e + 1) (by omega) H locs ls hw hl
  exact L9 12 0 rfl _ _ ls hw hl
theorem met_nearest (l : Launch) (D : va_G) (cI cZ : ClassId) (h : Nat) (a : Nat → Nat) (σ : cb_S) (hB : ∀ y, y < 14 → σ 10 y ≤ 1000000) (hdn : ∀ y, y < 14 → σ 12 y ≤ 1) : cb_C l yX0_nearest cX0_nearest 3 (some .int) 1 0 D cI cZ (cb_WX h a cI cZ) [.ref h] σ (some (sf_n σ)) σ := by
  refine cb_ofI (by decide) rfl (Nat.le_of_ble_eq_true rfl) ?_
  intro p e_ s m args below meth c A Q C hw ret ls hl
  have hl : cb_L ls 3 [_, _, _] := hl
  refine cb_iconst C 4294967295 dX0_nearest_0 rfl ?_
  refine cb_istore_n C hl dX0_nearest_1 (by decide) (fun ls (hl : cb_L ls 3 [_, _, _]) => ?_)
  refine cb_iconst C 0 dX0_nearest_2 rfl ?_
  refine cb_istore_n C hl dX0_nearest_3 (by decide) (fun ls (hl : cb_L ls 3 [_, _, _]) => ?_)
  have L4 : ∀ (k x : Nat), x + k = 14 → ∀ (H : Heap) (locs : List Loc) (ls : Array Slot), cb_W D cI cZ (cb_WX h a cI cZ) A s σ H locs → cb_L ls 3 [some (.ref h), some (.int (nI (ne_f (σ 10) (σ 12) x))), some (.int (nI x))] → W p l e_ (cb_R 1 0) s m args below meth c H locs 0 0 Q (F0 m 4 ls []) := by
    intro k
    induction k with
    | zero =>
      intro x hx H locs ls hw hl
      obtain rfl : x = 14 := by omega
      refine cb_iload_n C hl dX0_nearest_4 rfl ?_
      refine cb_bipush C 14 dX0_nearest_5 rfl ?_
      refine cb_icmp_ge C 57 dX0_nearest_7 (by decide) (by omega) (by omega) (fun h1 => ?_) (fun h1 => ?_)
      · refine cb_iload_n C hl dX0_nearest_57 rfl ?_
        exact ret _ _ _ _ hw dX0_nearest_58
      · exact absurd h1 (by omega)
    | succ k ih =>
      intro x hx H locs ls hw hl
      have g1 := hB x (by omega)
      have g2 := hdn x (by omega)
      have g3 := ne_lt (σ 10) (σ 12) x
      have B51 : ne_f (σ 10) (σ 12) (x + 1) = ne_f (σ 10) (σ 12) x → W p l e_ (cb_R 1 0) s m args below meth c H locs 0 0 Q (F0 m 51 ls []) := by
        intro q
        refine cb_inc1 C hl dX0_nearest_51 rfl (by decide) (fun ls (hl : cb_L ls 3 [_, _, _]) => ?_)
        refine cb_goto C 4 dX0_nearest_54 (by decide) ?_
        exact ih (x + 1) (by omega) H locs ls hw (q ▸ hl)
      have B49 : ne_f (σ 10) (σ 12) (x + 1) = x → W p l e_ (cb_R 1 0) s m args below meth c H locs 0 0 Q (F0 m 49 ls []) := by
        intro q
        refine cb_iload_n C hl dX0_nearest_49 rfl ?_
        refine cb_istore_n C hl dX0_nearest_50 (by decide) (fun ls (hl : cb_L ls 3 [_, _, _]) => ?_)
        refine cb_inc1 C hl dX0_nearest_51 rfl (by decide) (fun ls (hl : cb_L ls 3 [_, _, _]) => ?_)
        refine cb_goto C 4 dX0_nearest_54 (by decide) ?_
        exact ih (x + 1) (by omega) H locs ls hw (by rw [q]; exact hl)
      refine cb_iload_n C hl dX0_nearest_4 rfl ?_
      refine cb_bipush C 14 dX0_nearest_5 rfl ?_
      refine cb_icmp_ge C 57 dX0_nearest_7 (by decide) (by omega) (by omega) (fun h1 => ?_) (fun h1 => ?_)
      · exact absurd h1 (by omega)
      refine cb_aload_n C hl dX0_nearest_10 rfl ?_
      refine cb_xg_37 C hw dX0_nearest_11 ?_
      refine cb_iload_n C hl dX0_nearest_14 rfl ?_
      refine cb_xbald C hw dX0_nearest_15 (by omega) ?_
      refine cb_if_ne C 51 dX0_nearest_16 (by decide) (by omega) (fun h2 => ?_) (fun h2 => ?_)
      · exact B51 (by show (if _ then _ else _) = _; rw [if_neg (by omega)])
      refine cb_aload_n C hl dX0_nearest_19 rfl ?_
      refine cb_xg_31 C hw dX0_nearest_20 ?_
      refine cb_iload_n C hl dX0_nearest_23 rfl ?_
      refine cb_xiald C hw dX0_nearest_24 rfl (by omega) ?_
      refine cb_ldc58 C dX0_nearest_25 ?_
      refine cb_icmp_ge C 51 dX0_nearest_27 (by decide) (by omega) (by omega) (fun h3 => ?_) (fun h3 => ?_)
      · exact B51 (by show (if _ then _ else _) = _; rw [if_neg (by omega)])
      refine cb_iload_n C hl dX0_nearest_30 rfl ?_
      refine cb_if_lt C 49 dX0_nearest_31 (by decide) (by omega) (fun h4 => ?_) (fun h4 => ?_)
      · exact B49 (by show (if _ then _ else _) = _; rw [if_pos (by omega)])
      have g4 := hB (ne_f (σ 10) (σ 12) x) (by omega)
      refine cb_aload_n C hl dX0_nearest_34 rfl ?_
      refine cb_xg_31 C hw dX0_nearest_35 ?_
      refine cb_iload_n C hl dX0_nearest_38 rfl ?_
      refine cb_xiald C hw dX0_nearest_39 rfl (by omega) ?_
      refine cb_aload_n C hl dX0_nearest_40 rfl ?_
      refine cb_xg_31 C hw dX0_nearest_41 ?_
      refine cb_iload_n C hl dX0_nearest_44 rfl ?_
      refine cb_xiald C hw dX0_nearest_45 rfl (by omega) ?_
      refine cb_icmp_ge C 51 dX0_nearest_46 (by decide) (by omega) (by omega) (fun h5 => ?_) (fun h5 => ?_)
      · exact B51 (by show (if _ then _ else _) = _; rw [if_neg (by omega)])
      · exact B49 (by show (if _ then _ else _) = _; rw [if_pos (by omega)])
  exact L4 14 0 rfl _ _ ls hw hl
theorem met_relax (l : Launch) (D : va_G) (cI cZ : ClassId) (h : Nat) (a : Nat → Nat) (σ : cb_S) (ok : cb_OK σ) (hB : sf_B σ) {x e set : Nat} (hx : x < 14) (he : e < σ 0 0) (hs : set < 4096) : cb_C l yX0_relax cX0_relax 9 none 1 0 D cI cZ (cb_WX h a cI cZ) [.ref h, .int (nI x), .int (nI e), .int (nI set)] σ none (rx_S σ x e set) := by
  refine cb_ofV (by decide) rfl (Nat.le_of_ble_eq_true rfl) ?_
  intro p e_ s m args below meth c A Q C hw ret ls hl
  have hl : cb_L ls 9 [_, _, _, _, _, _, _, _, _] := hl
  have hc := ok.1
  obtain ⟨o1, o2, o3, o4, o5⟩ := ok.2 e he
  have hy := rx_y_lt ok (x := x) (set := set) he
  have hwl := rx_w_lt ok (x := x) he
  have hyb := hB _ hy
  have hxb := hB _ hx
  have hbit : (set >>> e) &&& 1 ≤ 1 := Nat.and_le_right
  have J113 : ∀ (ls : Array Slot) (q4 q5 q6 q7 : Option Value) (y : Nat), ¬ (x % 7 ≠ σ 1 e ∧ x % 7 ≠ σ 2 e) → y = rx_y σ x e set → cb_L ls 9 [some (.ref h), some (.int (nI x)), some (.int (nI e)), some (.int (nI set)), q4, q5, q6, q7, some (.int (nI y))] → W p l e_ (cb_R 1 0) s m args below meth c s.heap [] 0 0 Q (F0 m 113 ls []) := by
    intro ls q4 q5 q6 q7 y hn hyy hl
    subst hyy
    refine cb_aload_n C hl dX0_relax_113 rfl ?_
    refine cb_xg_31 C hw dX0_relax_114 ?_
    refine cb_iload_n C hl dX0_relax_117 rfl ?_
    refine cb_xiald C hw dX0_relax_118 rfl (by omega) ?_
    refine cb_aload_n C hl dX0_relax_119 rfl ?_
    refine cb_xg_16 C hw dX0_relax_120 ?_
    refine cb_iload_n C hl dX0_relax_123 rfl ?_
    refine cb_xiald C hw dX0_relax_124 rfl (by omega) ?_
    refine cb_iadd C dX0_relax_125 ?_
    refine cb_aload_n C hl dX0_relax_126 rfl ?_
    refine cb_xg_31 C hw dX0_relax_127 ?_
    refine cb_iload C hl dX0_relax_130 rfl ?_
    refine cb_xiald C hw dX0_relax_132 rfl (by omega) ?_
    refine cb_icmp_ge C 173 dX0_relax_133 (by decide) (by omega) (by omega) (fun h1 => ?_) (fun h1 => ?_)
    · refine ret _ _ _ _ (hw.eq ?_) dX0_relax_173
      unfold rx_S
      rw [if_neg hn, if_neg (by omega)]
    · refine cb_aload_n C hl dX0_relax_136 rfl ?_
      refine cb_xg_31 C hw dX0_relax_137 ?_
      refine cb_iload C hl dX0_relax_140 rfl ?_
      refine cb_aload_n C hl dX0_relax_142 rfl ?_
      refine cb_xg_31 C hw dX0_relax_143 ?_
      refine cb_iload_n C hl dX0_relax_146 rfl ?_
      refine cb_xiald C hw dX0_relax_147 rfl (by omega) ?_
      refine cb_aload_n C hl dX0_relax_148 rfl ?_
      refine cb_xg_16 C hw dX0_relax_149 ?_
      refine cb_iload_n C hl dX0_relax_152 rfl ?_
      refine cb_xiald C hw dX0_relax_153 rfl (by omega) ?_
      refine cb_iadd C dX0_relax_154 ?_
      refine cb_xiast C hw dX0_relax_155 rfl (by omega) (fun H locs hw => ?_)
      refine cb_aload_n C hl dX0_relax_156 rfl ?_
      refine cb_xg_34 C hw dX0_relax_157 ?_
      refine cb_iload C hl dX0_relax_160 rfl ?_
      refine cb_aload_n C hl dX0_relax_162 rfl ?_
      refine cb_xg_34 C hw dX0_relax_163 ?_
      refine cb_iload_n C hl dX0_relax_166 rfl ?_
      refine cb_xiald C hw dX0_relax_167 rfl (by omega) ?_
      refine cb_iconst C 1 dX0_relax_168 rfl ?_
      refine cb_iload_n C hl dX0_relax_169 rfl ?_
      refine cb_ishl C dX0_relax_170 (by omega) ?_
      refine cb_ixor C dX0_relax_171 ?_
      refine cb_xiast C hw dX0_relax_172 rfl (by omega) (fun H locs hw => ?_)
      refine ret _ _ _ _ (hw.eq ?_) dX0_relax_173
      unfold rx_S
      rw [if_neg hn, if_pos h1]
      simp [cb_up]
  have J96 : ∀ (ls : Array Slot) (q4 q6 : Option Value) (up : Nat), ¬ (x % 7 ≠ σ 1 e ∧ x % 7 ≠ σ 2 e) → up = (if (if 7 ≤ x then 1 else 0) = ((set >>> e) &&& 1) then 0 else 1) → cb_L ls 9 [some (.ref h), some (.int (nI x)), some (.int (nI e)), some (.int (nI set)), q4, some (.int (nI (rx_w σ x e))), q6, some (.int (nI up)), none] → W p l e_ (cb_R 1 0) s m args below meth c s.heap [] 0 0 Q (F0 m 96 ls []) := by
    intro ls q4 q6 up hn hup hl
    by_cases hq : (if 7 ≤ x then 1 else 0) = ((set >>> e) &&& 1)
    · rw [if_pos hq] at hup
      subst hup
      refine cb_iload C hl dX0_relax_96 rfl ?_
      refine cb_if_eq C 109 dX0_relax_98 (by decide) (by omega) (fun h1 => ?_) (fun h1 => ?_)
      · refine cb_iload C hl dX0_relax_109 rfl ?_
        refine cb_istore C hl dX0_relax_111 (by decide) (fun ls (hl : cb_L ls 9 [_, _, _, _, _, _, _, _, _]) => ?_)
        exact J113 ls _ _ _ _ _ hn (by unfold rx_y; rw [if_pos hq]) hl
      · exact absurd rfl h1
    · rw [if_neg hq] at hup
      subst hup
      refine cb_iload C hl dX0_relax_96 rfl ?_
      refine cb_if_eq C 109 dX0_relax_98 (by decide) (by omega) (fun h1 => ?_) (fun h1 => ?_)
      · exact absurd h1 (by decide)
      · refine cb_iload C hl dX0_relax_101 rfl ?_
        refine cb_bipush C 7 dX0_relax_103 rfl ?_
        refine cb_iadd C dX0_relax_105 ?_
        refine cb_goto C 111 dX0_relax_106 (by decide) ?_
        refine cb_istore C hl dX0_relax_111 (by decide) (fun ls (hl : cb_L ls 9 [_, _, _, _, _, _, _, _, _]) => ?_)
        exact J113 ls _ _ _ _ _ hn (by unfold rx_y; rw [if_neg hq]) hl
  have J84 : ∀ (ls : Array Slot) (q4 : Option Value), ¬ (x % 7 ≠ σ 1 e ∧ x % 7 ≠ σ 2 e) → cb_L ls 9 [some (.ref h), some (.int (nI x)), some (.int (nI e)), some (.int (nI set)), q4, some (.int (nI (rx_w σ x e))), some (.int (nI ((set >>> e) &&& 1))), none, none] → W p l e_ (cb_R 1 0) s m args below meth c s.heap [] 0 0 Q (F0 m 84 ls [.int (nI (if 7 ≤ x then 1 else 0))]) := by
    intro ls q4 hn hl
    have hb1 : (if 7 ≤ x then 1 else 0) ≤ 1 := by split <;> omega
    refine cb_iload C hl dX0_relax_84 rfl ?_
    refine cb_icmp_eq C 93 dX0_relax_86 (by decide) (by omega) (by omega) (fun h1 => ?_) (fun h1 => ?_)
    · refine cb_iconst C 0 dX0_relax_93 rfl ?_
      refine cb_istore C hl dX0_relax_94 (by decide) (fun ls (hl : cb_L ls 9 [_, _, _, _, _, _, _, _, _]) => ?_)
      exact J96 ls _ _ 0 hn (by rw [if_pos h1]) hl
    · refine cb_iconst C 1 dX0_relax_89 rfl ?_
      refine cb_goto C 94 dX0_relax_90 (by decide) ?_
      refine cb_istore C hl dX0_relax_94 (by decide) (fun ls (hl : cb_L ls 9 [_, _, _, _, _, _, _, _, _]) => ?_)
      exact J96 ls _ _ 1 hn (by rw [if_neg h1]) hl
  have J73 : ∀ (ls : Array Slot) (q4 : Option Value) (b : Nat), ¬ (x % 7 ≠ σ 1 e ∧ x % 7 ≠ σ 2 e) → b = (set >>> e) &&& 1 → cb_L ls 9 [some (.ref h), some (.int (nI x)), some (.int (nI e)), some (.int (nI set)), q4, some (.int (nI (rx_w σ x e))), some (.int (nI b)), none, none] → W p l e_ (cb_R 1 0) s m args below meth c s.heap [] 0 0 Q (F0 m 73 ls []) := by
    intro ls q4 b hn hbb hl
    subst hbb
    refine cb_iload_n C hl dX0_relax_73 rfl ?_
    refine cb_bipush C 7 dX0_relax_74 rfl ?_
    refine cb_icmp_lt C 83 dX0_relax_76 (by decide) (by omega) (by omega) (fun h1 => ?_) (fun h1 => ?_)
    · refine cb_iconst C 0 dX0_relax_83 rfl ?_
      exact cb_top (by rw [if_neg (by omega)]) (J84 ls _ hn hl)
    · refine cb_iconst C 1 dX0_relax_79 rfl ?_
      refine cb_goto C 84 dX0_relax_80 (by decide) ?_
      exact cb_top (by rw [if_pos (by omega)]) (J84 ls _ hn hl)
  have J57 : ∀ (ls : Array Slot) (q4 : Option Value) (w : Nat), ¬ (x % 7 ≠ σ 1 e ∧ x % 7 ≠ σ 2 e) → w = rx_w σ x e → cb_L ls 9 [some (.ref h), some (.int (nI x)), some (.int (nI e)), some (.int (nI set)), q4, some (.int (nI w)), none, none, none] → W p l e_ (cb_R 1 0) s m args below meth c s.heap [] 0 0 Q (F0 m 57 ls []) := by
    intro ls q4 w hn hwq hl
    subst hwq
    refine cb_iload_n C hl dX0_relax_57 rfl ?_
    refine cb_iload_n C hl dX0_relax_58 rfl ?_
    refine cb_ishr C dX0_relax_59 (by omega) (by omega) ?_
    refine cb_iconst C 1 dX0_relax_60 rfl ?_
    refine cb_iand C dX0_relax_61 ?_
    refine cb_iconst C 1 dX0_relax_62 rfl ?_
    refine cb_icmp_ne C 70 dX0_relax_63 (by decide) (by omega) (by omega) (fun h1 => ?_) (fun h1 => ?_)
    · refine cb_iconst C 0 dX0_relax_70 rfl ?_
      refine cb_istore C hl dX0_relax_71 (by decide) (fun ls (hl : cb_L ls 9 [_, _, _, _, _, _, _, _, _]) => ?_)
      exact J73 ls _ _ hn (by omega) hl
    · refine cb_iconst C 1 dX0_relax_66 rfl ?_
      refine cb_goto C 71 dX0_relax_67 (by decide) ?_
      refine cb_istore C hl dX0_relax_71 (by decide) (fun ls (hl : cb_L ls 9 [_, _, _, _, _, _, _, _, _]) => ?_)
      exact J73 ls _ _ hn h1.symm hl
  have J29 : ∀ (ls : Array Slot), ¬ (x % 7 ≠ σ 1 e ∧ x % 7 ≠ σ 2 e) → cb_L ls 9 [some (.ref h), some (.int (nI x)), some (.int (nI e)), some (.int (nI set)), some (.int (nI (x % 7))), none, none, none, none] → W p l e_ (cb_R 1 0) s m args below meth c s.heap [] 0 0 Q (F0 m 29 ls []) := by
    intro ls hn hl
    refine cb_iload C hl dX0_relax_29 rfl ?_
    refine cb_aload_n C hl dX0_relax_31 rfl ?_
    refine cb_xg_7 C hw dX0_relax_32 ?_
    refine cb_iload_n C hl dX0_relax_35 rfl ?_
    refine cb_xiald C hw dX0_relax_36 rfl (by omega) ?_
    refine cb_icmp_ne C 49 dX0_relax_37 (by decide) (by omega) (by omega) (fun h1 => ?_) (fun h1 => ?_)
    · refine cb_aload_n C hl dX0_relax_49 rfl ?_
      refine cb_xg_7 C hw dX0_relax_50 ?_
      refine cb_iload_n C hl dX0_relax_53 rfl ?_
      refine cb_xiald C hw dX0_relax_54 rfl (by omega) ?_
      refine cb_istore C hl dX0_relax_55 (by decide) (fun ls (hl : cb_L ls 9 [_, _, _, _, _, _, _, _, _]) => ?_)
      exact J57 ls _ _ hn (by unfold rx_w; rw [if_neg h1]) hl
    · refine cb_aload_n C hl dX0_relax_40 rfl ?_
      refine cb_xg_13 C hw dX0_relax_41 ?_
      refine cb_iload_n C hl dX0_relax_44 rfl ?_
      refine cb_xiald C hw dX0_relax_45 rfl (by omega) ?_
      refine cb_goto C 55 dX0_relax_46 (by decide) ?_
      refine cb_istore C hl dX0_relax_55 (by decide) (fun ls (hl : cb_L ls 9 [_, _, _, _, _, _, _, _, _]) => ?_)
      exact J57 ls _ _ hn (by unfold rx_w; rw [if_pos h1]) hl
  refine cb_iload_n C hl dX0_relax_0 rfl ?_
  refine cb_bipush C 7 dX0_relax_1 rfl ?_
  refine cb_irem C dX0_relax_3 (by omega) (by decide) (by decide) ?_
  refine cb_istore C hl dX0_relax_4 (by decide) (fun ls (hl : cb_L ls 9 [_, _, _, _, _, _, _, _, _]) => ?_)
  refine cb_iload C hl dX0_relax_6 rfl ?_
  refine cb_aload_n C hl dX0_relax_8 rfl ?_
  refine cb_xg_7 C hw dX0_relax_9 ?_
  refine cb_iload_n C hl dX0_relax_12 rfl ?_
  refine cb_xiald C hw dX0_relax_13 rfl (by omega) ?_
  refine cb_icmp_eq C 29 dX0_relax_14 (by decide) (by omega) (by omega) (fun h1 => ?_) (fun h1 => ?_)
  · exact J29 ls (fun q => q.1 h1) hl
  refine cb_iload C hl dX0_relax_17 rfl ?_
  refine cb_aload_n C hl dX0_relax_19 rfl ?_
  refine cb_xg_13 C hw dX0_relax_20 ?_
  refine cb_iload_n C hl dX0_relax_23 rfl ?_
  refine cb_xiald C hw dX0_relax_24 rfl (by omega) ?_
  refine cb_icmp_eq C 29 dX0_relax_25 (by decide) (by omega) (by omega) (fun h2 => ?_) (fun h2 => ?_)
  · exact J29 ls (fun q => q.2 h2) hl
  · refine ret _ _ _ _ (hw.eq ?_) dX0_relax_28
    unfold rx_S
    rw [if_pos ⟨h1, h2⟩]
end
section
/-! CycleBasis: searchFrom, lightest, addCycle, solve -/
theorem met_searchFrom (l : Launch) (D : va_G) (cI cZ : ClassId) (h : Nat) (a : Nat → Nat) (σ : cb_S) (ok : cb_OK σ) {start set wo : Nat} (hst : start < 14) (hs : set < 4096) (hwo : wo < 4294967296) : cb_C l yX0_searchFrom cX0_searchFrom 7 none 2 28 D cI cZ (cb_WX h a cI cZ) [.ref h, .int (nI start), .int (nI set), .int (nI wo)] σ none (sf_S σ start set wo) := by
  refine cb_ofV (by decide) rfl (Nat.le_of_ble_eq_true rfl) ?_
  intro p e_ s m args below meth c A Q C hw ret ls hl
  have hl : cb_L ls 7 [_, _, _, _, _, _, _] := hl
  -- the loop of the search
  have L54 : ∀ (k i x : Nat) (t : cb_S), i + k = 14 → (x = 4294967295 ∨ x < 14) → cb_OK t → sf_B t → (∀ y, y < 14 → t 12 y ≤ 1) → sf_l set wo k t x = sf_S σ start set wo → ∀ (H : Heap) (locs : List Loc) (ls : Array Slot) (o6 : Option Value), cb_W D cI cZ (cb_WX h a cI cZ) A s t H locs → cb_L ls 7 [some (.ref h), some (.int (nI start)), some (.int (nI set)), some (.int (nI wo)), some (.int (nI x)), some (.int (nI i)), o6] → W p l e_ (cb_R 2 28) s m args below meth c H locs 0 0 Q (F0 m 54 ls []) := by
    intro k
    induction k with
    | zero =>
      intro i x t hi hx okt hB hdn hT H locs ls o6 hw hl
      refine cb_iload C hl dX0_searchFrom_54 rfl ?_
      refine cb_bipush C 14 dX0_searchFrom_56 rfl ?_
      refine cb_icmp_ge C 119 dX0_searchFrom_58 (by decide) (by omega) (by omega) (fun h1 => ?_) (fun h1 => ?_)
      · exact ret _ _ _ _ (hw.eq hT) dX0_searchFrom_119
      · exact absurd h1 (by omega)
    | succ k ih =>
      intro i x t hi hx okt hB hdn hT H locs ls o6 hw hl
      refine cb_iload C hl dX0_searchFrom_54 rfl ?_
      refine cb_bipush C 14 dX0_searchFrom_56 rfl ?_
      refine cb_icmp_ge C 119 dX0_searchFrom_58 (by decide) (by omega) (by omega) (fun h1 => ?_) (fun h1 => ?_)
      · exact absurd h1 (by omega)
      refine cb_iload C hl dX0_searchFrom_61 rfl ?_
      refine cb_if_lt C 119 dX0_searchFrom_63 (by decide) (by omega) (fun h2 => ?_) (fun h2 => ?_)
      · refine ret _ _ _ _ (hw.eq ?_) dX0_searchFrom_119
        rw [← hT]
        unfold sf_l
        rw [if_pos (by omega)]
      have hx14 : x < 14 := by omega
      have hc := okt.1
      have okt1 : cb_OK (cb_up t 12 x 1) := (cb_G.up (by decide)).ok okt
      have hB1 : sf_B (cb_up t 12 x 1) := sf_B_up hB (by decide) (by decide)
      have hT2 : sf_l set wo k (sf_1 t x set wo) (sf_n (sf_1 t x set wo)) = sf_S σ start set wo := by
        rw [← hT]
        show _ = (if _ then _ else _)
        rw [if_neg (by omega)]
      refine cb_aload_n C hl dX0_searchFrom_66 rfl ?_
      refine cb_xg_37 C hw dX0_searchFrom_67 ?_
      refine cb_iload C hl dX0_searchFrom_70 rfl ?_
      refine cb_iconst C 1 dX0_searchFrom_72 rfl ?_
      refine cb_xbast C hw dX0_searchFrom_73 (by omega) (by decide) (fun H locs hw => ?_)
      refine cb_iconst C 0 dX0_searchFrom_74 rfl ?_
      refine cb_istore C hl dX0_searchFrom_75 (by decide) (fun ls (hl : cb_L ls 7 [_, _, _, _, _, _, _]) => ?_)
      have L77 : ∀ (j e : Nat), e + j = t 0 0 → ∀ (H : Heap) (locs : List Loc) (ls : Array Slot), cb_W D cI cZ (cb_WX h a cI cZ) A s (sf_r (cb_up t 12 x 1) x set wo e) H locs → cb_L ls 7 [some (.ref h), some (.int (nI start)), some (.int (nI set)), some (.int (nI wo)), some (.int (nI x)), some (.int (nI i)), some (.int (nI e))] → W p l e_ (cb_R 2 28) s m args below meth c H locs 0 0 Q (F0 m 77 ls []) := by
        intro j
        induction j with
        | zero =>
          intro e he H locs ls hw hl
          have e0 : sf_r (cb_up t 12 x 1) x set wo e 0 0 = t 0 0 := by rw [sf_r_G _ x set wo e 0 (by decide), cb_up_k _ (by decide)]
          have eT : sf_r (cb_up t 12 x 1) x set wo e = sf_1 t x set wo := by unfold sf_1; rw [show t 0 0 = e by omega]
          refine cb_iload C hl dX0_searchFrom_77 rfl ?_
          refine cb_aload_n C hl dX0_searchFrom_79 rfl ?_
          refine cb_xg_44 C hw dX0_searchFrom_80 ?_
          refine cb_icmp_ge C 107 dX0_searchFrom_83 (by decide) (by omega) (by omega) (fun h3 => ?_) (fun h3 => ?_)
          · rw [eT] at hw
            have hB2 := sf_1_B okt hB set wo hx14
            have hd2 : ∀ y, y < 14 → sf_1 t x set wo 12 y ≤ 1 := by
              intro y hy
              unfold sf_1
              rw [sf_r_k _ _ _ _ (by decide) (by decide)]
              by_cases hyx : y = x
              · rw [hyx, cb_up_s]; exact Nat.le_refl 1
              · rw [cb_up_i _ _ hyx]; exact hdn y hy
            refine cb_aload_n C hl dX0_searchFrom_107 rfl ?_
            refine cb_callVI C hw (met_nearest l D cI cZ h a (sf_1 t x set wo) (fun y hy => (hB2 y hy).1) hd2) (cwX0_X0_nearest C.2.2.2.2 ⟨by decide, by decide⟩) (cb_reX hw) rfl hl.1 rfl (Nat.le_of_ble_eq_true rfl) ⟨Nat.zero_le _, Nat.zero_le _⟩ dX0_searchFrom_108 (fun H locs hw => ?_)
            refine cb_istore C hl dX0_searchFrom_111 (by decide) (fun ls (hl : cb_L ls 7 [_, _, _, _, _, _, _]) => ?_)
            refine cb_inc1 C hl dX0_searchFrom_113 rfl (by decide) (fun ls (hl : cb_L ls 7 [_, _, _, _, _, _, _]) => ?_)
            refine cb_goto C 54 dX0_searchFrom_116 (by decide) ?_
            exact ih (i + 1) _ _ (by omega) (ne_lt _ _ 14) ((sf_1_G t x set wo).ok okt) hB2 hd2 hT2 H locs ls _ hw hl
          · exact absurd h3 (by omega)
        | succ j ihj =>
          intro e he H locs ls hw hl
          have e0 : sf_r (cb_up t 12 x 1) x set wo e 0 0 = t 0 0 := by rw [sf_r_G _ x set wo e 0 (by decide), cb_up_k _ (by decide)]
          refine cb_iload C hl dX0_searchFrom_77 rfl ?_
          refine cb_aload_n C hl dX0_searchFrom_79 rfl ?_
          refine cb_xg_44 C hw dX0_searchFrom_80 ?_
          refine cb_icmp_ge C 107 dX0_searchFrom_83 (by decide) (by omega) (by omega) (fun h3 => ?_) (fun h3 => ?_)
          · exact absurd h3 (by omega)
          refine cb_iload C hl dX0_searchFrom_86 rfl ?_
          refine cb_iload_n C hl dX0_searchFrom_88 rfl ?_
          refine cb_icmp_eq C 101 dX0_searchFrom_89 (by decide) (by omega) (by omega) (fun h4 => ?_) (fun h4 => ?_)
          · refine cb_inc1 C hl dX0_searchFrom_101 rfl (by decide) (fun ls (hl : cb_L ls 7 [_, _, _, _, _, _, _]) => ?_)
            refine cb_goto C 77 dX0_searchFrom_104 (by decide) ?_
            refine ihj (e + 1) (by omega) H locs ls (hw.eq ?_) hl
            show _ = (if _ then _ else _)
            rw [if_pos h4]
          · refine cb_aload_n C hl dX0_searchFrom_92 rfl ?_
            refine cb_iload C hl dX0_searchFrom_93 rfl ?_
            refine cb_iload C hl dX0_searchFrom_95 rfl ?_
            refine cb_iload_n C hl dX0_searchFrom_97 rfl ?_
            refine cb_callVV C hw (met_relax l D cI cZ h a (sf_r (cb_up t 12 x 1) x set wo e) ((sf_r_G _ x set wo e).ok okt1) (sf_r_B okt1 hB1 set wo hx14 e (by rw [cb_up_k _ (by decide)]; omega)) hx14 (by omega) hs) (cwX0_X0_relax C.2.2.2.2 ⟨by decide, by decide⟩) (cb_reX hw) rfl hl.1 rfl (Nat.le_of_ble_eq_true rfl) ⟨Nat.zero_le _, Nat.zero_le _⟩ dX0_searchFrom_98 (fun H locs hw => ?_)
            refine cb_inc1 C hl dX0_searchFrom_101 rfl (by decide) (fun ls (hl : cb_L ls 7 [_, _, _, _, _, _, _]) => ?_)
            refine cb_goto C 77 dX0_searchFrom_104 (by decide) ?_
            refine ihj (e + 1) (by omega) H locs ls (hw.eq ?_) hl
            show _ = (if _ then _ else _)
            rw [if_neg h4]
      exact L77 (t 0 0) 0 (by omega) H locs ls hw hl
  refine cb_iconst C 0 dX0_searchFrom_0 rfl ?_
  refine cb_istore C hl dX0_searchFrom_1 (by decide) (fun ls (hl : cb_L ls 7 [_, _, _, _, _, _, _]) => ?_)
  have L3 : ∀ (k x : Nat), x + k = 14 → ∀ (H : Heap) (locs : List Loc) (ls : Array Slot), cb_W D cI cZ (cb_WX h a cI cZ) A s (sf_i σ x) H locs → cb_L ls 7 [some (.ref h), some (.int (nI start)), some (.int (nI set)), some (.int (nI wo)), some (.int (nI x)), none, none] → W p l e_ (cb_R 2 28) s m args below meth c H locs 0 0 Q (F0 m 3 ls []) := by
    intro k
    induction k with
    | zero =>
      intro x hx H locs ls hw hl
      obtain rfl : x = 14 := by omega
      refine cb_iload C hl dX0_searchFrom_3 rfl ?_
      refine cb_bipush C 14 dX0_searchFrom_5 rfl ?_
      refine cb_icmp_ge C 41 dX0_searchFrom_7 (by decide) (by omega) (by omega) (fun h1 => ?_) (fun h1 => ?_)
      · refine cb_aload_n C hl dX0_searchFrom_41 rfl ?_
        refine cb_xg_31 C hw dX0_searchFrom_42 ?_
        refine cb_iload_n C hl dX0_searchFrom_45 rfl ?_
        refine cb_iconst C 0 dX0_searchFrom_46 rfl ?_
        refine cb_xiast C hw dX0_searchFrom_47 rfl (by omega) (fun H locs hw => ?_)
        refine cb_iload_n C hl dX0_searchFrom_48 rfl ?_
        refine cb_istore C hl dX0_searchFrom_49 (by decide) (fun ls (hl : cb_L ls 7 [_, _, _, _, _, _, _]) => ?_)
        refine cb_iconst C 0 dX0_searchFrom_51 rfl ?_
        refine cb_istore C hl dX0_searchFrom_52 (by decide) (fun ls (hl : cb_L ls 7 [_, _, _, _, _, _, _]) => ?_)
        refine L54 14 0 start _ rfl (Or.inr hst) ((sf_0_G σ start).ok ok) (sf_0_B σ start) ?_ rfl H locs ls _ hw hl
        intro y hy
        rw [cb_up_k _ (by decide), (sf_i_v σ 14 y hy).2.2]
        exact Nat.zero_le 1
      · exact absurd h1 (by omega)
    | succ k ih =>
      intro x hx H locs ls hw hl
      refine cb_iload C hl dX0_searchFrom_3 rfl ?_
      refine cb_bipush C 14 dX0_searchFrom_5 rfl ?_
      refine cb_icmp_ge C 41 dX0_searchFrom_7 (by decide) (by omega) (by omega) (fun h1 => ?_) (fun h1 => ?_)
      · exact absurd h1 (by omega)
      refine cb_aload_n C hl dX0_searchFrom_10 rfl ?_
      refine cb_xg_31 C hw dX0_searchFrom_11 ?_
      refine cb_iload C hl dX0_searchFrom_14 rfl ?_
      refine cb_ldc58 C dX0_searchFrom_16 ?_
      refine cb_xiast C hw dX0_searchFrom_18 rfl (by omega) (fun H locs hw => ?_)
      refine cb_aload_n C hl dX0_searchFrom_19 rfl ?_
      refine cb_xg_34 C hw dX0_searchFrom_20 ?_
      refine cb_iload C hl dX0_searchFrom_23 rfl ?_
      refine cb_iconst C 0 dX0_searchFrom_25 rfl ?_
      refine cb_xiast C hw dX0_searchFrom_26 rfl (by omega) (fun H locs hw => ?_)
      refine cb_aload_n C hl dX0_searchFrom_27 rfl ?_
      refine cb_xg_37 C hw dX0_searchFrom_28 ?_
      refine cb_iload C hl dX0_searchFrom_31 rfl ?_
      refine cb_iconst C 0 dX0_searchFrom_33 rfl ?_
      refine cb_xbast C hw dX0_searchFrom_34 (by omega) (by decide) (fun H locs hw => ?_)
      refine cb_inc1 C hl dX0_searchFrom_35 rfl (by decide) (fun ls (hl : cb_L ls 7 [_, _, _, _, _, _, _]) => ?_)
      refine cb_goto C 3 dX0_searchFrom_38 (by decide) ?_
      exact ih (x + 1) (by omega) H locs ls (hw.eq rfl) hl
  exact L3 14 0 rfl _ _ ls hw hl
theorem met_lightest (l : Launch) (D : va_G) (cI cZ : ClassId) (h : Nat) (a : Nat → Nat) (σ : cb_S) (ok : cb_OK σ) {set : Nat} (hs : set < 4096) : cb_C l yX0_lightest cX0_lightest 3 none 3 54 D cI cZ (cb_WX h a cI cZ) [.ref h, .int (nI set)] σ none (li_S σ set) := by
  refine cb_ofV (by decide) rfl (Nat.le_of_ble_eq_true rfl) ?_
  intro p e_ s m args below meth c A Q C hw ret ls hl
  have hl : cb_L ls 3 [_, _, _] := hl
  refine cb_aload_n C hl dX0_lightest_0 rfl ?_
  refine cb_ldc58 C dX0_lightest_1 ?_
  refine cb_xp_67 C hw dX0_lightest_3 (fun H locs hw => ?_)
  refine cb_aload_n C hl dX0_lightest_6 rfl ?_
  refine cb_iconst C 0 dX0_lightest_7 rfl ?_
  refine cb_xp_70 C hw dX0_lightest_8 (fun H locs hw => ?_)
  refine cb_iconst C 0 dX0_lightest_11 rfl ?_
  refine cb_istore_n C hl dX0_lightest_12 (by decide) (fun ls (hl : cb_L ls 3 [_, _, _]) => ?_)
  have L13 : ∀ (k v : Nat), v + k = 7 → ∀ (H : Heap) (locs : List Loc) (ls : Array Slot), cb_W D cI cZ (cb_WX h a cI cZ) A s (li_f σ set v) H locs → cb_L ls 3 [some (.ref h), some (.int (nI set)), some (.int (nI v))] → W p l e_ (cb_R 3 54) s m args below meth c H locs 0 0 Q (F0 m 13 ls []) := by
    intro k
    induction k with
    | zero =>
      intro v hv H locs ls hw hl
      obtain rfl : v = 7 := by omega
      refine cb_iload_n C hl dX0_lightest_13 rfl ?_
      refine cb_bipush C 7 dX0_lightest_14 rfl ?_
      refine cb_icmp_ge C 74 dX0_lightest_16 (by decide) (by omega) (by omega) (fun h1 => ?_) (fun h1 => ?_)
      · exact ret _ _ _ _ hw dX0_lightest_74
      · exact absurd h1 (by omega)
    | succ k ih =>
      intro v hv H locs ls hw hl
      have okv := (li_f_G σ set v).ok ok
      have hB := sf_S_B okv set 4294967295 (by omega : v < 14) (v + 7) (by omega)
      have hb := (li_f_B ok set v (by omega)).1
      have e1 : sf_S (li_f σ set v) v set 4294967295 13 0 = li_f σ set v 13 0 := by rw [sf_S_k _ _ _ _ (by decide) (by decide) (by decide)]
      refine cb_iload_n C hl dX0_lightest_13 rfl ?_
      refine cb_bipush C 7 dX0_lightest_14 rfl ?_
      refine cb_icmp_ge C 74 dX0_lightest_16 (by decide) (by omega) (by omega) (fun h1 => ?_) (fun h1 => ?_)
      · exact absurd h1 (by omega)
      refine cb_aload_n C hl dX0_lightest_19 rfl ?_
      refine cb_iload_n C hl dX0_lightest_20 rfl ?_
      refine cb_iload_n C hl dX0_lightest_21 rfl ?_
      refine cb_iconst C 4294967295 dX0_lightest_22 rfl ?_
      refine cb_callVV C hw (met_searchFrom l D cI cZ h a (li_f σ set v) okv (by omega : v < 14) hs (by decide)) (cwX0_X0_searchFrom C.2.2.2.2 ⟨by decide, by decide⟩) (cb_reX hw) rfl hl.1 rfl (Nat.le_of_ble_eq_true rfl) ⟨Nat.zero_le _, Nat.zero_le _⟩ dX0_lightest_23 (fun H locs hw => ?_)
      refine cb_aload_n C hl dX0_lightest_26 rfl ?_
      refine cb_xg_31 C hw dX0_lightest_27 ?_
      refine cb_iload_n C hl dX0_lightest_30 rfl ?_
      refine cb_bipush C 7 dX0_lightest_31 rfl ?_
      refine cb_iadd C dX0_lightest_33 ?_
      refine cb_xiald C hw dX0_lightest_34 rfl (by omega) ?_
      refine cb_aload_n C hl dX0_lightest_35 rfl ?_
      refine cb_xg_67 C hw dX0_lightest_36 ?_
      refine cb_icmp_ge C 68 dX0_lightest_39 (by decide) (by omega) (by omega) (fun h2 => ?_) (fun h2 => ?_)
      · refine cb_inc1 C hl dX0_lightest_68 rfl (by decide) (fun ls (hl : cb_L ls 3 [_, _, _]) => ?_)
        refine cb_goto C 13 dX0_lightest_71 (by decide) ?_
        refine ih (v + 1) (by omega) H locs ls (hw.eq ?_) hl
        show _ = li_1 _ v
        unfold li_1
        rw [if_neg (by omega)]
      · refine cb_aload_n C hl dX0_lightest_42 rfl ?_
        refine cb_aload_n C hl dX0_lightest_43 rfl ?_
        refine cb_xg_31 C hw dX0_lightest_44 ?_
        refine cb_iload_n C hl dX0_lightest_47 rfl ?_
        refine cb_bipush C 7 dX0_lightest_48 rfl ?_
        refine cb_iadd C dX0_lightest_50 ?_
        refine cb_xiald C hw dX0_lightest_51 rfl (by omega) ?_
        refine cb_xp_67 C hw dX0_lightest_52 (fun H locs hw => ?_)
        refine cb_aload_n C hl dX0_lightest_55 rfl ?_
        refine cb_aload_n C hl dX0_lightest_56 rfl ?_
        refine cb_xg_34 C hw dX0_lightest_57 ?_
        refine cb_iload_n C hl dX0_lightest_60 rfl ?_
        refine cb_bipush C 7 dX0_lightest_61 rfl ?_
        refine cb_iadd C dX0_lightest_63 ?_
        refine cb_xiald C hw dX0_lightest_64 rfl (by omega) ?_
        refine cb_xp_70 C hw dX0_lightest_65 (fun H locs hw => ?_)
        refine cb_inc1 C hl dX0_lightest_68 rfl (by decide) (fun ls (hl : cb_L ls 3 [_, _, _]) => ?_)
        refine cb_goto C 13 dX0_lightest_71 (by decide) ?_
        refine ih (v + 1) (by omega) H locs ls (hw.eq ?_) hl
        show _ = li_1 _ v
        unfold li_1
        rw [if_pos h2]
        simp [cb_up]
  exact L13 7 0 rfl _ _ ls (hw.eq rfl) hl
theorem met_addCycle (l : Launch) (D : va_G) (cI cZ : ClassId) (h : Nat) (a : Nat → Nat) (σ : cb_S) {set w : Nat} (h7 : σ 7 0 < 12) (h9 : ∀ j, j < σ 7 0 → σ 9 j ≤ 1000000) (hw0 : w ≤ 1000000) : cb_C l yX0_addCycle cX0_addCycle 4 none 1 0 D cI cZ (cb_WX h a cI cZ) [.ref h, .int (nI set), .int (nI w)] σ none (ac_S σ set w) := by
  refine cb_ofV (by decide) rfl (Nat.le_of_ble_eq_true rfl) ?_
  intro p e_ s m args below meth c A Q C hw ret ls hl
  have hl : cb_L ls 4 [_, _, _, _] := hl
  have L5 : ∀ (k : Nat) (t : cb_S), k ≤ σ 7 0 → (∀ j, j < k → t 9 j ≤ 1000000) → t 7 0 = σ 7 0 → ac_f w k t = ac_f w (σ 7 0) σ → ∀ (H : Heap) (locs : List Loc) (ls : Array Slot), cb_W D cI cZ (cb_WX h a cI cZ) A s t H locs → cb_L ls 4 [some (.ref h), some (.int (nI set)), some (.int (nI w)), some (.int (nI k))] → W p l e_ (cb_R 1 0) s m args below meth c H locs 0 0 Q (F0 m 5 ls []) := by
    intro k
    induction k with
    | zero =>
      intro t hk ht9 ht7 hT H locs ls hw hl
      refine cb_iload_n C hl dX0_addCycle_5 rfl ?_
      refine cb_if_le C 55 dX0_addCycle_6 (by decide) (by omega) (fun h1 => ?_) (fun h1 => ?_)
      · refine cb_aload_n C hl dX0_addCycle_55 rfl ?_
        refine cb_xg_25 C hw dX0_addCycle_56 ?_
        refine cb_iload_n C hl dX0_addCycle_59 rfl ?_
        refine cb_iload_n C hl dX0_addCycle_60 rfl ?_
        refine cb_xiast C hw dX0_addCycle_61 rfl (by omega) (fun H locs hw => ?_)
        refine cb_aload_n C hl dX0_addCycle_62 rfl ?_
        refine cb_xg_28 C hw dX0_addCycle_63 ?_
        refine cb_iload_n C hl dX0_addCycle_66 rfl ?_
        refine cb_iload_n C hl dX0_addCycle_67 rfl ?_
        refine cb_xiast C hw dX0_addCycle_68 rfl (by omega) (fun H locs hw => ?_)
        refine cb_aload_n C hl dX0_addCycle_69 rfl ?_
        refine cb_dup C dX0_addCycle_70 rfl ?_
        refine cb_xg_79 C hw dX0_addCycle_71 ?_
        refine cb_iconst C 1 dX0_addCycle_74 rfl ?_
        refine cb_iadd C dX0_addCycle_75 ?_
        refine cb_xp_79 C hw dX0_addCycle_76 (fun H locs hw => ?_)
        refine ret _ _ _ _ (hw.eq ?_) dX0_addCycle_79
        unfold ac_S
        rw [← hT]
        simp [ac_f, cb_up, ht7]
      · exact absurd h1 (by omega)
    | succ k ih =>
      intro t hk ht9 ht7 hT H locs ls hw hl
      have g1 := ht9 k (by omega)
      refine cb_iload_n C hl dX0_addCycle_5 rfl ?_
      refine cb_if_le C 55 dX0_addCycle_6 (by decide) (by omega) (fun h1 => ?_) (fun h1 => ?_)
      · exact absurd h1 (by omega)
      refine cb_aload_n C hl dX0_addCycle_9 rfl ?_
      refine cb_xg_28 C hw dX0_addCycle_10 ?_
      refine cb_iload_n C hl dX0_addCycle_13 rfl ?_
      refine cb_iconst C 1 dX0_addCycle_14 rfl ?_
      refine cb_isub C dX0_addCycle_15 (by omega) ?_
      rw [show k + 1 - 1 = k by omega]
      refine cb_xiald C hw dX0_addCycle_16 rfl (by omega) ?_
      refine cb_iload_n C hl dX0_addCycle_17 rfl ?_
      refine cb_icmp_le C 55 dX0_addCycle_18 (by decide) (by omega) (by omega) (fun h2 => ?_) (fun h2 => ?_)
      · refine cb_aload_n C hl dX0_addCycle_55 rfl ?_
        refine cb_xg_25 C hw dX0_addCycle_56 ?_
        refine cb_iload_n C hl dX0_addCycle_59 rfl ?_
        refine cb_iload_n C hl dX0_addCycle_60 rfl ?_
        refine cb_xiast C hw dX0_addCycle_61 rfl (by omega) (fun H locs hw => ?_)
        refine cb_aload_n C hl dX0_addCycle_62 rfl ?_
        refine cb_xg_28 C hw dX0_addCycle_63 ?_
        refine cb_iload_n C hl dX0_addCycle_66 rfl ?_
        refine cb_iload_n C hl dX0_addCycle_67 rfl ?_
        refine cb_xiast C hw dX0_addCycle_68 rfl (by omega) (fun H locs hw => ?_)
        refine cb_aload_n C hl dX0_addCycle_69 rfl ?_
        refine cb_dup C dX0_addCycle_70 rfl ?_
        refine cb_xg_79 C hw dX0_addCycle_71 ?_
        refine cb_iconst C 1 dX0_addCycle_74 rfl ?_
        refine cb_iadd C dX0_addCycle_75 ?_
        refine cb_xp_79 C hw dX0_addCycle_76 (fun H locs hw => ?_)
        refine ret _ _ _ _ (hw.eq ?_) dX0_addCycle_79
        unfold ac_S
        rw [← hT]
        unfold ac_f
        rw [if_neg (by omega)]
        simp [cb_up, ht7]
      · refine cb_aload_n C hl dX0_addCycle_21 rfl ?_
        refine cb_xg_25 C hw dX0_addCycle_22 ?_
        refine cb_iload_n C hl dX0_addCycle_25 rfl ?_
        refine cb_aload_n C hl dX0_addCycle_26 rfl ?_
        refine cb_xg_25 C hw dX0_addCycle_27 ?_
        refine cb_iload_n C hl dX0_addCycle_30 rfl ?_
        refine cb_iconst C 1 dX0_addCycle_31 rfl ?_
        refine cb_isub C dX0_addCycle_32 (by omega) ?_
        refine cb_xiald C hw dX0_addCycle_33 rfl (by omega) ?_
        refine cb_xiast C hw dX0_addCycle_34 rfl (by omega) (fun H locs hw => ?_)
        refine cb_aload_n C hl dX0_addCycle_35 rfl ?_
        refine cb_xg_28 C hw dX0_addCycle_36 ?_
        refine cb_iload_n C hl dX0_addCycle_39 rfl ?_
        refine cb_aload_n C hl dX0_addCycle_40 rfl ?_
        refine cb_xg_28 C hw dX0_addCycle_41 ?_
        refine cb_iload_n C hl dX0_addCycle_44 rfl ?_
        refine cb_iconst C 1 dX0_addCycle_45 rfl ?_
        refine cb_isub C dX0_addCycle_46 (by omega) ?_
        refine cb_xiald C hw dX0_addCycle_47 rfl (by omega) ?_
        refine cb_xiast C hw dX0_addCycle_48 rfl (by omega) (fun H locs hw => ?_)
        refine cb_iinc C hl dX0_addCycle_49 rfl (cb_m1 (by omega)) (by decide) (fun ls (hl : cb_L ls 4 [_, _, _, _]) => ?_)
        refine cb_goto C 5 dX0_addCycle_52 (by decide) ?_
        refine ih _ (by omega) ?_ ?_ ?_ H locs ls hw hl
        · intro j hj
          rw [cb_up_i _ _ (by omega), cb_up_i _ _ (by omega)]
          exact ht9 j (by omega)
        · rw [cb_up_k _ (by decide), cb_up_k _ (by decide)]; exact ht7
        · rw [← hT]
          show _ = (if _ then _ else _)
          rw [if_pos h2]
          simp [cb_up]
  refine cb_aload_n C hl dX0_addCycle_0 rfl ?_
  refine cb_xg_79 C hw dX0_addCycle_1 ?_
  refine cb_istore_n C hl dX0_addCycle_4 (by decide) (fun ls (hl : cb_L ls 4 [_, _, _, _]) => ?_)
  exact L5 (σ 7 0) σ (Nat.le_refl _) h9 rfl rfl _ _ ls hw hl
theorem met_solve (l : Launch) (D : va_G) (cI cZ : ClassId) (h : Nat) (a : Nat → Nat) (σ : cb_S) (ok : cb_OK σ) : cb_C l yX0_solve cX0_solve 4 none 4 76 D cI cZ (cb_WX h a cI cZ) [.ref h] σ none (so_S σ) := by
  refine cb_ofV (by decide) rfl (Nat.le_of_ble_eq_true rfl) ?_
  intro p e_ s m args below meth c A Q C hw ret ls hl
  have hl : cb_L ls 4 [_, _, _, _] := hl
  refine cb_aload_n C hl dX0_solve_0 rfl ?_
  refine cb_callVV C hw (met_startWitnesses l D cI cZ h a σ ok) (cwX0_X0_startWitnesses C.2.2.2.2 ⟨by decide, by decide⟩) (cb_reX hw) rfl hl.1 rfl (Nat.le_of_ble_eq_true rfl) ⟨Nat.zero_le _, Nat.zero_le _⟩ dX0_solve_1 (fun H locs hw => ?_)
  refine cb_aload_n C hl dX0_solve_4 rfl ?_
  refine cb_iconst C 0 dX0_solve_5 rfl ?_
  refine cb_xp_79 C hw dX0_solve_6 (fun H locs hw => ?_)
  refine cb_iconst C 0 dX0_solve_9 rfl ?_
  refine cb_istore_n C hl dX0_solve_10 (by decide) (fun ls (hl : cb_L ls 4 [_, _, _, _]) => ?_)
  have L11 : ∀ (k i : Nat), i + k = sw_S σ 5 0 → ∀ (H : Heap) (locs : List Loc) (ls : Array Slot) (o2 o3 : Option Value), cb_W D cI cZ (cb_WX h a cI cZ) A s (so_i (sw_S σ) i) H locs → cb_L ls 4 [some (.ref h), some (.int (nI i)), o2, o3] → W p l e_ (cb_R 4 76) s m args below meth c H locs 0 0 Q (F0 m 11 ls []) := by
    intro k
    induction k with
    | zero =>
      intro i hi H locs ls o2 o3 hw hl
      obtain ⟨ok2, g5, gi, g7, g6, g9⟩ := so_i_B ok i (by omega)
      have e5 : so_i (sw_S σ) i 5 0 = sw_S σ 5 0 := by rw [so_i_k _ (by omega)]
      refine cb_iload_n C hl dX0_solve_11 rfl ?_
      refine cb_aload_n C hl dX0_solve_12 rfl ?_
      refine cb_xg_55 C hw dX0_solve_13 ?_
      refine cb_icmp_ge C 98 dX0_solve_16 (by decide) (by omega) (by omega) (fun h1 => ?_) (fun h1 => ?_)
      · refine ret _ _ _ _ (hw.eq ?_) dX0_solve_98
        unfold so_S
        rw [show sw_S σ 5 0 = i by omega]
      · exact absurd h1 (by omega)
    | succ k ih =>
      intro i hi H locs ls o2 o3 hw hl
      obtain ⟨ok2, g5, gi, g7, g6, g9⟩ := so_i_B ok i (by omega)
      have e5 : so_i (sw_S σ) i 5 0 = sw_S σ 5 0 := by rw [so_i_k _ (by omega)]
      have gw := g6 i (by omega)
      have gl := li_S_B ok2 (so_i (sw_S σ) i 6 i)
      have gl7 : li_S (so_i (sw_S σ) i) (so_i (sw_S σ) i 6 i) 7 = so_i (sw_S σ) i 7 := li_S_k _ _ (by decide) (by decide) (by decide) (by decide) (by decide)
      have gl9 : li_S (so_i (sw_S σ) i) (so_i (sw_S σ) i 6 i) 9 = so_i (sw_S σ) i 9 := li_S_k _ _ (by decide) (by decide) (by decide) (by decide) (by decide)
      have gl5 : li_S (so_i (sw_S σ) i) (so_i (sw_S σ) i 6 i) 5 = so_i (sw_S σ) i 5 := li_S_k _ _ (by decide) (by decide) (by decide) (by decide) (by decide)
      have gl6 : li_S (so_i (sw_S σ) i) (so_i (sw_S σ) i 6 i) 6 = so_i (sw_S σ) i 6 := li_S_k _ _ (by decide) (by decide) (by decide) (by decide) (by decide)
      refine cb_iload_n C hl dX0_solve_11 rfl ?_
      refine cb_aload_n C hl dX0_solve_12 rfl ?_
      refine cb_xg_55 C hw dX0_solve_13 ?_
      refine cb_icmp_ge C 98 dX0_solve_16 (by decide) (by omega) (by omega) (fun h1 => ?_) (fun h1 => ?_)
      · exact absurd h1 (by omega)
      refine cb_aload_n C hl dX0_solve_19 rfl ?_
      refine cb_aload_n C hl dX0_solve_20 rfl ?_
      refine cb_xg_22 C hw dX0_solve_21 ?_
      refine cb_iload_n C hl dX0_solve_24 rfl ?_
      refine cb_xiald C hw dX0_solve_25 rfl (by omega) ?_
      refine cb_callVV C hw (met_lightest l D cI cZ h a (so_i (sw_S σ) i) ok2 gw) (cwX0_X0_lightest C.2.2.2.2 ⟨by decide, by decide⟩) (cb_reX hw) rfl hl.1 rfl (Nat.le_of_ble_eq_true rfl) ⟨Nat.zero_le _, Nat.zero_le _⟩ dX0_solve_26 (fun H locs hw => ?_)
      refine cb_aload_n C hl dX0_solve_29 rfl ?_
      refine cb_aload_n C hl dX0_solve_30 rfl ?_
      refine cb_xg_70 C hw dX0_solve_31 ?_
      refine cb_aload_n C hl dX0_solve_34 rfl ?_
      refine cb_xg_67 C hw dX0_solve_35 ?_
      refine cb_callVV C hw (met_addCycle l D cI cZ h a (li_S (so_i (sw_S σ) i) (so_i (sw_S σ) i 6 i)) (by rw [gl7]; omega) (by rw [gl7, gl9, g7]; exact fun j hj => (g9 j hj).1) gl.1) (cwX0_X0_addCycle C.2.2.2.2 ⟨by decide, by decide⟩) (cb_reX hw) rfl hl.1 rfl (Nat.le_of_ble_eq_true rfl) ⟨Nat.zero_le _, Nat.zero_le _⟩ dX0_solve_38 (fun H locs hw => ?_)
      refine cb_iload_n C hl dX0_solve_41 rfl ?_
      refine cb_iconst C 1 dX0_solve_42 rfl ?_
      refine cb_iadd C dX0_solve_43 ?_
      refine cb_istore_n C hl dX0_solve_44 (by decide) (fun ls (hl : cb_L ls 4 [_, _, _, _]) => ?_)
      have L45 : ∀ (n j : Nat), j + n = sw_S σ 5 0 - (i + 1) → ∀ (H : Heap) (locs : List Loc) (ls : Array Slot) (o3 : Option Value), cb_W D cI cZ (cb_WX h a cI cZ) A s (so_j (ac_S (li_S (so_i (sw_S σ) i) (so_i (sw_S σ) i 6 i)) (li_S (so_i (sw_S σ) i) (so_i (sw_S σ) i 6 i) 14 0) (li_S (so_i (sw_S σ) i) (so_i (sw_S σ) i 6 i) 13 0)) i j) H locs → cb_L ls 4 [some (.ref h), some (.int (nI i)), some (.int (nI (i + 1 + j))), o3] → W p l e_ (cb_R 4 76) s m args below meth c H locs 0 0 Q (F0 m 45 ls []) := by
        generalize hgt : ac_S (li_S (so_i (sw_S σ) i) (so_i (sw_S σ) i 6 i)) (li_S (so_i (sw_S σ) i) (so_i (sw_S σ) i 6 i) 14 0) (li_S (so_i (sw_S σ) i) (so_i (sw_S σ) i 6 i) 13 0) = t
        have t5 : t 5 0 = sw_S σ 5 0 := by rw [← hgt, ac_S_k _ _ _ (by decide) (by decide) (by decide), gl5, e5]
        have t6 : ∀ j, j < sw_S σ 5 0 → t 6 j < 4096 := by
          intro j hj
          rw [← hgt, ac_S_k _ _ _ (by decide) (by decide) (by decide), gl6]
          exact g6 j (by omega)
        have t6' : ∀ n j, j < sw_S σ 5 0 → so_j t i n 6 j < 4096 := by
          intro n j hj
          rw [so_j_6]
          split
          · exact xor_12 (t6 j hj) (t6 i (by omega))
          · exact t6 j hj
        intro n
        induction n with
        | zero =>
          intro j hj H locs ls o3 hw hl
          have f5 : so_j t i j 5 0 = sw_S σ 5 0 := by rw [so_j_k _ _ (by decide)]; exact t5
          refine cb_iload_n C hl dX0_solve_45 rfl ?_
          refine cb_aload_n C hl dX0_solve_46 rfl ?_
          refine cb_xg_55 C hw dX0_solve_47 ?_
          refine cb_icmp_ge C 92 dX0_solve_50 (by decide) (by omega) (by omega) (fun h2 => ?_) (fun h2 => ?_)
          · refine cb_inc1 C hl dX0_solve_92 rfl (by decide) (fun ls (hl : cb_L ls 4 [_, _, _, _]) => ?_)
            refine cb_goto C 11 dX0_solve_95 (by decide) ?_
            refine ih (i + 1) (by omega) H locs ls _ _ (hw.eq ?_) hl
            show _ = so_1 (so_i (sw_S σ) i) i
            unfold so_1
            rw [hgt, e5, show sw_S σ 5 0 - (i + 1) = j by omega]
          · exact absurd h2 (by omega)
        | succ n ihn =>
          intro j hj H locs ls o3 hw hl
          have f5 : so_j t i j 5 0 = sw_S σ 5 0 := by rw [so_j_k _ _ (by decide)]; exact t5
          have f6 := t6' j (i + 1 + j) (by omega)
          refine cb_iload_n C hl dX0_solve_45 rfl ?_
          refine cb_aload_n C hl dX0_solve_46 rfl ?_
          refine cb_xg_55 C hw dX0_solve_47 ?_
          refine cb_icmp_ge C 92 dX0_solve_50 (by decide) (by omega) (by omega) (fun h2 => ?_) (fun h2 => ?_)
          · exact absurd h2 (by omega)
          refine cb_aload_n C hl dX0_solve_53 rfl ?_
          refine cb_xg_22 C hw dX0_solve_54 ?_
          refine cb_iload_n C hl dX0_solve_57 rfl ?_
          refine cb_xiald C hw dX0_solve_58 rfl (by omega) ?_
          refine cb_aload_n C hl dX0_solve_59 rfl ?_
          refine cb_xg_70 C hw dX0_solve_60 ?_
          refine cb_callSI C hw (met_oddlyMet l D cI cZ _ (so_j t i j) f6) (cwX0_X0_oddlyMet C.2.2.2.2 ⟨by decide, by decide⟩) rfl hl.1 rfl (Nat.le_of_ble_eq_true rfl) ⟨Nat.zero_le _, Nat.zero_le _⟩ dX0_solve_63 (fun H locs hw => ?_)
          have f7 : om_r (so_j t i j 6 (i + 1 + j)) (so_j t i j 14 0) ≤ 1 := by unfold om_r; split <;> omega
          refine cb_istore_n C hl dX0_solve_66 (by decide) (fun ls (hl : cb_L ls 4 [_, _, _, _]) => ?_)
          refine cb_iload_n C hl dX0_solve_67 rfl ?_
          refine cb_if_eq C 86 dX0_solve_68 (by decide) (by omega) (fun h3 => ?_) (fun h3 => ?_)
          · refine cb_inc1 C hl dX0_solve_86 rfl (by decide) (fun ls (hl : cb_L ls 4 [_, _, _, _]) => ?_)
            refine cb_goto C 45 dX0_solve_89 (by decide) ?_
            refine ihn (j + 1) (by omega) H locs ls _ (hw.eq ?_) hl
            show _ = (if _ then _ else _)
            rw [if_neg (by omega)]
          · refine cb_aload_n C hl dX0_solve_71 rfl ?_
            refine cb_xg_22 C hw dX0_solve_72 ?_
            refine cb_iload_n C hl dX0_solve_75 rfl ?_
            refine cb_dup2 C dX0_solve_76 rfl rfl ?_
            refine cb_xiald C hw dX0_solve_77 rfl (by omega) ?_
            refine cb_aload_n C hl dX0_solve_78 rfl ?_
            refine cb_xg_22 C hw dX0_solve_79 ?_
            refine cb_iload_n C hl dX0_solve_82 rfl ?_
            refine cb_xiald C hw dX0_solve_83 rfl (by omega) ?_
            refine cb_ixor C dX0_solve_84 ?_
            refine cb_xiast C hw dX0_solve_85 rfl (by omega) (fun H locs hw => ?_)
            refine cb_inc1 C hl dX0_solve_86 rfl (by decide) (fun ls (hl : cb_L ls 4 [_, _, _, _]) => ?_)
            refine cb_goto C 45 dX0_solve_89 (by decide) ?_
            refine ihn (j + 1) (by omega) H locs ls _ (hw.eq ?_) hl
            show _ = (if _ then _ else _)
            rw [if_pos (by omega)]
      exact L45 (sw_S σ 5 0 - (i + 1)) 0 (by omega) H locs ls _ hw hl
  exact L11 (sw_S σ 5 0) 0 (by omega) _ _ ls _ _ (hw.eq rfl) hl
end
section
/-! CycleBasis: rank, total, part, through, closed, highest, reduce, level, bridges -/
theorem met_rank (l : Launch) (D : va_G) (cI cZ : ClassId) (h : Nat) (a : Nat → Nat) (σ : cb_S) (ok : cb_OK σ) : cb_C l yX0_rank cX0_rank 1 (some .int) 2 24 D cI cZ (cb_WX h a cI cZ) [.ref h] σ (some (sw_S σ 5 0)) (sw_S σ) := by
  refine cb_ofI (by decide) rfl (Nat.le_of_ble_eq_true rfl) ?_
  intro p e_ s m args below meth c A Q C hw ret ls hl
  have hl : cb_L ls 1 [_] := hl
  refine cb_aload_n C hl dX0_rank_0 rfl ?_
  refine cb_callVV C hw (met_startWitnesses l D cI cZ h a σ ok) (cwX0_X0_startWitnesses C.2.2.2.2 ⟨by decide, by decide⟩) (cb_reX hw) rfl hl.1 rfl (Nat.le_of_ble_eq_true rfl) ⟨Nat.zero_le _, Nat.zero_le _⟩ dX0_rank_1 (fun H locs hw => ?_)
  refine cb_aload_n C hl dX0_rank_4 rfl ?_
  refine cb_xg_55 C hw dX0_rank_5 ?_
  exact ret _ _ _ _ hw dX0_rank_8
theorem met_total (l : Launch) (D : va_G) (cI cZ : ClassId) (h : Nat) (a : Nat → Nat) (σ : cb_S) (ok : cb_OK σ) : cb_C l yX0_total cX0_total 3 (some .int) 5 99 D cI cZ (cb_WX h a cI cZ) [.ref h] σ (some (to_f (so_S σ) (so_S σ 7 0))) (so_S σ) := by
  refine cb_ofI (by decide) rfl (Nat.le_of_ble_eq_true rfl) ?_
  intro p e_ s m args below meth c A Q C hw ret ls hl
  have hl : cb_L ls 3 [_, _, _] := hl
  obtain ⟨-, h5, hi, h7, -, -⟩ := so_S_B ok
  have h12 : so_S σ 7 0 ≤ 12 := by omega
  refine cb_aload_n C hl dX0_total_0 rfl ?_
  refine cb_callVV C hw (met_solve l D cI cZ h a σ ok) (cwX0_X0_solve C.2.2.2.2 ⟨by decide, by decide⟩) (cb_reX hw) rfl hl.1 rfl (Nat.le_of_ble_eq_true rfl) ⟨Nat.zero_le _, Nat.zero_le _⟩ dX0_total_1 (fun H locs hw => ?_)
  refine cb_iconst C 0 dX0_total_4 rfl ?_
  refine cb_istore_n C hl dX0_total_5 (by decide) (fun ls (hl : cb_L ls 3 [_, _, _]) => ?_)
  refine cb_iconst C 0 dX0_total_6 rfl ?_
  refine cb_istore_n C hl dX0_total_7 (by decide) (fun ls (hl : cb_L ls 3 [_, _, _]) => ?_)
  have L8 : ∀ (k i : Nat), i + k = so_S σ 7 0 → ∀ (H : Heap) (locs : List Loc) (ls : Array Slot), cb_W D cI cZ (cb_WX h a cI cZ) A s (so_S σ) H locs → cb_L ls 3 [some (.ref h), some (.int (nI (to_f (so_S σ) i))), some (.int (nI i))] → W p l e_ (cb_R 5 99) s m args below meth c H locs 0 0 Q (F0 m 8 ls []) := by
    intro k
    induction k with
    | zero =>
      intro i hi H locs ls hw hl
      obtain rfl : i = so_S σ 7 0 := by omega
      refine cb_iload_n C hl dX0_total_8 rfl ?_
      refine cb_aload_n C hl dX0_total_9 rfl ?_
      refine cb_xg_79 C hw dX0_total_10 ?_
      refine cb_icmp_ge C 31 dX0_total_13 (by decide) (by omega) (by omega) (fun h1 => ?_) (fun h1 => ?_)
      · refine cb_iload_n C hl dX0_total_31 rfl ?_
        exact ret _ _ _ _ hw dX0_total_32
      · exact absurd h1 (by omega)
    | succ k ih =>
      intro i hi H locs ls hw hl
      refine cb_iload_n C hl dX0_total_8 rfl ?_
      refine cb_aload_n C hl dX0_total_9 rfl ?_
      refine cb_xg_79 C hw dX0_total_10 ?_
      refine cb_icmp_ge C 31 dX0_total_13 (by decide) (by omega) (by omega) (fun h1 => ?_) (fun h1 => ?_)
      · exact absurd h1 (by omega)
      refine cb_iload_n C hl dX0_total_16 rfl ?_
      refine cb_aload_n C hl dX0_total_17 rfl ?_
      refine cb_xg_28 C hw dX0_total_18 ?_
      refine cb_iload_n C hl dX0_total_21 rfl ?_
      refine cb_xiald C hw dX0_total_22 rfl (by omega) ?_
      refine cb_iadd C dX0_total_23 ?_
      refine cb_istore_n C hl dX0_total_24 (by decide) (fun ls (hl : cb_L ls 3 [_, _, _]) => ?_)
      refine cb_inc1 C hl dX0_total_25 rfl (by decide) (fun ls (hl : cb_L ls 3 [_, _, _]) => ?_)
      refine cb_goto C 8 dX0_total_28 (by decide) ?_
      exact ih (i + 1) (by omega) H locs ls hw hl
  exact L8 (so_S σ 7 0) 0 (by omega) _ _ ls hw hl
theorem met_part (l : Launch) (D : va_G) (cI cZ : ClassId) (h : Nat) (a : Nat → Nat) (σ : cb_S) (ok : cb_OK σ) {i : Nat} (hi : i < 4294967296) : cb_C l yX0_part cX0_part 2 (some .int) 5 99 D cI cZ (cb_WX h a cI cZ) [.ref h, .int (nI i)] σ (some (pa_r (so_S σ) i)) (so_S σ) := by
  refine cb_ofI (by decide) rfl (Nat.le_of_ble_eq_true rfl) ?_
  intro p e_ s m args below meth c A Q C hw ret ls hl
  have hl : cb_L ls 2 [_, _] := hl
  obtain ⟨-, h5, hi', h7, -, -⟩ := so_S_B ok
  have h12 : so_S σ 7 0 ≤ 12 := by omega
  refine cb_aload_n C hl dX0_part_0 rfl ?_
  refine cb_callVV C hw (met_solve l D cI cZ h a σ ok) (cwX0_X0_solve C.2.2.2.2 ⟨by decide, by decide⟩) (cb_reX hw) rfl hl.1 rfl (Nat.le_of_ble_eq_true rfl) ⟨Nat.zero_le _, Nat.zero_le _⟩ dX0_part_1 (fun H locs hw => ?_)
  refine cb_iload_n C hl dX0_part_4 rfl ?_
  refine cb_if_lt C 16 dX0_part_5 (by decide) (by omega) (fun h1 => ?_) (fun h1 => ?_)
  · refine cb_bipush C 4294967291 dX0_part_16 rfl ?_
    refine cb_goto C 27 dX0_part_18 (by decide) ?_
    exact cb_top (by unfold pa_r; rw [if_neg (by omega)]) (ret _ _ _ _ hw dX0_part_27)
  refine cb_iload_n C hl dX0_part_8 rfl ?_
  refine cb_aload_n C hl dX0_part_9 rfl ?_
  refine cb_xg_79 C hw dX0_part_10 ?_
  refine cb_icmp_lt C 21 dX0_part_13 (by decide) (by omega) (by omega) (fun h2 => ?_) (fun h2 => ?_)
  · refine cb_aload_n C hl dX0_part_21 rfl ?_
    refine cb_xg_28 C hw dX0_part_22 ?_
    refine cb_iload_n C hl dX0_part_25 rfl ?_
    refine cb_xiald C hw dX0_part_26 rfl (by omega) ?_
    exact cb_top (by unfold pa_r; rw [if_pos (by omega)]) (ret _ _ _ _ hw dX0_part_27)
  · refine cb_bipush C 4294967291 dX0_part_16 rfl ?_
    refine cb_goto C 27 dX0_part_18 (by decide) ?_
    exact cb_top (by unfold pa_r; rw [if_neg (by omega)]) (ret _ _ _ _ hw dX0_part_27)
theorem met_through (l : Launch) (D : va_G) (cI cZ : ClassId) (h : Nat) (a : Nat → Nat) (σ : cb_S) (ok : cb_OK σ) {k : Nat} (hk : k < 4294967296) : cb_C l yX0_through cX0_through 2 (some .int) 3 54 D cI cZ (cb_WX h a cI cZ) [.ref h, .int (nI k)] σ (some (th_p σ k).2) (th_p σ k).1 := by
  refine cb_ofI (by decide) rfl (Nat.le_of_ble_eq_true rfl) ?_
  intro p e_ s m args below meth c A Q C hw ret ls hl
  have hl : cb_L ls 2 [_, _] := hl
  have hc := ok.1
  refine cb_aload_n C hl dX0_through_0 rfl ?_
  refine cb_iload_n C hl dX0_through_1 rfl ?_
  refine cb_callVI C hw (met_noEdge l D cI cZ h a σ hc hk) (cwX0_X0_noEdge C.2.2.2.2 ⟨by decide, by decide⟩) (cb_reX hw) rfl hl.1 rfl (Nat.le_of_ble_eq_true rfl) ⟨Nat.zero_le _, Nat.zero_le _⟩ dX0_through_2 (fun H locs hw => ?_)
  by_cases h1 : k < σ 0 0
  · rw [if_pos h1]
    obtain ⟨o1, o2, o3, o4, o5⟩ := ok.2 k h1
    have hp1 : (th_p σ k).1 = sf_S σ (σ 1 k) 0 k := by unfold th_p; rw [if_neg (by omega)]
    have hp2 : (th_p σ k).2 = th_v (sf_S σ (σ 1 k) 0 k) k := by unfold th_p; rw [if_neg (by omega)]
    have e2 : sf_S σ (σ 1 k) 0 k 2 k = σ 2 k := by rw [sf_S_G σ _ _ _ 2 (by decide)]
    have e3 : sf_S σ (σ 1 k) 0 k 3 k = σ 3 k := by rw [sf_S_G σ _ _ _ 3 (by decide)]
    have hB := sf_S_B ok 0 k (by omega : σ 1 k < 14)
    have hb := (hB (sf_S σ (σ 1 k) 0 k 2 k) (by omega)).1
    refine cb_if_eq C 11 dX0_through_5 (by decide) (by omega) (fun h2 => ?_) (fun h2 => ?_)
    · refine cb_aload_n C hl dX0_through_11 rfl ?_
      refine cb_aload_n C hl dX0_through_12 rfl ?_
      refine cb_xg_7 C hw dX0_through_13 ?_
      refine cb_iload_n C hl dX0_through_16 rfl ?_
      refine cb_xiald C hw dX0_through_17 rfl (by omega) ?_
      refine cb_iconst C 0 dX0_through_18 rfl ?_
      refine cb_iload_n C hl dX0_through_19 rfl ?_
      refine cb_callVV C hw (met_searchFrom l D cI cZ h a σ ok (by omega : σ 1 k < 14) (by decide) hk) (cwX0_X0_searchFrom C.2.2.2.2 ⟨by decide, by decide⟩) (cb_reX hw) rfl hl.1 rfl (Nat.le_of_ble_eq_true rfl) ⟨Nat.zero_le _, Nat.zero_le _⟩ dX0_through_20 (fun H locs hw => ?_)
      refine cb_aload_n C hl dX0_through_23 rfl ?_
      refine cb_xg_31 C hw dX0_through_24 ?_
      refine cb_aload_n C hl dX0_through_27 rfl ?_
      refine cb_xg_13 C hw dX0_through_28 ?_
      refine cb_iload_n C hl dX0_through_31 rfl ?_
      refine cb_xiald C hw dX0_through_32 rfl (by omega) ?_
      refine cb_xiald C hw dX0_through_33 rfl (by omega) ?_
      refine cb_ldc58 C dX0_through_34 ?_
      refine cb_icmp_lt C 44 dX0_through_36 (by decide) (by omega) (by omega) (fun h3 => ?_) (fun h3 => ?_)
      · refine cb_aload_n C hl dX0_through_44 rfl ?_
        refine cb_xg_31 C hw dX0_through_45 ?_
        refine cb_aload_n C hl dX0_through_48 rfl ?_
        refine cb_xg_13 C hw dX0_through_49 ?_
        refine cb_iload_n C hl dX0_through_52 rfl ?_
        refine cb_xiald C hw dX0_through_53 rfl (by omega) ?_
        refine cb_xiald C hw dX0_through_54 rfl (by omega) ?_
        refine cb_aload_n C hl dX0_through_55 rfl ?_
        refine cb_xg_16 C hw dX0_through_56 ?_
        refine cb_iload_n C hl dX0_through_59 rfl ?_
        refine cb_xiald C hw dX0_through_60 rfl (by omega) ?_
        refine cb_iadd C dX0_through_61 ?_
        refine cb_top ?_ (ret _ _ _ _ (hw.eq hp1.symm) dX0_through_62)
        rw [hp2]; unfold th_v; rw [if_neg (by omega)]
      · refine cb_bipush C 4294967291 dX0_through_39 rfl ?_
        refine cb_goto C 62 dX0_through_41 (by decide) ?_
        refine cb_top ?_ (ret _ _ _ _ (hw.eq hp1.symm) dX0_through_62)
        rw [hp2]; unfold th_v; rw [if_pos (by omega)]
    · exact absurd h2 (by omega)
  · rw [if_neg h1]
    refine cb_if_eq C 11 dX0_through_5 (by decide) (by omega) (fun h2 => ?_) (fun h2 => ?_)
    · exact absurd h2 (by omega)
    · refine cb_bipush C 4294967292 dX0_through_8 rfl ?_
      refine cb_top ?_ (ret _ _ _ _ (hw.eq ?_) dX0_through_10)
      · unfold th_p; rw [if_pos (by omega)]
      · unfold th_p; rw [if_pos (by omega)]
theorem met_closed (l : Launch) (D : va_G) (cI cZ : ClassId) (h : Nat) (a : Nat → Nat) (σ : cb_S) (ok : cb_OK σ) {k : Nat} (hk : k < 4294967296) : cb_C l yX0_closed cX0_closed 4 (some .boolean) 1 0 D cI cZ (cb_WX h a cI cZ) [.ref h, .int (nI k)] σ (some (cl_r σ k)) σ := by
  refine cb_ofZ (by unfold cl_r; split <;> (try split) <;> omega) (by decide) rfl (Nat.le_of_ble_eq_true rfl) ?_
  intro p e_ s m args below meth c A Q C hw ret ls hl
  have hl : cb_L ls 4 [_, _, _, _] := hl
  have hc := ok.1
  have hp : ∀ v, v < 7 → 2 ^ v < 4096 := fun v hv => Nat.lt_of_lt_of_le (Nat.pow_lt_pow_right (by decide) hv) (by decide : 2 ^ 7 ≤ 4096)
  have hcl : ∀ e, e ≤ σ 0 0 → cl_f σ k e < 4096 := by
    intro e
    induction e with
    | zero => intro _; exact (by decide : 0 < 4096)
    | succ e ih =>
      intro he
      unfold cl_f
      obtain ⟨o1, o2, -⟩ := ok.2 e (by omega)
      split
      · exact xor_12 (ih (by omega)) (xor_12 (hp _ o1) (hp _ o2))
      · exact ih (by omega)
  have hbit : ∀ e, (k >>> e) &&& 1 ≤ 1 := fun e => Nat.and_le_right
  have hshr : k >>> σ 0 0 ≤ k := by rw [Nat.shiftRight_eq_div_pow]; exact Nat.div_le_self _ _
  refine cb_iload_n C hl dX0_closed_0 rfl ?_
  refine cb_if_lt C 13 dX0_closed_1 (by decide) (by omega) (fun h1 => ?_) (fun h1 => ?_)
  · refine cb_iconst C 0 dX0_closed_13 rfl ?_
    exact cb_top (by unfold cl_r; rw [if_pos (Or.inl h1)]) (ret _ _ _ _ hw dX0_closed_14)
  refine cb_iload_n C hl dX0_closed_4 rfl ?_
  refine cb_aload_n C hl dX0_closed_5 rfl ?_
  refine cb_xg_44 C hw dX0_closed_6 ?_
  refine cb_ishr C dX0_closed_9 (by omega) (by omega) ?_
  refine cb_if_eq C 15 dX0_closed_10 (by decide) (by omega) (fun h2 => ?_) (fun h2 => ?_)
  · refine cb_iconst C 0 dX0_closed_15 rfl ?_
    refine cb_istore_n C hl dX0_closed_16 (by decide) (fun ls (hl : cb_L ls 4 [_, _, _, _]) => ?_)
    refine cb_iconst C 0 dX0_closed_17 rfl ?_
    refine cb_istore_n C hl dX0_closed_18 (by decide) (fun ls (hl : cb_L ls 4 [_, _, _, _]) => ?_)
    have L19 : ∀ (j e : Nat), e + j = σ 0 0 → ∀ (H : Heap) (locs : List Loc) (ls : Array Slot), cb_W D cI cZ (cb_WX h a cI cZ) A s σ H locs → cb_L ls 4 [some (.ref h), some (.int (nI k)), some (.int (nI (cl_f σ k e))), some (.int (nI e))] → W p l e_ (cb_R 1 0) s m args below meth c H locs 0 0 Q (F0 m 19 ls []) := by
      intro j
      induction j with
      | zero =>
        intro e he H locs ls hw hl
        obtain rfl : e = σ 0 0 := by omega
        have g0 := hcl _ (Nat.le_refl _)
        refine cb_iload_n C hl dX0_closed_19 rfl ?_
        refine cb_aload_n C hl dX0_closed_20 rfl ?_
        refine cb_xg_44 C hw dX0_closed_21 ?_
        refine cb_icmp_ge C 62 dX0_closed_24 (by decide) (by omega) (by omega) (fun h3 => ?_) (fun h3 => ?_)
        · refine cb_iload_n C hl dX0_closed_62 rfl ?_
          refine cb_if_ne C 70 dX0_closed_63 (by decide) (by omega) (fun h4 => ?_) (fun h4 => ?_)
          · refine cb_iconst C 0 dX0_closed_70 rfl ?_
            exact cb_top (by unfold cl_r; rw [if_neg (by omega), if_neg h4]) (ret _ _ _ _ hw dX0_closed_71)
          · refine cb_iconst C 1 dX0_closed_66 rfl ?_
            refine cb_goto C 71 dX0_closed_67 (by decide) ?_
            exact cb_top (by unfold cl_r; rw [if_neg (by omega), if_pos h4]) (ret _ _ _ _ hw dX0_closed_71)
        · exact absurd h3 (by omega)
      | succ j ih =>
        intro e he H locs ls hw hl
        obtain ⟨o1, o2, -⟩ := ok.2 e (by omega)
        have g1 := hbit e
        refine cb_iload_n C hl dX0_closed_19 rfl ?_
        refine cb_aload_n C hl dX0_closed_20 rfl ?_
        refine cb_xg_44 C hw dX0_closed_21 ?_
        refine cb_icmp_ge C 62 dX0_closed_24 (by decide) (by omega) (by omega) (fun h3 => ?_) (fun h3 => ?_)
        · exact absurd h3 (by omega)
        refine cb_iload_n C hl dX0_closed_27 rfl ?_
        refine cb_iload_n C hl dX0_closed_28 rfl ?_
        refine cb_ishr C dX0_closed_29 (by omega) (by omega) ?_
        refine cb_iconst C 1 dX0_closed_30 rfl ?_
        refine cb_iand C dX0_closed_31 ?_
        refine cb_iconst C 1 dX0_closed_32 rfl ?_
        refine cb_icmp_ne C 56 dX0_closed_33 (by decide) (by omega) (by omega) (fun h4 => ?_) (fun h4 => ?_)
        · refine cb_inc1 C hl dX0_closed_56 rfl (by decide) (fun ls (hl : cb_L ls 4 [_, _, _, _]) => ?_)
          refine cb_goto C 19 dX0_closed_59 (by decide) ?_
          refine ih (e + 1) (by omega) H locs ls hw ?_
          rw [show cl_f σ k (e + 1) = cl_f σ k e by (show (if _ then _ else _) = _); rw [if_neg h4]]
          exact hl
        · refine cb_iload_n C hl dX0_closed_36 rfl ?_
          refine cb_iconst C 1 dX0_closed_37 rfl ?_
          refine cb_aload_n C hl dX0_closed_38 rfl ?_
          refine cb_xg_7 C hw dX0_closed_39 ?_
          refine cb_iload_n C hl dX0_closed_42 rfl ?_
          refine cb_xiald C hw dX0_closed_43 rfl (by omega) ?_
          refine cb_ishl C dX0_closed_44 (by omega) ?_
          refine cb_iconst C 1 dX0_closed_45 rfl ?_
          refine cb_aload_n C hl dX0_closed_46 rfl ?_
          refine cb_xg_13 C hw dX0_closed_47 ?_
          refine cb_iload_n C hl dX0_closed_50 rfl ?_
          refine cb_xiald C hw dX0_closed_51 rfl (by omega) ?_
          refine cb_ishl C dX0_closed_52 (by omega) ?_
          refine cb_ixor C dX0_closed_53 ?_
          refine cb_ixor C dX0_closed_54 ?_
          refine cb_istore_n C hl dX0_closed_55 (by decide) (fun ls (hl : cb_L ls 4 [_, _, _, _]) => ?_)
          refine cb_inc1 C hl dX0_closed_56 rfl (by decide) (fun ls (hl : cb_L ls 4 [_, _, _, _]) => ?_)
          refine cb_goto C 19 dX0_closed_59 (by decide) ?_
          refine ih (e + 1) (by omega) H locs ls hw ?_
          rw [show cl_f σ k (e + 1) = cl_f σ k e ^^^ (2 ^ σ 1 e ^^^ 2 ^ σ 2 e) by (show (if _ then _ else _) = _); rw [if_pos h4]]
          exact hl
    exact L19 (σ 0 0) 0 (by omega) _ _ ls hw hl
  · refine cb_iconst C 0 dX0_closed_13 rfl ?_
    exact cb_top (by unfold cl_r; rw [if_pos (Or.inr h2)]) (ret _ _ _ _ hw dX0_closed_14)
theorem met_highest (l : Launch) (D : va_G) (cI cZ : ClassId) (wd : cb_S → va_W) (σ : cb_S) {x : Nat} (hx : x < 4096) : cb_C l yX0_highest cX0_highest 2 (some .int) 1 0 D cI cZ wd [.int (nI x)] σ (some (cb_em (hi_f x 12))) σ := by
  refine cb_ofI (by decide) rfl (Nat.le_of_ble_eq_true rfl) ?_
  intro p e_ s m args below meth c A Q C hw ret ls hl
  have hl : cb_L ls 2 [_, _] := hl
  have hbit : ∀ e, (x >>> e) &&& 1 ≤ 1 := fun e => Nat.and_le_right
  have L3 : ∀ (k : Nat), k ≤ 12 → hi_f x k = hi_f x 12 → ∀ (H : Heap) (locs : List Loc) (ls : Array Slot), cb_W D cI cZ wd A s σ H locs → cb_L ls 2 [some (.int (nI x)), some (.int (nI (cb_em k)))] → W p l e_ (cb_R 1 0) s m args below meth c H locs 0 0 Q (F0 m 3 ls []) := by
    intro k
    induction k with
    | zero =>
      intro hk hT H locs ls hw hl
      have e0 : cb_em 0 = 4294967295 := rfl
      refine cb_iload_n C hl dX0_highest_3 rfl ?_
      refine cb_if_lt C 21 dX0_highest_4 (by decide) (by omega) (fun h1 => ?_) (fun h1 => ?_)
      · refine cb_iload_n C hl dX0_highest_21 rfl ?_
        exact cb_top (by rw [← hT]; rfl) (ret _ _ _ _ hw dX0_highest_22)
      · exact absurd h1 (by omega)
    | succ k ih =>
      intro hk hT H locs ls hw hl
      rw [cb_em_s] at hl
      have g1 := hbit k
      refine cb_iload_n C hl dX0_highest_3 rfl ?_
      refine cb_if_lt C 21 dX0_highest_4 (by decide) (by omega) (fun h1 => ?_) (fun h1 => ?_)
      · exact absurd h1 (by omega)
      refine cb_iload_n C hl dX0_highest_7 rfl ?_
      refine cb_iload_n C hl dX0_highest_8 rfl ?_
      refine cb_ishr C dX0_highest_9 (by omega) (by omega) ?_
      refine cb_iconst C 1 dX0_highest_10 rfl ?_
      refine cb_iand C dX0_highest_11 ?_
      refine cb_if_ne C 21 dX0_highest_12 (by decide) (by omega) (fun h2 => ?_) (fun h2 => ?_)
      · refine cb_iload_n C hl dX0_highest_21 rfl ?_
        refine cb_top ?_ (ret _ _ _ _ hw dX0_highest_22)
        rw [← hT]
        show _ = cb_em (if _ then _ else _)
        rw [if_neg h2, cb_em_s]
      · refine cb_iinc C hl dX0_highest_15 rfl (cb_em_dec k) (by decide) (fun ls (hl : cb_L ls 2 [_, _]) => ?_)
        refine cb_goto C 3 dX0_highest_18 (by decide) ?_
        refine ih (by omega) ?_ H locs ls hw hl
        rw [← hT]
        show _ = (if _ then _ else _)
        rw [if_pos h2]
  refine cb_bipush C 11 dX0_highest_0 rfl ?_
  refine cb_istore_n C hl dX0_highest_2 (by decide) (fun ls (hl : cb_L ls 2 [_, _]) => ?_)
  exact L3 12 (Nat.le_refl _) rfl _ _ ls hw hl
theorem met_reduce (l : Launch) (D : va_G) (cI cZ : ClassId) (h : Nat) (a : Nat → Nat) (σ : cb_S) (hp : ∀ j, j < 12 → σ 15 j < 4096) {x : Nat} (hx : x < 4096) : cb_C l yX0_reduce cX0_reduce 4 (some .int) 1 0 D cI cZ (cb_WX h a cI cZ) [.ref h, .int (nI x)] σ (some (rd_f (σ 15) 12 x)) σ := by
  refine cb_ofI (by decide) rfl (Nat.le_of_ble_eq_true rfl) ?_
  intro p e_ s m args below meth c A Q C hw ret ls hl
  have hl : cb_L ls 4 [_, _, _, _] := hl
  have L5 : ∀ (k t : Nat), k ≤ 12 → t < 4096 → rd_f (σ 15) k t = rd_f (σ 15) 12 x → ∀ (H : Heap) (locs : List Loc) (ls : Array Slot), cb_W D cI cZ (cb_WX h a cI cZ) A s σ H locs → cb_L ls 4 [some (.ref h), some (.int (nI x)), some (.int (nI t)), some (.int (nI (cb_em k)))] → W p l e_ (cb_R 1 0) s m args below meth c H locs 0 0 Q (F0 m 5 ls []) := by
    intro k
    induction k with
    | zero =>
      intro t hk ht hT H locs ls hw hl
      have e0 : cb_em 0 = 4294967295 := rfl
      refine cb_iload_n C hl dX0_reduce_5 rfl ?_
      refine cb_if_lt C 42 dX0_reduce_6 (by decide) (by omega) (fun h1 => ?_) (fun h1 => ?_)
      · refine cb_iload_n C hl dX0_reduce_42 rfl ?_
        exact cb_top (by rw [← hT]; rfl) (ret _ _ _ _ hw dX0_reduce_43)
      · exact absurd h1 (by omega)
    | succ k ih =>
      intro t hk ht hT H locs ls hw hl
      rw [cb_em_s] at hl
      have g1 : (t >>> k) &&& 1 ≤ 1 := Nat.and_le_right
      have g2 := hp k (by omega)
      have hT' : ∀ t', (if (t >>> k) &&& 1 = 1 ∧ σ 15 k ≠ 0 then t ^^^ σ 15 k else t) = t' → rd_f (σ 15) k t' = rd_f (σ 15) 12 x := by
        intro t' e'
        rw [← hT, ← e']
        rfl
      refine cb_iload_n C hl dX0_reduce_5 rfl ?_
      refine cb_if_lt C 42 dX0_reduce_6 (by decide) (by omega) (fun h1 => ?_) (fun h1 => ?_)
      · exact absurd h1 (by omega)
      refine cb_iload_n C hl dX0_reduce_9 rfl ?_
      refine cb_iload_n C hl dX0_reduce_10 rfl ?_
      refine cb_ishr C dX0_reduce_11 (by omega) (by omega) ?_
      refine cb_iconst C 1 dX0_reduce_12 rfl ?_
      refine cb_iand C dX0_reduce_13 ?_
      refine cb_iconst C 1 dX0_reduce_14 rfl ?_
      refine cb_icmp_ne C 36 dX0_reduce_15 (by decide) (by omega) (by omega) (fun h2 => ?_) (fun h2 => ?_)
      · refine cb_iinc C hl dX0_reduce_36 rfl (cb_em_dec k) (by decide) (fun ls (hl : cb_L ls 4 [_, _, _, _]) => ?_)
        refine cb_goto C 5 dX0_reduce_39 (by decide) ?_
        exact ih t (by omega) ht (hT' t (by rw [if_neg (fun q => h2 q.1)])) H locs ls hw hl
      refine cb_aload_n C hl dX0_reduce_18 rfl ?_
      refine cb_xg_41 C hw dX0_reduce_19 ?_
      refine cb_iload_n C hl dX0_reduce_22 rfl ?_
      refine cb_xiald C hw dX0_reduce_23 rfl (by omega) ?_
      refine cb_if_eq C 36 dX0_reduce_24 (by decide) (by omega) (fun h3 => ?_) (fun h3 => ?_)
      · refine cb_iinc C hl dX0_reduce_36 rfl (cb_em_dec k) (by decide) (fun ls (hl : cb_L ls 4 [_, _, _, _]) => ?_)
        refine cb_goto C 5 dX0_reduce_39 (by decide) ?_
        exact ih t (by omega) ht (hT' t (by rw [if_neg (fun q => q.2 h3)])) H locs ls hw hl
      · refine cb_iload_n C hl dX0_reduce_27 rfl ?_
        refine cb_aload_n C hl dX0_reduce_28 rfl ?_
        refine cb_xg_41 C hw dX0_reduce_29 ?_
        refine cb_iload_n C hl dX0_reduce_32 rfl ?_
        refine cb_xiald C hw dX0_reduce_33 rfl (by omega) ?_
        refine cb_ixor C dX0_reduce_34 ?_
        refine cb_istore_n C hl dX0_reduce_35 (by decide) (fun ls (hl : cb_L ls 4 [_, _, _, _]) => ?_)
        refine cb_iinc C hl dX0_reduce_36 rfl (cb_em_dec k) (by decide) (fun ls (hl : cb_L ls 4 [_, _, _, _]) => ?_)
        refine cb_goto C 5 dX0_reduce_39 (by decide) ?_
        exact ih _ (by omega) (xor_12 ht g2) (hT' _ (by rw [if_pos ⟨h2, h3⟩])) H locs ls hw hl
  refine cb_iload_n C hl dX0_reduce_0 rfl ?_
  refine cb_istore_n C hl dX0_reduce_1 (by decide) (fun ls (hl : cb_L ls 4 [_, _, _, _]) => ?_)
  refine cb_bipush C 11 dX0_reduce_2 rfl ?_
  refine cb_istore_n C hl dX0_reduce_4 (by decide) (fun ls (hl : cb_L ls 4 [_, _, _, _]) => ?_)
  exact L5 12 x (Nat.le_refl _) hx rfl _ _ ls hw hl
theorem met_level (l : Launch) (D : va_G) (cI cZ : ClassId) (h : Nat) (a : Nat → Nat) (σ : cb_S) (ok : cb_OK σ) {mk : Nat} (hk : mk < 4294967296) : cb_C l yX0_level cX0_level 7 (some .int) 5 99 D cI cZ (cb_WX h a cI cZ) [.ref h, .int (nI mk)] σ (some (le_p σ mk).2) (le_p σ mk).1 := by
  refine cb_ofI (by decide) rfl (Nat.le_of_ble_eq_true rfl) ?_
  intro p e_ s m args below meth c A Q C hw ret ls hl
  have hl : cb_L ls 7 [_, _, _, _, _, _, _] := hl
  have hcl1 : cl_r σ mk ≤ 1 := by unfold cl_r; split <;> (try split) <;> omega
  refine cb_aload_n C hl dX0_level_0 rfl ?_
  refine cb_iload_n C hl dX0_level_1 rfl ?_
  refine cb_callVI C hw (met_closed l D cI cZ h a σ ok hk) (cwX0_X0_closed C.2.2.2.2 ⟨by decide, by decide⟩) (cb_reX hw) rfl hl.1 rfl (Nat.le_of_ble_eq_true rfl) ⟨Nat.zero_le _, Nat.zero_le _⟩ dX0_level_2 (fun H locs hw => ?_)
  refine cb_istore_n C hl dX0_level_5 (by decide) (fun ls (hl : cb_L ls 7 [_, _, _, _, _, _, _]) => ?_)
  refine cb_iload_n C hl dX0_level_6 rfl ?_
  refine cb_if_ne C 13 dX0_level_7 (by decide) (by omega) (fun h1 => ?_) (fun h1 => ?_)
  · refine cb_iload_n C hl dX0_level_13 rfl ?_
    refine cb_if_ne C 19 dX0_level_14 (by decide) (by omega) (fun h2 => ?_) (fun h2 => ?_)
    · have hmk : mk < 4096 := by
        have h3 : mk >>> σ 0 0 = 0 ∧ mk < 2147483648 := by
          unfold cl_r at h1
          by_cases hq : 2147483648 ≤ mk ∨ mk >>> σ 0 0 ≠ 0
          · rw [if_pos hq] at h1; exact absurd rfl h1
          · omega
        have h4 := h3.1
        rw [Nat.shiftRight_eq_div_pow] at h4
        have h5 : mk < 2 ^ σ 0 0 := by
          rcases Nat.div_eq_zero_iff.mp h4 with q | q
          · exact absurd q (Nat.ne_of_gt (Nat.two_pow_pos _))
          · exact q
        exact Nat.lt_of_lt_of_le h5 (pw_12 ok.1)
      have hP : le_p σ mk = le_f mk (le_z (so_S σ) 12 7 0) 0 (le_z (so_S σ) 12) := by
        unfold le_p
        rw [if_neg h1, if_neg h2]
      have hB0 := le_0_B ok
      refine cb_aload_n C hl dX0_level_19 rfl ?_
      refine cb_callVV C hw (met_solve l D cI cZ h a σ ok) (cwX0_X0_solve C.2.2.2.2 ⟨by decide, by decide⟩) (cb_reX hw) rfl hl.1 rfl (Nat.le_of_ble_eq_true rfl) ⟨Nat.zero_le _, Nat.zero_le _⟩ dX0_level_20 (fun H locs hw => ?_)
      refine cb_iconst C 0 dX0_level_23 rfl ?_
      refine cb_istore_n C hl dX0_level_24 (by decide) (fun ls (hl : cb_L ls 7 [_, _, _, _, _, _, _]) => ?_)
      have L46 : ∀ (k i : Nat) (t : cb_S), i + k = t 7 0 → le_B t → le_f mk k i t = le_p σ mk → ∀ (H : Heap) (locs : List Loc) (ls : Array Slot) (o4 o5 o6 : Option Value), cb_W D cI cZ (cb_WX h a cI cZ) A s t H locs → cb_L ls 7 [some (.ref h), some (.int (nI mk)), some (.int (nI (cl_r σ mk))), some (.int (nI i)), o4, o5, o6] → W p l e_ (cb_R 5 99) s m args below meth c H locs 0 0 Q (F0 m 46 ls []) := by
        intro k
        induction k with
        | zero =>
          intro i t hi hB hT H locs ls o4 o5 o6 hw hl
          have h12 := hB.1
          refine cb_iload_n C hl dX0_level_46 rfl ?_
          refine cb_aload_n C hl dX0_level_47 rfl ?_
          refine cb_xg_79 C hw dX0_level_48 ?_
          refine cb_icmp_ge C 112 dX0_level_51 (by decide) (by omega) (by omega) (fun h3 => ?_) (fun h3 => ?_)
          · refine cb_bipush C 4294967291 dX0_level_112 rfl ?_
            exact cb_top (by rw [← hT]; rfl) (ret _ _ _ _ (hw.eq (by rw [← hT]; rfl)) dX0_level_114)
          · exact absurd h3 (by omega)
        | succ k ih =>
          intro i t hi hB hT H locs ls o4 o5 o6 hw hl
          have h12 := hB.1
          have g1 := hB.2.1 i (by omega)
          have g2 := rd_lt hB.2.2 12 (Nat.le_refl _) _ g1.2
          have g3 := hi_le (rd_f (t 15) 12 (t 8 i)) 12
          have hB1 := le_1_B hB (i := i) (by omega)
          have g4 := rd_lt hB1.2.2 12 (Nat.le_refl _) _ hmk
          have J87 : ∀ (H : Heap) (locs : List Loc) (ls : Array Slot) (o4 o5 o6 : Option Value), cb_W D cI cZ (cb_WX h a cI cZ) A s (le_1 t i) H locs → cb_L ls 7 [some (.ref h), some (.int (nI mk)), some (.int (nI (cl_r σ mk))), some (.int (nI i)), o4, o5, o6] → W p l e_ (cb_R 5 99) s m args below meth c H locs 0 0 Q (F0 m 87 ls []) := by
            intro H locs ls o4 o5 o6 hw hl
            have e9 : le_1 t i 9 i = t 9 i := by rw [le_1_k t i (by decide)]
            have e7 : le_1 t i 7 0 = t 7 0 := by rw [le_1_k t i (by decide)]
            refine cb_aload_n C hl dX0_level_87 rfl ?_
            refine cb_iload_n C hl dX0_level_88 rfl ?_
            refine cb_callVI C hw (met_reduce l D cI cZ h a (le_1 t i) hB1.2.2 hmk) (cwX0_X0_reduce C.2.2.2.2 ⟨by decide, by decide⟩) (cb_reX hw) rfl hl.1 rfl (Nat.le_of_ble_eq_true rfl) ⟨Nat.zero_le _, Nat.zero_le _⟩ dX0_level_89 (fun H locs hw => ?_)
            refine cb_istore C hl dX0_level_92 (by decide) (fun ls (hl : cb_L ls 7 [_, _, _, _, _, _, _]) => ?_)
            refine cb_iload C hl dX0_level_94 rfl ?_
            refine cb_if_ne C 106 dX0_level_96 (by decide) (by omega) (fun h4 => ?_) (fun h4 => ?_)
            · refine cb_inc1 C hl dX0_level_106 rfl (by decide) (fun ls (hl : cb_L ls 7 [_, _, _, _, _, _, _]) => ?_)
              refine cb_goto C 46 dX0_level_109 (by decide) ?_
              refine ih (i + 1) _ (by omega) hB1 ?_ H locs ls _ _ _ hw hl
              rw [← hT]
              show _ = (if _ then _ else _)
              rw [if_neg h4]
            · refine cb_aload_n C hl dX0_level_99 rfl ?_
              refine cb_xg_28 C hw dX0_level_100 ?_
              refine cb_iload_n C hl dX0_level_103 rfl ?_
              refine cb_xiald C hw dX0_level_104 rfl (by omega) ?_
              have hT2 : le_p σ mk = (le_1 t i, t 9 i) := by
                rw [← hT]
                show (if _ then _ else _) = _
                rw [if_pos h4]
              exact cb_top (by rw [hT2, e9]) (ret _ _ _ _ (hw.eq (by rw [hT2])) dX0_level_105)
          refine cb_iload_n C hl dX0_level_46 rfl ?_
          refine cb_aload_n C hl dX0_level_47 rfl ?_
          refine cb_xg_79 C hw dX0_level_48 ?_
          refine cb_icmp_ge C 112 dX0_level_51 (by decide) (by omega) (by omega) (fun h3 => ?_) (fun h3 => ?_)
          · exact absurd h3 (by omega)
          refine cb_aload_n C hl dX0_level_54 rfl ?_
          refine cb_aload_n C hl dX0_level_55 rfl ?_
          refine cb_xg_25 C hw dX0_level_56 ?_
          refine cb_iload_n C hl dX0_level_59 rfl ?_
          refine cb_xiald C hw dX0_level_60 rfl (by omega) ?_
          refine cb_callVI C hw (met_reduce l D cI cZ h a t hB.2.2 g1.2) (cwX0_X0_reduce C.2.2.2.2 ⟨by decide, by decide⟩) (cb_reX hw) rfl hl.1 rfl (Nat.le_of_ble_eq_true rfl) ⟨Nat.zero_le _, Nat.zero_le _⟩ dX0_level_61 (fun H locs hw => ?_)
          refine cb_istore C hl dX0_level_64 (by decide) (fun ls (hl : cb_L ls 7 [_, _, _, _, _, _, _]) => ?_)
          refine cb_iload C hl dX0_level_66 rfl ?_
          refine cb_callSI C hw (met_highest l D cI cZ _ t g2) (cwX0_X0_highest C.2.2.2.2 ⟨by decide, by decide⟩) rfl hl.1 rfl (Nat.le_of_ble_eq_true rfl) ⟨Nat.zero_le _, Nat.zero_le _⟩ dX0_level_68 (fun H locs hw => ?_)
          have g5 : cb_em (hi_f (rd_f (t 15) 12 (t 8 i)) 12) < 4294967296 := cb_em_lt (by omega)
          refine cb_istore C hl dX0_level_71 (by decide) (fun ls (hl : cb_L ls 7 [_, _, _, _, _, _, _]) => ?_)
          refine cb_iload C hl dX0_level_73 rfl ?_
          by_cases hz : hi_f (rd_f (t 15) 12 (t 8 i)) 12 = 0
          · have g6 : cb_em (hi_f (rd_f (t 15) 12 (t 8 i)) 12) = 4294967295 := by rw [hz]; rfl
            refine cb_if_lt C 87 dX0_level_75 (by decide) (by omega) (fun h4 => ?_) (fun h4 => ?_)
            · exact J87 H locs ls _ _ _ (hw.eq (by unfold le_1; rw [if_pos hz])) hl
            · exact absurd h4 (by omega)
          · have g6 : cb_em (hi_f (rd_f (t 15) 12 (t 8 i)) 12) = hi_f (rd_f (t 15) 12 (t 8 i)) 12 - 1 := by unfold cb_em; rw [if_neg hz]
            refine cb_if_lt C 87 dX0_level_75 (by decide) (by omega) (fun h4 => ?_) (fun h4 => ?_)
            · exact absurd h4 (by omega)
            · refine cb_aload_n C hl dX0_level_78 rfl ?_
              refine cb_xg_41 C hw dX0_level_79 ?_
              refine cb_iload C hl dX0_level_82 rfl ?_
              refine cb_iload C hl dX0_level_84 rfl ?_
              refine cb_xiast C hw dX0_level_86 rfl (by omega) (fun H locs hw => ?_)
              exact J87 H locs ls _ _ _ (hw.eq (by rw [g6]; unfold le_1; rw [if_neg hz])) hl
      have L25 : ∀ (k v : Nat), v + k = 12 → ∀ (H : Heap) (locs : List Loc) (ls : Array Slot), cb_W D cI cZ (cb_WX h a cI cZ) A s (le_z (so_S σ) v) H locs → cb_L ls 7 [some (.ref h), some (.int (nI mk)), some (.int (nI (cl_r σ mk))), some (.int (nI v)), none, none, none] → W p l e_ (cb_R 5 99) s m args below meth c H locs 0 0 Q (F0 m 25 ls []) := by
        intro k
        induction k with
        | zero =>
          intro v hv H locs ls hw hl
          obtain rfl : v = 12 := by omega
          refine cb_iload_n C hl dX0_level_25 rfl ?_
          refine cb_bipush C 12 dX0_level_26 rfl ?_
          refine cb_icmp_ge C 44 dX0_level_28 (by decide) (by omega) (by omega) (fun h3 => ?_) (fun h3 => ?_)
          · refine cb_iconst C 0 dX0_level_44 rfl ?_
            refine cb_istore_n C hl dX0_level_45 (by decide) (fun ls (hl : cb_L ls 7 [_, _, _, _, _, _, _]) => ?_)
            exact L46 (le_z (so_S σ) 12 7 0) 0 _ (by omega) hB0 hP.symm H locs ls _ _ _ hw hl
          · exact absurd h3 (by omega)
        | succ k ih =>
          intro v hv H locs ls hw hl
          refine cb_iload_n C hl dX0_level_25 rfl ?_
          refine cb_bipush C 12 dX0_level_26 rfl ?_
          refine cb_icmp_ge C 44 dX0_level_28 (by decide) (by omega) (by omega) (fun h3 => ?_) (fun h3 => ?_)
          · exact absurd h3 (by omega)
          refine cb_aload_n C hl dX0_level_31 rfl ?_
          refine cb_xg_41 C hw dX0_level_32 ?_
          refine cb_iload_n C hl dX0_level_35 rfl ?_
          refine cb_iconst C 0 dX0_level_36 rfl ?_
          refine cb_xiast C hw dX0_level_37 rfl (by omega) (fun H locs hw => ?_)
          refine cb_inc1 C hl dX0_level_38 rfl (by decide) (fun ls (hl : cb_L ls 7 [_, _, _, _, _, _, _]) => ?_)
          refine cb_goto C 25 dX0_level_41 (by decide) ?_
          exact ih (v + 1) (by omega) H locs ls (hw.eq rfl) hl
      exact L25 12 0 rfl H locs ls hw hl
    · refine cb_iconst C 0 dX0_level_17 rfl ?_
      refine cb_top ?_ (ret _ _ _ _ (hw.eq ?_) dX0_level_18)
      · unfold le_p; rw [if_neg h1, if_pos h2]
      · unfold le_p; rw [if_neg h1, if_pos h2]
  · refine cb_bipush C 4294967291 dX0_level_10 rfl ?_
    refine cb_top ?_ (ret _ _ _ _ (hw.eq ?_) dX0_level_12)
    · unfold le_p; rw [if_pos h1]
    · unfold le_p; rw [if_pos h1]
theorem bg_f_G (σ : cb_S) (e : Nat) : cb_G σ (bg_f σ e).1 := by
  induction e with
  | zero => exact cb_G.rf σ
  | succ e ih => exact ih.tr (sf_S_G _ _ _ _)
theorem met_bridges (l : Launch) (D : va_G) (cI cZ : ClassId) (h : Nat) (a : Nat → Nat) (σ : cb_S) (ok : cb_OK σ) : cb_C l yX0_bridges cX0_bridges 3 (some .int) 3 54 D cI cZ (cb_WX h a cI cZ) [.ref h] σ (some (bg_f σ (σ 0 0)).2) (bg_f σ (σ 0 0)).1 := by
  refine cb_ofI (by decide) rfl (Nat.le_of_ble_eq_true rfl) ?_
  intro p e_ s m args below meth c A Q C hw ret ls hl
  have hl : cb_L ls 3 [_, _, _] := hl
  have hc := ok.1
  refine cb_iconst C 0 dX0_bridges_0 rfl ?_
  refine cb_istore_n C hl dX0_bridges_1 (by decide) (fun ls (hl : cb_L ls 3 [_, _, _]) => ?_)
  refine cb_iconst C 0 dX0_bridges_2 rfl ?_
  refine cb_istore_n C hl dX0_bridges_3 (by decide) (fun ls (hl : cb_L ls 3 [_, _, _]) => ?_)
  have L4 : ∀ (k e : Nat), e + k = σ 0 0 → ∀ (H : Heap) (locs : List Loc) (ls : Array Slot), cb_W D cI cZ (cb_WX h a cI cZ) A s (bg_f σ e).1 H locs → cb_L ls 3 [some (.ref h), some (.int (nI (bg_f σ e).2)), some (.int (nI e))] → W p l e_ (cb_R 3 54) s m args below meth c H locs 0 0 Q (F0 m 4 ls []) := by
    intro k
    induction k with
    | zero =>
      intro e he H locs ls hw hl
      have e0 : (bg_f σ e).1 0 0 = σ 0 0 := by rw [bg_f_G σ e 0 (by decide)]
      obtain rfl : e = σ 0 0 := by omega
      refine cb_iload_n C hl dX0_bridges_4 rfl ?_
      refine cb_aload_n C hl dX0_bridges_5 rfl ?_
      refine cb_xg_44 C hw dX0_bridges_6 ?_
      refine cb_icmp_ge C 49 dX0_bridges_9 (by decide) (by omega) (by omega) (fun h1 => ?_) (fun h1 => ?_)
      · refine cb_iload_n C hl dX0_bridges_49 rfl ?_
        exact ret _ _ _ _ hw dX0_bridges_50
      · exact absurd h1 (by omega)
    | succ k ih =>
      intro e he H locs ls hw hl
      have e0 : (bg_f σ e).1 0 0 = σ 0 0 := by rw [bg_f_G σ e 0 (by decide)]
      have oke := (bg_f_G σ e).ok ok
      obtain ⟨o1, o2, -⟩ := oke.2 e (by omega)
      have e2 : sf_S (bg_f σ e).1 ((bg_f σ e).1 1 e) 0 e 2 e = (bg_f σ e).1 2 e := by rw [sf_S_G _ _ _ _ 2 (by decide)]
      have hB := sf_S_B oke 0 e (by omega : (bg_f σ e).1 1 e < 14)
      have hb := (hB (sf_S (bg_f σ e).1 ((bg_f σ e).1 1 e) 0 e 2 e) (by omega)).1
      refine cb_iload_n C hl dX0_bridges_4 rfl ?_
      refine cb_aload_n C hl dX0_bridges_5 rfl ?_
      refine cb_xg_44 C hw dX0_bridges_6 ?_
      refine cb_icmp_ge C 49 dX0_bridges_9 (by decide) (by omega) (by omega) (fun h1 => ?_) (fun h1 => ?_)
      · exact absurd h1 (by omega)
      refine cb_aload_n C hl dX0_bridges_12 rfl ?_
      refine cb_aload_n C hl dX0_bridges_13 rfl ?_
      refine cb_xg_7 C hw dX0_bridges_14 ?_
      refine cb_iload_n C hl dX0_bridges_17 rfl ?_
      refine cb_xiald C hw dX0_bridges_18 rfl (by omega) ?_
      refine cb_iconst C 0 dX0_bridges_19 rfl ?_
      refine cb_iload_n C hl dX0_bridges_20 rfl ?_
      refine cb_callVV C hw (met_searchFrom l D cI cZ h a (bg_f σ e).1 oke (by omega : (bg_f σ e).1 1 e < 14) (by decide) (by omega)) (cwX0_X0_searchFrom C.2.2.2.2 ⟨by decide, by decide⟩) (cb_reX hw) rfl hl.1 rfl (Nat.le_of_ble_eq_true rfl) ⟨Nat.zero_le _, Nat.zero_le _⟩ dX0_bridges_21 (fun H locs hw => ?_)
      refine cb_aload_n C hl dX0_bridges_24 rfl ?_
      refine cb_xg_31 C hw dX0_bridges_25 ?_
      refine cb_aload_n C hl dX0_bridges_28 rfl ?_
      refine cb_xg_13 C hw dX0_bridges_29 ?_
      refine cb_iload_n C hl dX0_bridges_32 rfl ?_
      refine cb_xiald C hw dX0_bridges_33 rfl (by omega) ?_
      refine cb_xiald C hw dX0_bridges_34 rfl (by omega) ?_
      refine cb_ldc58 C dX0_bridges_35 ?_
      refine cb_icmp_lt C 43 dX0_bridges_37 (by decide) (by omega) (by omega) (fun h2 => ?_) (fun h2 => ?_)
      · refine cb_inc1 C hl dX0_bridges_43 rfl (by decide) (fun ls (hl : cb_L ls 3 [_, _, _]) => ?_)
        refine cb_goto C 4 dX0_bridges_46 (by decide) ?_
        refine ih (e + 1) (by omega) H locs ls (hw.eq rfl) ?_
        rw [show (bg_f σ (e + 1)).2 = (bg_f σ e).2 by (show (if _ then _ else _) = _); rw [if_neg (by omega)]]
        exact hl
      · refine cb_inc1 C hl dX0_bridges_40 rfl (by decide) (fun ls (hl : cb_L ls 3 [_, _, _]) => ?_)
        refine cb_inc1 C hl dX0_bridges_43 rfl (by decide) (fun ls (hl : cb_L ls 3 [_, _, _]) => ?_)
        refine cb_goto C 4 dX0_bridges_46 (by decide) ?_
        refine ih (e + 1) (by omega) H locs ls (hw.eq rfl) ?_
        rw [show (bg_f σ (e + 1)).2 = (bg_f σ e).2 + 1 by (show (if _ then _ else _) = _); rw [if_pos (by omega)]]
        exact hl
  exact L4 (σ 0 0) 0 (by omega) _ _ ls hw hl
end
section
/-! CycleBasisModel: its methods -/
theorem mm_isVertex (l : Launch) (D : va_G) (cI cZ : ClassId) (h : Nat) (a : Nat → Nat) (σ : cb_S) {k : Nat} (hk : k < 4294967296) : cb_C l yX1_isVertex cX1_isVertex 2 (some .boolean) 1 0 D cI cZ (cb_WM h a cI cZ) [.ref h, .int (nI k)] σ (some (if k < 7 then 1 else 0)) σ := by
  refine cb_ofZ (by split <;> omega) (by decide) rfl (Nat.le_of_ble_eq_true rfl) ?_
  intro p e_ s m args below meth c A Q C hw ret ls hl
  have hl : cb_L ls 2 [_, _] := hl
  refine cb_iload_n C hl dX1_isVertex_0 rfl ?_
  refine cb_if_lt C 14 dX1_isVertex_1 (by decide) (by omega) (fun h1 => ?_) (fun h1 => ?_)
  · refine cb_iconst C 0 dX1_isVertex_14 rfl ?_
    exact cb_top (by rw [if_neg (by omega)]) (ret _ _ _ _ hw dX1_isVertex_15)
  refine cb_iload_n C hl dX1_isVertex_4 rfl ?_
  refine cb_bipush C 6 dX1_isVertex_5 rfl ?_
  refine cb_icmp_gt C 14 dX1_isVertex_7 (by decide) (by omega) (by omega) (fun h2 => ?_) (fun h2 => ?_)
  · refine cb_iconst C 0 dX1_isVertex_14 rfl ?_
    exact cb_top (by rw [if_neg (by omega)]) (ret _ _ _ _ hw dX1_isVertex_15)
  · refine cb_iconst C 1 dX1_isVertex_10 rfl ?_
    refine cb_goto C 15 dX1_isVertex_11 (by decide) ?_
    exact cb_top (by rw [if_pos (by omega)]) (ret _ _ _ _ hw dX1_isVertex_15)
theorem mm_isEdge (l : Launch) (D : va_G) (cI cZ : ClassId) (h : Nat) (a : Nat → Nat) (σ : cb_S) (hc : σ 3 0 ≤ 12) {k : Nat} (hk : k < 4294967296) : cb_C l yX1_isEdge cX1_isEdge 2 (some .boolean) 1 0 D cI cZ (cb_WM h a cI cZ) [.ref h, .int (nI k)] σ (some (if k < σ 3 0 then 1 else 0)) σ := by
  refine cb_ofZ (by split <;> omega) (by decide) rfl (Nat.le_of_ble_eq_true rfl) ?_
  intro p e_ s m args below meth c A Q C hw ret ls hl
  have hl : cb_L ls 2 [_, _] := hl
  refine cb_iload_n C hl dX1_isEdge_0 rfl ?_
  refine cb_if_lt C 16 dX1_isEdge_1 (by decide) (by omega) (fun h1 => ?_) (fun h1 => ?_)
  · refine cb_iconst C 0 dX1_isEdge_16 rfl ?_
    exact cb_top (by rw [if_neg (by omega)]) (ret _ _ _ _ hw dX1_isEdge_17)
  refine cb_iload_n C hl dX1_isEdge_4 rfl ?_
  refine cb_aload_n C hl dX1_isEdge_5 rfl ?_
  refine cb_mg_29 C hw dX1_isEdge_6 ?_
  refine cb_icmp_ge C 16 dX1_isEdge_9 (by decide) (by omega) (by omega) (fun h2 => ?_) (fun h2 => ?_)
  · refine cb_iconst C 0 dX1_isEdge_16 rfl ?_
    exact cb_top (by rw [if_neg (by omega)]) (ret _ _ _ _ hw dX1_isEdge_17)
  · refine cb_iconst C 1 dX1_isEdge_12 rfl ?_
    refine cb_goto C 17 dX1_isEdge_13 (by decide) ?_
    exact cb_top (by rw [if_pos (by omega)]) (ret _ _ _ _ hw dX1_isEdge_17)
theorem mm_degree (l : Launch) (D : va_G) (cI cZ : ClassId) (h : Nat) (a : Nat → Nat) (σ : cb_S) (ok : mo_OK σ) {x v : Nat} (hx : x < 4096) (hv : v < 7) : cb_C l yX1_degree cX1_degree 5 (some .int) 1 0 D cI cZ (cb_WM h a cI cZ) [.ref h, .int (nI x), .int (nI v)] σ (some (dg_f σ x v (σ 3 0))) σ := by
  refine cb_ofI (by decide) rfl (Nat.le_of_ble_eq_true rfl) ?_
  intro p e_ s m args below meth c A Q C hw ret ls hl
  have hl : cb_L ls 5 [_, _, _, _, _] := hl
  have hc := ok.1
  have hbit : ∀ e, (x >>> e) &&& 1 ≤ 1 := fun e => Nat.and_le_right
  refine cb_iconst C 0 dX1_degree_0 rfl ?_
  refine cb_istore_n C hl dX1_degree_1 (by decide) (fun ls (hl : cb_L ls 5 [_, _, _, _, _]) => ?_)
  refine cb_iconst C 0 dX1_degree_2 rfl ?_
  refine cb_istore C hl dX1_degree_3 (by decide) (fun ls (hl : cb_L ls 5 [_, _, _, _, _]) => ?_)
  have L5 : ∀ (k e : Nat), e + k = σ 3 0 → ∀ (H : Heap) (locs : List Loc) (ls : Array Slot), cb_W D cI cZ (cb_WM h a cI cZ) A s σ H locs → cb_L ls 5 [some (.ref h), some (.int (nI x)), some (.int (nI v)), some (.int (nI (dg_f σ x v e))), some (.int (nI e))] → W p l e_ (cb_R 1 0) s m args below meth c H locs 0 0 Q (F0 m 5 ls []) := by
    intro k
    induction k with
    | zero =>
      intro e he H locs ls hw hl
      obtain rfl : e = σ 3 0 := by omega
      refine cb_iload C hl dX1_degree_5 rfl ?_
      refine cb_aload_n C hl dX1_degree_7 rfl ?_
      refine cb_mg_29 C hw dX1_degree_8 ?_
      refine cb_icmp_ge C 54 dX1_degree_11 (by decide) (by omega) (by omega) (fun h1 => ?_) (fun h1 => ?_)
      · refine cb_iload_n C hl dX1_degree_54 rfl ?_
        exact ret _ _ _ _ hw dX1_degree_55
      · exact absurd h1 (by omega)
    | succ k ih =>
      intro e he H locs ls hw hl
      obtain ⟨o1, o2, o3, o4, o5⟩ := ok.2 e (by omega)
      have g1 := hbit e
      have B48 : dg_f σ x v (e + 1) = dg_f σ x v e → W p l e_ (cb_R 1 0) s m args below meth c H locs 0 0 Q (F0 m 48 ls []) := by
        intro q
        refine cb_inc1 C hl dX1_degree_48 rfl (by decide) (fun ls (hl : cb_L ls 5 [_, _, _, _, _]) => ?_)
        refine cb_goto C 5 dX1_degree_51 (by decide) ?_
        exact ih (e + 1) (by omega) H locs ls hw (by rw [q]; exact hl)
      have B45 : dg_f σ x v (e + 1) = dg_f σ x v e + 1 → W p l e_ (cb_R 1 0) s m args below meth c H locs 0 0 Q (F0 m 45 ls []) := by
        intro q
        refine cb_inc1 C hl dX1_degree_45 rfl (by decide) (fun ls (hl : cb_L ls 5 [_, _, _, _, _]) => ?_)
        refine cb_inc1 C hl dX1_degree_48 rfl (by decide) (fun ls (hl : cb_L ls 5 [_, _, _, _, _]) => ?_)
        refine cb_goto C 5 dX1_degree_51 (by decide) ?_
        exact ih (e + 1) (by omega) H locs ls hw (by rw [q]; exact hl)
      refine cb_iload C hl dX1_degree_5 rfl ?_
      refine cb_aload_n C hl dX1_degree_7 rfl ?_
      refine cb_mg_29 C hw dX1_degree_8 ?_
      refine cb_icmp_ge C 54 dX1_degree_11 (by decide) (by omega) (by omega) (fun h1 => ?_) (fun h1 => ?_)
      · exact absurd h1 (by omega)
      refine cb_iload_n C hl dX1_degree_14 rfl ?_
      refine cb_iload C hl dX1_degree_15 rfl ?_
      refine cb_ishr C dX1_degree_17 (by omega) (by omega) ?_
      refine cb_iconst C 1 dX1_degree_18 rfl ?_
      refine cb_iand C dX1_degree_19 ?_
      refine cb_if_eq C 48 dX1_degree_20 (by decide) (by omega) (fun h2 => ?_) (fun h2 => ?_)
      · exact B48 (by show (if _ then _ else _) = _; rw [if_neg (fun q => q.1 h2)])
      refine cb_aload_n C hl dX1_degree_23 rfl ?_
      refine cb_mg_7 C hw dX1_degree_24 ?_
      refine cb_iload C hl dX1_degree_27 rfl ?_
      refine cb_miald C hw dX1_degree_29 rfl (by omega) ?_
      refine cb_iload_n C hl dX1_degree_30 rfl ?_
      refine cb_icmp_eq C 45 dX1_degree_31 (by decide) (by omega) (by omega) (fun h3 => ?_) (fun h3 => ?_)
      · exact B45 (by show (if _ then _ else _) = _; rw [if_pos ⟨h2, Or.inl h3⟩])
      refine cb_aload_n C hl dX1_degree_34 rfl ?_
      refine cb_mg_13 C hw dX1_degree_35 ?_
      refine cb_iload C hl dX1_degree_38 rfl ?_
      refine cb_miald C hw dX1_degree_40 rfl (by omega) ?_
      refine cb_iload_n C hl dX1_degree_41 rfl ?_
      refine cb_icmp_ne C 48 dX1_degree_42 (by decide) (by omega) (by omega) (fun h4 => ?_) (fun h4 => ?_)
      · exact B48 (by show (if _ then _ else _) = _; rw [if_neg (fun q => q.2.elim h3 h4)])
      · exact B45 (by show (if _ then _ else _) = _; rw [if_pos ⟨h2, Or.inr h4⟩])
  exact L5 (σ 3 0) 0 (by omega) _ _ ls hw hl
theorem mm_even (l : Launch) (D : va_G) (cI cZ : ClassId) (h : Nat) (a : Nat → Nat) (σ : cb_S) (ok : mo_OK σ) {x : Nat} (hx : x < 4096) : cb_C l yX1_even cX1_even 3 (some .boolean) 2 24 D cI cZ (cb_WM h a cI cZ) [.ref h, .int (nI x)] σ (some (ev_f σ x 7 0)) σ := by
  refine cb_ofZ (ev_le _ _ _ _) (by decide) rfl (Nat.le_of_ble_eq_true rfl) ?_
  intro p e_ s m args below meth c A Q C hw ret ls hl
  have hl : cb_L ls 3 [_, _, _] := hl
  have hc := ok.1
  refine cb_iconst C 0 dX1_even_0 rfl ?_
  refine cb_istore_n C hl dX1_even_1 (by decide) (fun ls (hl : cb_L ls 3 [_, _, _]) => ?_)
  have L2 : ∀ (k v : Nat), v + k = 7 → ev_f σ x k v = ev_f σ x 7 0 → ∀ (H : Heap) (locs : List Loc) (ls : Array Slot), cb_W D cI cZ (cb_WM h a cI cZ) A s σ H locs → cb_L ls 3 [some (.ref h), some (.int (nI x)), some (.int (nI v))] → W p l e_ (cb_R 2 24) s m args below meth c H locs 0 0 Q (F0 m 2 ls []) := by
    intro k
    induction k with
    | zero =>
      intro v hv hT H locs ls hw hl
      refine cb_iload_n C hl dX1_even_2 rfl ?_
      refine cb_bipush C 7 dX1_even_3 rfl ?_
      refine cb_icmp_ge C 27 dX1_even_5 (by decide) (by omega) (by omega) (fun h1 => ?_) (fun h1 => ?_)
      · refine cb_iconst C 1 dX1_even_27 rfl ?_
        exact cb_top (by rw [← hT]; rfl) (ret _ _ _ _ hw dX1_even_28)
      · exact absurd h1 (by omega)
    | succ k ih =>
      intro v hv hT H locs ls hw hl
      have g1 := dg_le σ x v (σ 3 0)
      refine cb_iload_n C hl dX1_even_2 rfl ?_
      refine cb_bipush C 7 dX1_even_3 rfl ?_
      refine cb_icmp_ge C 27 dX1_even_5 (by decide) (by omega) (by omega) (fun h1 => ?_) (fun h1 => ?_)
      · exact absurd h1 (by omega)
      refine cb_aload_n C hl dX1_even_8 rfl ?_
      refine cb_iload_n C hl dX1_even_9 rfl ?_
      refine cb_iload_n C hl dX1_even_10 rfl ?_
      refine cb_callVI C hw (mm_degree l D cI cZ h a σ ok hx (by omega : v < 7)) (cwX1_X1_degree C.2.2.2.2 ⟨by decide, by decide⟩) (cb_reM hw) rfl hl.1 rfl (Nat.le_of_ble_eq_true rfl) ⟨Nat.zero_le _, Nat.zero_le _⟩ dX1_even_11 (fun H locs hw => ?_)
      refine cb_iconst C 2 dX1_even_14 rfl ?_
      refine cb_irem C dX1_even_15 (by omega) (by decide) (by decide) ?_
      refine cb_if_eq C 21 dX1_even_16 (by decide) (by omega) (fun h2 => ?_) (fun h2 => ?_)
      · refine cb_inc1 C hl dX1_even_21 rfl (by decide) (fun ls (hl : cb_L ls 3 [_, _, _]) => ?_)
        refine cb_goto C 2 dX1_even_24 (by decide) ?_
        refine ih (v + 1) (by omega) ?_ H locs ls hw hl
        rw [← hT]
        show _ = (if _ then _ else _)
        rw [if_pos h2]
      · refine cb_iconst C 0 dX1_even_19 rfl ?_
        refine cb_top ?_ (ret _ _ _ _ hw dX1_even_20)
        rw [← hT]
        show _ = (if _ then _ else _)
        rw [if_neg h2]
  exact L2 7 0 rfl rfl _ _ ls hw hl
theorem mm_refresh (l : Launch) (D : va_G) (cI cZ : ClassId) (h : Nat) (a : Nat → Nat) (σ : cb_S) (ok : mo_OK σ) : cb_C l yX1_refresh cX1_refresh 4 none 3 46 D cI cZ (cb_WM h a cI cZ) [.ref h] σ none (rf_S σ) := by
  refine cb_ofV (by decide) rfl (Nat.le_of_ble_eq_true rfl) ?_
  intro p e_ s m args below meth c A Q C hw ret ls hl
  have hl : cb_L ls 4 [_, _, _, _] := hl
  have hc := ok.1
  refine cb_iconst C 0 dX1_refresh_0 rfl ?_
  refine cb_istore_n C hl dX1_refresh_1 (by decide) (fun ls (hl : cb_L ls 4 [_, _, _, _]) => ?_)
  have L2 : ∀ (k x : Nat), x + k = 4096 → ∀ (H : Heap) (locs : List Loc) (ls : Array Slot) (o2 o3 : Option Value), cb_W D cI cZ (cb_WM h a cI cZ) A s (rf_f σ x) H locs → cb_L ls 4 [some (.ref h), some (.int (nI x)), o2, o3] → W p l e_ (cb_R 3 46) s m args below meth c H locs 0 0 Q (F0 m 2 ls []) := by
    intro k
    induction k with
    | zero =>
      intro x hx H locs ls o2 o3 hw hl
      obtain rfl : x = 4096 := by omega
      refine cb_iload_n C hl dX1_refresh_2 rfl ?_
      refine cb_sipush C 4096 dX1_refresh_3 rfl ?_
      refine cb_icmp_ge C 79 dX1_refresh_6 (by decide) (by omega) (by omega) (fun h1 => ?_) (fun h1 => ?_)
      · exact ret _ _ _ _ hw dX1_refresh_79
      · exact absurd h1 (by omega)
    | succ k ih =>
      intro x hx H locs ls o2 o3 hw hl
      have okx : mo_OK (rf_f σ x) := mo_OK.of (rf_f_G σ x) ok
      have e3 : rf_f σ x 3 0 = σ 3 0 := by rw [rf_f_G σ x 3 (by decide)]
      have hbit : ∀ e, (x >>> e) &&& 1 ≤ 1 := fun e => Nat.and_le_right
      have hpw : 2 ^ rf_f σ x 3 0 ≤ 4096 := pw_12 (by omega)
      refine cb_iload_n C hl dX1_refresh_2 rfl ?_
      refine cb_sipush C 4096 dX1_refresh_3 rfl ?_
      refine cb_icmp_ge C 79 dX1_refresh_6 (by decide) (by omega) (by omega) (fun h1 => ?_) (fun h1 => ?_)
      · exact absurd h1 (by omega)
      refine cb_iconst C 0 dX1_refresh_9 rfl ?_
      refine cb_istore_n C hl dX1_refresh_10 (by decide) (fun ls (hl : cb_L ls 4 [_, _, _, _]) => ?_)
      refine cb_iconst C 0 dX1_refresh_11 rfl ?_
      refine cb_istore_n C hl dX1_refresh_12 (by decide) (fun ls (hl : cb_L ls 4 [_, _, _, _]) => ?_)
      have J72 : ∀ (ls : Array Slot) (o2 o3 : Option Value) (r : Nat), r = cw_f (rf_f σ x) x → cb_L ls 4 [some (.ref h), some (.int (nI x)), o2, o3] → ∀ (H : Heap) (locs : List Loc), cb_W D cI cZ (cb_WM h a cI cZ) A s (rf_f σ x) H locs → W p l e_ (cb_R 3 46) s m args below meth c H locs 0 0 Q (F0 m 72 ls [.int (nI r), .int (nI x), .ref (a 5)]) := by
        intro ls o2 o3 r hr hl H locs hw
        refine cb_miast C hw dX1_refresh_72 rfl (by omega) (fun H locs hw => ?_)
        refine cb_inc1 C hl dX1_refresh_73 rfl (by decide) (fun ls (hl : cb_L ls 4 [_, _, _, _]) => ?_)
        refine cb_goto C 2 dX1_refresh_76 (by decide) ?_
        exact ih (x + 1) (by omega) H locs ls _ _ (hw.eq (by rw [hr]; rfl)) hl
      have L13 : ∀ (j e : Nat), e + j = σ 3 0 → ∀ (ls : Array Slot), cb_L ls 4 [some (.ref h), some (.int (nI x)), some (.int (nI (ws_f (rf_f σ x) x e))), some (.int (nI e))] → W p l e_ (cb_R 3 46) s m args below meth c H locs 0 0 Q (F0 m 13 ls []) := by
        intro j
        induction j with
        | zero =>
          intro e he ls hl
          obtain rfl : e = rf_f σ x 3 0 := by omega
          refine cb_iload_n C hl dX1_refresh_13 rfl ?_
          refine cb_aload_n C hl dX1_refresh_14 rfl ?_
          refine cb_mg_29 C hw dX1_refresh_15 ?_
          refine cb_icmp_ge C 44 dX1_refresh_18 (by decide) (by omega) (by omega) (fun h2 => ?_) (fun h2 => ?_)
          · refine cb_aload_n C hl dX1_refresh_44 rfl ?_
            refine cb_mg_23 C hw dX1_refresh_45 ?_
            refine cb_iload_n C hl dX1_refresh_48 rfl ?_
            refine cb_iload_n C hl dX1_refresh_49 rfl ?_
            refine cb_iconst C 1 dX1_refresh_50 rfl ?_
            refine cb_aload_n C hl dX1_refresh_51 rfl ?_
            refine cb_mg_29 C hw dX1_refresh_52 ?_
            refine cb_ishl C dX1_refresh_55 (by omega) ?_
            refine cb_icmp_ge C 71 dX1_refresh_56 (by decide) (by omega) (by omega) (fun h3 => ?_) (fun h3 => ?_)
            · refine cb_iconst C 4294967295 dX1_refresh_71 rfl ?_
              exact J72 ls _ _ _ (by unfold cw_f; rw [if_neg (by omega)]) hl H locs hw
            refine cb_aload_n C hl dX1_refresh_59 rfl ?_
            refine cb_iload_n C hl dX1_refresh_60 rfl ?_
            refine cb_callVI C hw (mm_even l D cI cZ h a (rf_f σ x) okx (by omega : x < 4096)) (cwX1_X1_even C.2.2.2.2 ⟨by decide, by decide⟩) (cb_reM hw) rfl hl.1 rfl (Nat.le_of_ble_eq_true rfl) ⟨Nat.zero_le _, Nat.zero_le _⟩ dX1_refresh_61 (fun H locs hw => ?_)
            have g2 := ev_le (rf_f σ x) x 7 0
            refine cb_if_eq C 71 dX1_refresh_64 (by decide) (by omega) (fun h4 => ?_) (fun h4 => ?_)
            · refine cb_iconst C 4294967295 dX1_refresh_71 rfl ?_
              exact J72 ls _ _ _ (by unfold cw_f; rw [if_neg (fun q => q.2 h4)]) hl H locs hw
            · refine cb_iload_n C hl dX1_refresh_67 rfl ?_
              refine cb_goto C 72 dX1_refresh_68 (by decide) ?_
              exact J72 ls _ _ _ (by unfold cw_f; rw [if_pos ⟨h3, h4⟩]) hl H locs hw
          · exact absurd h2 (by omega)
        | succ j ihj =>
          intro e he ls hl
          have g1 := hbit e
          refine cb_iload_n C hl dX1_refresh_13 rfl ?_
          refine cb_aload_n C hl dX1_refresh_14 rfl ?_
          refine cb_mg_29 C hw dX1_refresh_15 ?_
          refine cb_icmp_ge C 44 dX1_refresh_18 (by decide) (by omega) (by omega) (fun h2 => ?_) (fun h2 => ?_)
          · exact absurd h2 (by omega)
          refine cb_iload_n C hl dX1_refresh_21 rfl ?_
          refine cb_iload_n C hl dX1_refresh_22 rfl ?_
          refine cb_ishr C dX1_refresh_23 (by omega) (by omega) ?_
          refine cb_iconst C 1 dX1_refresh_24 rfl ?_
          refine cb_iand C dX1_refresh_25 ?_
          refine cb_if_eq C 38 dX1_refresh_26 (by decide) (by omega) (fun h3 => ?_) (fun h3 => ?_)
          · refine cb_inc1 C hl dX1_refresh_38 rfl (by decide) (fun ls (hl : cb_L ls 4 [_, _, _, _]) => ?_)
            refine cb_goto C 13 dX1_refresh_41 (by decide) ?_
            refine ihj (e + 1) (by omega) ls ?_
            rw [show ws_f (rf_f σ x) x (e + 1) = ws_f (rf_f σ x) x e by (show (if _ then _ else _) = _); rw [if_neg (fun q => q h3)]]
            exact hl
          · refine cb_iload_n C hl dX1_refresh_29 rfl ?_
            refine cb_aload_n C hl dX1_refresh_30 rfl ?_
            refine cb_mg_16 C hw dX1_refresh_31 ?_
            refine cb_iload_n C hl dX1_refresh_34 rfl ?_
            refine cb_miald C hw dX1_refresh_35 rfl (by omega) ?_
            refine cb_iadd C dX1_refresh_36 ?_
            refine cb_istore_n C hl dX1_refresh_37 (by decide) (fun ls (hl : cb_L ls 4 [_, _, _, _]) => ?_)
            refine cb_inc1 C hl dX1_refresh_38 rfl (by decide) (fun ls (hl : cb_L ls 4 [_, _, _, _]) => ?_)
            refine cb_goto C 13 dX1_refresh_41 (by decide) ?_
            refine ihj (e + 1) (by omega) ls ?_
            rw [show ws_f (rf_f σ x) x (e + 1) = ws_f (rf_f σ x) x e + rf_f σ x 2 e by (show (if _ then _ else _) = _); rw [if_pos h3]]
            exact hl
      exact L13 (σ 3 0) 0 (by omega) ls hl
  exact L2 4096 0 rfl _ _ ls _ _ hw hl
theorem mm_edge (l : Launch) (D : va_G) (cI cZ : ClassId) (h : Nat) (a : Nat → Nat) (σ : cb_S) (ok : mo_OK σ) {u v w : Nat} (hu : u < 4294967296) (hv : v < 4294967296) (hww : w < 4294967296) : cb_C l yX1_edge cX1_edge 4 (some .int) 4 69 D cI cZ (cb_WM h a cI cZ) [.ref h, .int (nI u), .int (nI v), .int (nI w)] σ (some (me_p σ u v w).2) (me_p σ u v w).1 := by
  refine cb_ofI (by decide) rfl (Nat.le_of_ble_eq_true rfl) ?_
  intro p e_ s m args below meth c A Q C hw ret ls hl
  have hl : cb_L ls 4 [_, _, _, _] := hl
  have hc := ok.1
  have B1 : ¬ (u < 7 ∧ v < 7 ∧ u ≠ v) → ∀ (H : Heap) (locs : List Loc) (ls : Array Slot), cb_W D cI cZ (cb_WM h a cI cZ) A s σ H locs → W p l e_ (cb_R 4 69) s m args below meth c H locs 0 0 Q (F0 m 21 ls []) := by
    intro hb H locs ls hw
    refine cb_iconst C 4294967295 dX1_edge_21 rfl ?_
    exact cb_top (by simp only [me_p]; rw [if_pos hb]) (ret _ _ _ _ (hw.eq (by simp only [me_p]; rw [if_pos hb])) dX1_edge_22)
  refine cb_aload_n C hl dX1_edge_0 rfl ?_
  refine cb_iload_n C hl dX1_edge_1 rfl ?_
  refine cb_callVI C hw (mm_isVertex l D cI cZ h a σ hu) (cwX1_X1_isVertex C.2.2.2.2 ⟨by decide, by decide⟩) (cb_reM hw) rfl hl.1 rfl (Nat.le_of_ble_eq_true rfl) ⟨Nat.zero_le _, Nat.zero_le _⟩ dX1_edge_2 (fun H locs hw => ?_)
  by_cases h1 : u < 7
  · rw [if_pos h1]
    refine cb_if_eq C 21 dX1_edge_5 (by decide) (by omega) (fun h2 => ?_) (fun h2 => ?_)
    · exact absurd h2 (by omega)
    refine cb_aload_n C hl dX1_edge_8 rfl ?_
    refine cb_iload_n C hl dX1_edge_9 rfl ?_
    refine cb_callVI C hw (mm_isVertex l D cI cZ h a σ hv) (cwX1_X1_isVertex C.2.2.2.2 ⟨by decide, by decide⟩) (cb_reM hw) rfl hl.1 rfl (Nat.le_of_ble_eq_true rfl) ⟨Nat.zero_le _, Nat.zero_le _⟩ dX1_edge_10 (fun H locs hw => ?_)
    by_cases h3 : v < 7
    · rw [if_pos h3]
      refine cb_if_eq C 21 dX1_edge_13 (by decide) (by omega) (fun h4 => ?_) (fun h4 => ?_)
      · exact absurd h4 (by omega)
      refine cb_iload_n C hl dX1_edge_16 rfl ?_
      refine cb_iload_n C hl dX1_edge_17 rfl ?_
      refine cb_icmp_ne C 23 dX1_edge_18 (by decide) (by omega) (by omega) (fun h5 => ?_) (fun h5 => ?_)
      · have B2 : ¬ (1 ≤ w ∧ w ≤ 100) → ∀ (H : Heap) (locs : List Loc) (ls : Array Slot), cb_W D cI cZ (cb_WM h a cI cZ) A s σ H locs → W p l e_ (cb_R 4 69) s m args below meth c H locs 0 0 Q (F0 m 34 ls []) := by
          intro hb H locs ls hw
          refine cb_bipush C 4294967294 dX1_edge_34 rfl ?_
          exact cb_top (by simp only [me_p]; rw [if_neg (by omega), if_pos hb]) (ret _ _ _ _ (hw.eq (by simp only [me_p]; rw [if_neg (by omega), if_pos hb])) dX1_edge_36)
        refine cb_iload_n C hl dX1_edge_23 rfl ?_
        refine cb_iconst C 1 dX1_edge_24 rfl ?_
        refine cb_icmpS_lt C 34 dX1_edge_25 (by decide) (by omega) (by omega) (fun h6 => ?_) (fun h6 => ?_)
        · exact B2 (by omega) _ _ _ hw
        · refine cb_iload_n C hl dX1_edge_28 rfl ?_
          refine cb_bipush C 100 dX1_edge_29 rfl ?_
          refine cb_icmpS_le C 37 dX1_edge_31 (by decide) (by omega) (by omega) (fun h7 => ?_) (fun h7 => ?_)
          · refine cb_aload_n C hl dX1_edge_37 rfl ?_
            refine cb_mg_29 C hw dX1_edge_38 ?_
            refine cb_bipush C 12 dX1_edge_41 rfl ?_
            refine cb_icmp_ne C 49 dX1_edge_43 (by decide) (by omega) (by omega) (fun h8 => ?_) (fun h8 => ?_)
            · have hp : me_p σ u v w = (rf_S (cb_up (cb_up (cb_up (cb_up σ 0 (σ 3 0) u) 1 (σ 3 0) v) 2 (σ 3 0) w) 3 0 (σ 3 0 + 1)), σ 3 0) := by
                simp only [me_p]; rw [if_neg (by omega), if_neg (by omega), if_neg h8]
              have ok2 : mo_OK (cb_up (cb_up (cb_up (cb_up σ 0 (σ 3 0) u) 1 (σ 3 0) v) 2 (σ 3 0) w) 3 0 (σ 3 0 + 1)) := by
                refine ⟨by rw [cb_up_s]; omega, fun e he => ?_⟩
                rw [cb_up_s] at he
                by_cases hen : e = σ 3 0
                · subst hen; simp [cb_up]; omega
                · have := ok.2 e (by omega)
                  simp [cb_up, hen]; exact this
              refine cb_aload_n C hl dX1_edge_49 rfl ?_
              refine cb_mg_7 C hw dX1_edge_50 ?_
              refine cb_aload_n C hl dX1_edge_53 rfl ?_
              refine cb_mg_29 C hw dX1_edge_54 ?_
              have e1 : (cb_up σ 0 (σ 3 0) u) 3 0 = σ 3 0 := by simp [cb_up]
              have e2 : (cb_up (cb_up σ 0 (σ 3 0) u) 1 (σ 3 0) v) 3 0 = σ 3 0 := by simp [cb_up]
              have e3 : (cb_up (cb_up (cb_up σ 0 (σ 3 0) u) 1 (σ 3 0) v) 2 (σ 3 0) w) 3 0 = σ 3 0 := by simp [cb_up]
              refine cb_iload_n C hl dX1_edge_57 rfl ?_
              refine cb_miast C hw dX1_edge_58 rfl (by omega) (fun H locs hw => ?_)
              refine cb_aload_n C hl dX1_edge_59 rfl ?_
              refine cb_mg_13 C hw dX1_edge_60 ?_
              refine cb_aload_n C hl dX1_edge_63 rfl ?_
              refine cb_mg_29 C hw dX1_edge_64 ?_
              rw [e1]
              refine cb_iload_n C hl dX1_edge_67 rfl ?_
              refine cb_miast C hw dX1_edge_68 rfl (by omega) (fun H locs hw => ?_)
              refine cb_aload_n C hl dX1_edge_69 rfl ?_
              refine cb_mg_16 C hw dX1_edge_70 ?_
              refine cb_aload_n C hl dX1_edge_73 rfl ?_
              refine cb_mg_29 C hw dX1_edge_74 ?_
              rw [e2]
              refine cb_iload_n C hl dX1_edge_77 rfl ?_
              refine cb_miast C hw dX1_edge_78 rfl (by omega) (fun H locs hw => ?_)
              refine cb_aload_n C hl dX1_edge_79 rfl ?_
              refine cb_dup C dX1_edge_80 rfl ?_
              refine cb_mg_29 C hw dX1_edge_81 ?_
              rw [e3]
              refine cb_iconst C 1 dX1_edge_84 rfl ?_
              refine cb_iadd C dX1_edge_85 ?_
              refine cb_mp_29 C hw dX1_edge_86 (fun H locs hw => ?_)
              refine cb_aload_n C hl dX1_edge_89 rfl ?_
              refine cb_callVV C hw (mm_refresh l D cI cZ h a _ ok2) (cwX1_X1_refresh C.2.2.2.2 ⟨by decide, by decide⟩) (cb_reM hw) rfl hl.1 rfl (Nat.le_of_ble_eq_true rfl) ⟨Nat.zero_le _, Nat.zero_le _⟩ dX1_edge_90 (fun H locs hw => ?_)
              have e4 : rf_S (cb_up (cb_up (cb_up (cb_up σ 0 (σ 3 0) u) 1 (σ 3 0) v) 2 (σ 3 0) w) 3 0 (σ 3 0 + 1)) 3 0 = σ 3 0 + 1 := by rw [rf_S_k _ (by decide), cb_up_s]
              refine cb_aload_n C hl dX1_edge_93 rfl ?_
              refine cb_mg_29 C hw dX1_edge_94 ?_
              rw [e4]
              refine cb_iconst C 1 dX1_edge_97 rfl ?_
              refine cb_isub C dX1_edge_98 (by omega) ?_
              refine cb_top ?_ (ret _ _ _ _ (hw.eq ?_) dX1_edge_99)
              · rw [hp]; show σ 3 0 + 1 - 1 = σ 3 0; omega
              · rw [hp]
            · refine cb_bipush C 4294967293 dX1_edge_46 rfl ?_
              refine cb_top ?_ (ret _ _ _ _ (hw.eq ?_) dX1_edge_48)
              · simp only [me_p]; rw [if_neg (by omega), if_neg (by omega), if_pos h8]
              · simp only [me_p]; rw [if_neg (by omega), if_neg (by omega), if_pos h8]
          · exact B2 (by omega) _ _ _ hw
      · exact B1 (by omega) _ _ _ hw
    · rw [if_neg h3]
      refine cb_if_eq C 21 dX1_edge_13 (by decide) (by omega) (fun h4 => ?_) (fun h4 => ?_)
      · exact B1 (by omega) _ _ _ hw
      · exact absurd rfl h4
  · rw [if_neg h1]
    refine cb_if_eq C 21 dX1_edge_5 (by decide) (by omega) (fun h2 => ?_) (fun h2 => ?_)
    · exact B1 (by omega) _ _ _ hw
    · exact absurd rfl h2
theorem mm_reweigh (l : Launch) (D : va_G) (cI cZ : ClassId) (h : Nat) (a : Nat → Nat) (σ : cb_S) (ok : mo_OK σ) {k w : Nat} (hk : k < 4294967296) (hww : w < 4294967296) : cb_C l yX1_reweigh cX1_reweigh 4 (some .int) 4 69 D cI cZ (cb_WM h a cI cZ) [.ref h, .int (nI k), .int (nI w)] σ (some (mr_p σ k w).2) (mr_p σ k w).1 := by
  refine cb_ofI (by decide) rfl (Nat.le_of_ble_eq_true rfl) ?_
  intro p e_ s m args below meth c A Q C hw ret ls hl
  have hl : cb_L ls 4 [_, _, _, _] := hl
  have hc := ok.1
  refine cb_aload_n C hl dX1_reweigh_0 rfl ?_
  refine cb_iload_n C hl dX1_reweigh_1 rfl ?_
  refine cb_callVI C hw (mm_isEdge l D cI cZ h a σ hc hk) (cwX1_X1_isEdge C.2.2.2.2 ⟨by decide, by decide⟩) (cb_reM hw) rfl hl.1 rfl (Nat.le_of_ble_eq_true rfl) ⟨Nat.zero_le _, Nat.zero_le _⟩ dX1_reweigh_2 (fun H locs hw => ?_)
  by_cases h1 : k < σ 3 0
  · rw [if_pos h1]
    refine cb_if_ne C 11 dX1_reweigh_5 (by decide) (by omega) (fun h2 => ?_) (fun h2 => ?_)
    · have B2 : ¬ (1 ≤ w ∧ w ≤ 100) → ∀ (H : Heap) (locs : List Loc) (ls : Array Slot), cb_W D cI cZ (cb_WM h a cI cZ) A s σ H locs → W p l e_ (cb_R 4 69) s m args below meth c H locs 0 0 Q (F0 m 22 ls []) := by
        intro hb H locs ls hw
        refine cb_bipush C 4294967294 dX1_reweigh_22 rfl ?_
        exact cb_top (by simp only [mr_p]; rw [if_neg (by omega), if_pos hb]) (ret _ _ _ _ (hw.eq (by simp only [mr_p]; rw [if_neg (by omega), if_pos hb])) dX1_reweigh_24)
      refine cb_iload_n C hl dX1_reweigh_11 rfl ?_
      refine cb_iconst C 1 dX1_reweigh_12 rfl ?_
      refine cb_icmpS_lt C 22 dX1_reweigh_13 (by decide) (by omega) (by omega) (fun h6 => ?_) (fun h6 => ?_)
      · exact B2 (by omega) _ _ _ hw
      · refine cb_iload_n C hl dX1_reweigh_16 rfl ?_
        refine cb_bipush C 100 dX1_reweigh_17 rfl ?_
        refine cb_icmpS_le C 25 dX1_reweigh_19 (by decide) (by omega) (by omega) (fun h7 => ?_) (fun h7 => ?_)
        · have ok2 : mo_OK (cb_up σ 2 k w) := by
            refine ⟨by rw [cb_up_k _ (by decide)]; exact hc, fun e he => ?_⟩
            rw [cb_up_k _ (by decide)] at he
            have g := ok.2 e he
            by_cases hen : e = k
            · subst hen; simp [cb_up]; omega
            · simp [cb_up, hen]; exact g
          refine cb_aload_n C hl dX1_reweigh_25 rfl ?_
          refine cb_mg_16 C hw dX1_reweigh_26 ?_
          refine cb_iload_n C hl dX1_reweigh_29 rfl ?_
          refine cb_miald C hw dX1_reweigh_30 rfl (by omega) ?_
          refine cb_istore_n C hl dX1_reweigh_31 (by decide) (fun ls (hl : cb_L ls 4 [_, _, _, _]) => ?_)
          refine cb_aload_n C hl dX1_reweigh_32 rfl ?_
          refine cb_mg_16 C hw dX1_reweigh_33 ?_
          refine cb_iload_n C hl dX1_reweigh_36 rfl ?_
          refine cb_iload_n C hl dX1_reweigh_37 rfl ?_
          refine cb_miast C hw dX1_reweigh_38 rfl (by omega) (fun H locs hw => ?_)
          refine cb_aload_n C hl dX1_reweigh_39 rfl ?_
          refine cb_callVV C hw (mm_refresh l D cI cZ h a _ ok2) (cwX1_X1_refresh C.2.2.2.2 ⟨by decide, by decide⟩) (cb_reM hw) rfl hl.1 rfl (Nat.le_of_ble_eq_true rfl) ⟨Nat.zero_le _, Nat.zero_le _⟩ dX1_reweigh_40 (fun H locs hw => ?_)
          refine cb_iload_n C hl dX1_reweigh_43 rfl ?_
          refine cb_top ?_ (ret _ _ _ _ (hw.eq ?_) dX1_reweigh_44)
          · simp only [mr_p]; rw [if_neg (by omega), if_neg (by omega)]
          · simp only [mr_p]; rw [if_neg (by omega), if_neg (by omega)]
        · exact B2 (by omega) _ _ _ hw
    · exact absurd h2 (by omega)
  · rw [if_neg h1]
    refine cb_if_ne C 11 dX1_reweigh_5 (by decide) (by omega) (fun h2 => ?_) (fun h2 => ?_)
    · exact absurd rfl h2
    · refine cb_bipush C 4294967292 dX1_reweigh_8 rfl ?_
      exact cb_top (by simp only [mr_p]; rw [if_pos (by omega)]) (ret _ _ _ _ (hw.eq (by simp only [mr_p]; rw [if_pos (by omega)])) dX1_reweigh_10)
theorem mm_dropLast (l : Launch) (D : va_G) (cI cZ : ClassId) (h : Nat) (a : Nat → Nat) (σ : cb_S) (ok : mo_OK σ) : cb_C l yX1_dropLast cX1_dropLast 1 (some .int) 4 69 D cI cZ (cb_WM h a cI cZ) [.ref h] σ (some (md_p σ).2) (md_p σ).1 := by
  refine cb_ofI (by decide) rfl (Nat.le_of_ble_eq_true rfl) ?_
  intro p e_ s m args below meth c A Q C hw ret ls hl
  have hl : cb_L ls 1 [_] := hl
  have hc := ok.1
  refine cb_aload_n C hl dX1_dropLast_0 rfl ?_
  refine cb_mg_29 C hw dX1_dropLast_1 ?_
  refine cb_if_ne C 10 dX1_dropLast_4 (by decide) (by omega) (fun h1 => ?_) (fun h1 => ?_)
  · have ok2 : mo_OK (cb_up σ 3 0 (σ 3 0 - 1)) := by
      refine ⟨by rw [cb_up_s]; omega, fun e he => ?_⟩
      rw [cb_up_s] at he
      rw [cb_up_k _ (by decide), cb_up_k _ (by decide), cb_up_k _ (by decide)]
      exact ok.2 e (by omega)
    refine cb_aload_n C hl dX1_dropLast_10 rfl ?_
    refine cb_dup C dX1_dropLast_11 rfl ?_
    refine cb_mg_29 C hw dX1_dropLast_12 ?_
    refine cb_iconst C 1 dX1_dropLast_15 rfl ?_
    refine cb_isub C dX1_dropLast_16 (by omega) ?_
    refine cb_mp_29 C hw dX1_dropLast_17 (fun H locs hw => ?_)
    refine cb_aload_n C hl dX1_dropLast_20 rfl ?_
    refine cb_callVV C hw (mm_refresh l D cI cZ h a _ ok2) (cwX1_X1_refresh C.2.2.2.2 ⟨by decide, by decide⟩) (cb_reM hw) rfl hl.1 rfl (Nat.le_of_ble_eq_true rfl) ⟨Nat.zero_le _, Nat.zero_le _⟩ dX1_dropLast_21 (fun H locs hw => ?_)
    have e4 : rf_S (cb_up σ 3 0 (σ 3 0 - 1)) 3 0 = σ 3 0 - 1 := by rw [rf_S_k _ (by decide), cb_up_s]
    refine cb_aload_n C hl dX1_dropLast_24 rfl ?_
    refine cb_mg_29 C hw dX1_dropLast_25 ?_
    refine cb_top ?_ (ret _ _ _ _ (hw.eq ?_) dX1_dropLast_28)
    · rw [e4]; simp [md_p, h1]
    · simp [md_p, h1]
  · refine cb_bipush C 4294967292 dX1_dropLast_7 rfl ?_
    refine cb_top ?_ (ret _ _ _ _ (hw.eq ?_) dX1_dropLast_9)
    · simp [md_p, h1]
    · simp [md_p, h1]
end
section
/-! CycleBasisModel: forget, lightest, take, and the questions -/
theorem mm_forget (l : Launch) (D : va_G) (cI cZ : ClassId) (h : Nat) (a : Nat → Nat) (σ : cb_S) : cb_C l yX1_forget cX1_forget 2 none 1 0 D cI cZ (cb_WM h a cI cZ) [.ref h] σ none (fo_S σ) := by
  refine cb_ofV (by decide) rfl (Nat.le_of_ble_eq_true rfl) ?_
  intro p e_ s m args below meth c A Q C hw ret ls hl
  have hl : cb_L ls 2 [_, _] := hl
  refine cb_iconst C 0 dX1_forget_0 rfl ?_
  refine cb_istore_n C hl dX1_forget_1 (by decide) (fun ls (hl : cb_L ls 2 [_, _]) => ?_)
  have L2 : ∀ (k x : Nat), x + k = 4096 → ∀ (H : Heap) (locs : List Loc) (ls : Array Slot), cb_W D cI cZ (cb_WM h a cI cZ) A s (fo_f σ x) H locs → cb_L ls 2 [some (.ref h), some (.int (nI x))] → W p l e_ (cb_R 1 0) s m args below meth c H locs 0 0 Q (F0 m 2 ls []) := by
    intro k
    induction k with
    | zero =>
      intro x hx H locs ls hw hl
      obtain rfl : x = 4096 := by omega
      refine cb_iload_n C hl dX1_forget_2 rfl ?_
      refine cb_sipush C 4096 dX1_forget_3 rfl ?_
      refine cb_icmp_ge C 30 dX1_forget_6 (by decide) (by omega) (by omega) (fun h1 => ?_) (fun h1 => ?_)
      · exact ret _ _ _ _ hw dX1_forget_30
      · exact absurd h1 (by omega)
    | succ k ih =>
      intro x hx H locs ls hw hl
      refine cb_iload_n C hl dX1_forget_2 rfl ?_
      refine cb_sipush C 4096 dX1_forget_3 rfl ?_
      refine cb_icmp_ge C 30 dX1_forget_6 (by decide) (by omega) (by omega) (fun h1 => ?_) (fun h1 => ?_)
      · exact absurd h1 (by omega)
      refine cb_aload_n C hl dX1_forget_9 rfl ?_
      refine cb_mg_19 C hw dX1_forget_10 ?_
      refine cb_iload_n C hl dX1_forget_13 rfl ?_
      refine cb_iload_n C hl dX1_forget_14 rfl ?_
      refine cb_if_ne C 22 dX1_forget_15 (by decide) (by omega) (fun h2 => ?_) (fun h2 => ?_)
      · refine cb_iconst C 0 dX1_forget_22 rfl ?_
        refine cb_mbast C hw dX1_forget_23 (by omega) (by decide) (fun H locs hw => ?_)
        refine cb_inc1 C hl dX1_forget_24 rfl (by decide) (fun ls (hl : cb_L ls 2 [_, _]) => ?_)
        refine cb_goto C 2 dX1_forget_27 (by decide) ?_
        refine ih (x + 1) (by omega) H locs ls (hw.eq ?_) hl
        show _ = cb_up (fo_f σ x) 4 x (if x = 0 then 1 else 0)
        rw [if_neg h2]
      · refine cb_iconst C 1 dX1_forget_18 rfl ?_
        refine cb_goto C 23 dX1_forget_19 (by decide) ?_
        refine cb_mbast C hw dX1_forget_23 (by omega) (by decide) (fun H locs hw => ?_)
        refine cb_inc1 C hl dX1_forget_24 rfl (by decide) (fun ls (hl : cb_L ls 2 [_, _]) => ?_)
        refine cb_goto C 2 dX1_forget_27 (by decide) ?_
        refine ih (x + 1) (by omega) H locs ls (hw.eq ?_) hl
        show _ = cb_up (fo_f σ x) 4 x (if x = 0 then 1 else 0)
        rw [if_pos h2]
  exact L2 4096 0 rfl _ _ ls hw hl
theorem mm_lightest (l : Launch) (D : va_G) (cI cZ : ClassId) (h : Nat) (a : Nat → Nat) (σ : cb_S) (hW : mo_W σ) (hZ : mo_Z σ) : cb_C l yX1_lightest cX1_lightest 4 (some .int) 1 0 D cI cZ (cb_WM h a cI cZ) [.ref h] σ (some (lt_r σ)) σ := by
  refine cb_ofI (by decide) rfl (Nat.le_of_ble_eq_true rfl) ?_
  intro p e_ s m args below meth c A Q C hw ret ls hl
  have hl : cb_L ls 4 [_, _, _, _] := hl
  refine cb_iconst C 4294967295 dX1_lightest_0 rfl ?_
  refine cb_istore_n C hl dX1_lightest_1 (by decide) (fun ls (hl : cb_L ls 4 [_, _, _, _]) => ?_)
  refine cb_iconst C 0 dX1_lightest_2 rfl ?_
  refine cb_istore_n C hl dX1_lightest_3 (by decide) (fun ls (hl : cb_L ls 4 [_, _, _, _]) => ?_)
  have L4 : ∀ (k x : Nat), x + k = 4096 → ∀ (H : Heap) (locs : List Loc) (ls : Array Slot) (o3 : Option Value), cb_W D cI cZ (cb_WM h a cI cZ) A s σ H locs → cb_L ls 4 [some (.ref h), some (.int (nI (lt_f (σ 5) (σ 4) x))), some (.int (nI x)), o3] → W p l e_ (cb_R 1 0) s m args below meth c H locs 0 0 Q (F0 m 4 ls []) := by
    intro k
    induction k with
    | zero =>
      intro x hx H locs ls o3 hw hl
      obtain rfl : x = 4096 := by omega
      refine cb_iload_n C hl dX1_lightest_4 rfl ?_
      refine cb_sipush C 4096 dX1_lightest_5 rfl ?_
      refine cb_icmp_ge C 66 dX1_lightest_8 (by decide) (by omega) (by omega) (fun h1 => ?_) (fun h1 => ?_)
      · refine cb_iload_n C hl dX1_lightest_66 rfl ?_
        exact ret _ _ _ _ hw dX1_lightest_67
      · exact absurd h1 (by omega)
    | succ k ih =>
      intro x hx H locs ls o3 hw hl
      have g1 := hW x (by omega)
      have g2 := hZ x (by omega)
      have g3 := lt_f_spec (σ 5) (σ 4) x (by omega)
      have J34 : ∀ (r : Nat), r = (if σ 5 x < 2147483648 ∧ σ 4 x = 0 then 1 else 0) → W p l e_ (cb_R 1 0) s m args below meth c H locs 0 0 Q (F0 m 34 ls [.int (nI r)]) := by
        intro r hr
        have hr1 : r ≤ 1 := by rw [hr]; split <;> omega
        refine cb_istore_n C hl dX1_lightest_34 (by decide) (fun ls (hl : cb_L ls 4 [_, _, _, _]) => ?_)
        refine cb_iload_n C hl dX1_lightest_35 rfl ?_
        have B60 : lt_f (σ 5) (σ 4) (x + 1) = lt_f (σ 5) (σ 4) x → W p l e_ (cb_R 1 0) s m args below meth c H locs 0 0 Q (F0 m 60 ls []) := by
          intro q
          refine cb_inc1 C hl dX1_lightest_60 rfl (by decide) (fun ls (hl : cb_L ls 4 [_, _, _, _]) => ?_)
          refine cb_goto C 4 dX1_lightest_63 (by decide) ?_
          exact ih (x + 1) (by omega) H locs ls _ hw (by rw [q]; exact hl)
        have B58 : lt_f (σ 5) (σ 4) (x + 1) = x → W p l e_ (cb_R 1 0) s m args below meth c H locs 0 0 Q (F0 m 58 ls []) := by
          intro q
          refine cb_iload_n C hl dX1_lightest_58 rfl ?_
          refine cb_istore_n C hl dX1_lightest_59 (by decide) (fun ls (hl : cb_L ls 4 [_, _, _, _]) => ?_)
          refine cb_inc1 C hl dX1_lightest_60 rfl (by decide) (fun ls (hl : cb_L ls 4 [_, _, _, _]) => ?_)
          refine cb_goto C 4 dX1_lightest_63 (by decide) ?_
          exact ih (x + 1) (by omega) H locs ls _ hw (by rw [q]; exact hl)
        by_cases hcond : σ 5 x < 2147483648 ∧ σ 4 x = 0
        · rw [if_pos hcond] at hr
          refine cb_if_eq C 60 dX1_lightest_36 (by decide) (by omega) (fun h2 => ?_) (fun h2 => ?_)
          · exact absurd h2 (by omega)
          refine cb_iload_n C hl dX1_lightest_39 rfl ?_
          refine cb_if_lt C 58 dX1_lightest_40 (by decide) (by omega) (fun h3 => ?_) (fun h3 => ?_)
          · exact B58 (by show (if _ then _ else _) = _; rw [if_pos ⟨hcond, by omega⟩])
          have g4 : σ 5 (lt_f (σ 5) (σ 4) x) < 2147483648 := by
            rcases g3 with q | q
            · omega
            · exact q.2.1
          refine cb_aload_n C hl dX1_lightest_43 rfl ?_
          refine cb_mg_23 C hw dX1_lightest_44 ?_
          refine cb_iload_n C hl dX1_lightest_47 rfl ?_
          refine cb_miald C hw dX1_lightest_48 rfl (by omega) ?_
          refine cb_aload_n C hl dX1_lightest_49 rfl ?_
          refine cb_mg_23 C hw dX1_lightest_50 ?_
          refine cb_iload_n C hl dX1_lightest_53 rfl ?_
          refine cb_miald C hw dX1_lightest_54 rfl (by omega) ?_
          refine cb_icmp_ge C 60 dX1_lightest_55 (by decide) (by omega) (by omega) (fun h4 => ?_) (fun h4 => ?_)
          · exact B60 (by show (if _ then _ else _) = _; rw [if_neg (by omega)])
          · exact B58 (by show (if _ then _ else _) = _; rw [if_pos ⟨hcond, Or.inr h4⟩])
        · rw [if_neg hcond] at hr
          refine cb_if_eq C 60 dX1_lightest_36 (by decide) (by omega) (fun h2 => ?_) (fun h2 => ?_)
          · exact B60 (by show (if _ then _ else _) = _; rw [if_neg (fun q => hcond q.1)])
          · exact absurd hr h2
      refine cb_iload_n C hl dX1_lightest_4 rfl ?_
      refine cb_sipush C 4096 dX1_lightest_5 rfl ?_
      refine cb_icmp_ge C 66 dX1_lightest_8 (by decide) (by omega) (by omega) (fun h1 => ?_) (fun h1 => ?_)
      · exact absurd h1 (by omega)
      refine cb_aload_n C hl dX1_lightest_11 rfl ?_
      refine cb_mg_23 C hw dX1_lightest_12 ?_
      refine cb_iload_n C hl dX1_lightest_15 rfl ?_
      refine cb_miald C hw dX1_lightest_16 rfl (by omega) ?_
      refine cb_if_lt C 33 dX1_lightest_17 (by decide) (by omega) (fun h2 => ?_) (fun h2 => ?_)
      · refine cb_iconst C 0 dX1_lightest_33 rfl ?_
        exact J34 0 (by rw [if_neg (by omega)])
      refine cb_aload_n C hl dX1_lightest_20 rfl ?_
      refine cb_mg_19 C hw dX1_lightest_21 ?_
      refine cb_iload_n C hl dX1_lightest_24 rfl ?_
      refine cb_mbald C hw dX1_lightest_25 (by omega) ?_
      refine cb_if_ne C 33 dX1_lightest_26 (by decide) (by omega) (fun h3 => ?_) (fun h3 => ?_)
      · refine cb_iconst C 0 dX1_lightest_33 rfl ?_
        exact J34 0 (by rw [if_neg (by omega)])
      · refine cb_iconst C 1 dX1_lightest_29 rfl ?_
        refine cb_goto C 34 dX1_lightest_30 (by decide) ?_
        exact J34 1 (by rw [if_pos (by omega)])
  exact L4 4096 0 rfl _ _ ls _ hw hl
theorem mm_take (l : Launch) (D : va_G) (cI cZ : ClassId) (h : Nat) (a : Nat → Nat) (σ : cb_S) (hZ : mo_Z σ) {t : Nat} (ht : t < 4096) : cb_C l yX1_take cX1_take 3 none 1 0 D cI cZ (cb_WM h a cI cZ) [.ref h, .int (nI t)] σ none (tk_S σ t) := by
  refine cb_ofV (by decide) rfl (Nat.le_of_ble_eq_true rfl) ?_
  intro p e_ s m args below meth c A Q C hw ret ls hl
  have hl : cb_L ls 3 [_, _, _] := hl
  refine cb_iconst C 0 dX1_take_0 rfl ?_
  refine cb_istore_n C hl dX1_take_1 (by decide) (fun ls (hl : cb_L ls 3 [_, _, _]) => ?_)
  have L2 : ∀ (k x : Nat), x + k = 4096 → ∀ (H : Heap) (locs : List Loc) (ls : Array Slot), cb_W D cI cZ (cb_WM h a cI cZ) A s (tk_f σ t x) H locs → cb_L ls 3 [some (.ref h), some (.int (nI t)), some (.int (nI x))] → W p l e_ (cb_R 1 0) s m args below meth c H locs 0 0 Q (F0 m 2 ls []) := by
    intro k
    induction k with
    | zero =>
      intro x hx H locs ls hw hl
      obtain rfl : x = 4096 := by omega
      refine cb_iload_n C hl dX1_take_2 rfl ?_
      refine cb_sipush C 4096 dX1_take_3 rfl ?_
      refine cb_icmp_ge C 44 dX1_take_6 (by decide) (by omega) (by omega) (fun h1 => ?_) (fun h1 => ?_)
      · exact ret _ _ _ _ hw dX1_take_44
      · exact absurd h1 (by omega)
    | succ k ih =>
      intro x hx H locs ls hw hl
      have gZ := tk_f_Z hZ t x
      have g1 := gZ x (by omega)
      have gx : x ^^^ t < 4096 := xor_12 (by omega) ht
      have g2 := gZ (x ^^^ t) gx
      refine cb_iload_n C hl dX1_take_2 rfl ?_
      refine cb_sipush C 4096 dX1_take_3 rfl ?_
      refine cb_icmp_ge C 44 dX1_take_6 (by decide) (by omega) (by omega) (fun h1 => ?_) (fun h1 => ?_)
      · exact absurd h1 (by omega)
      refine cb_aload_n C hl dX1_take_9 rfl ?_
      refine cb_mg_19 C hw dX1_take_10 ?_
      refine cb_iload_n C hl dX1_take_13 rfl ?_
      refine cb_mbald C hw dX1_take_14 (by omega) ?_
      refine cb_if_eq C 38 dX1_take_15 (by decide) (by omega) (fun h2 => ?_) (fun h2 => ?_)
      · refine cb_inc1 C hl dX1_take_38 rfl (by decide) (fun ls (hl : cb_L ls 3 [_, _, _]) => ?_)
        refine cb_goto C 2 dX1_take_41 (by decide) ?_
        refine ih (x + 1) (by omega) H locs ls (hw.eq ?_) hl
        show _ = (if _ then _ else _)
        rw [if_neg (fun q => q.1 h2)]
      refine cb_aload_n C hl dX1_take_18 rfl ?_
      refine cb_mg_19 C hw dX1_take_19 ?_
      refine cb_iload_n C hl dX1_take_22 rfl ?_
      refine cb_iload_n C hl dX1_take_23 rfl ?_
      refine cb_ixor C dX1_take_24 ?_
      refine cb_mbald C hw dX1_take_25 (by omega) ?_
      refine cb_if_ne C 38 dX1_take_26 (by decide) (by omega) (fun h3 => ?_) (fun h3 => ?_)
      · refine cb_inc1 C hl dX1_take_38 rfl (by decide) (fun ls (hl : cb_L ls 3 [_, _, _]) => ?_)
        refine cb_goto C 2 dX1_take_41 (by decide) ?_
        refine ih (x + 1) (by omega) H locs ls (hw.eq ?_) hl
        show _ = (if _ then _ else _)
        rw [if_neg (fun q => h3 q.2)]
      · refine cb_aload_n C hl dX1_take_29 rfl ?_
        refine cb_mg_19 C hw dX1_take_30 ?_
        refine cb_iload_n C hl dX1_take_33 rfl ?_
        refine cb_iload_n C hl dX1_take_34 rfl ?_
        refine cb_ixor C dX1_take_35 ?_
        refine cb_iconst C 1 dX1_take_36 rfl ?_
        refine cb_mbast C hw dX1_take_37 (by omega) (by decide) (fun H locs hw => ?_)
        refine cb_inc1 C hl dX1_take_38 rfl (by decide) (fun ls (hl : cb_L ls 3 [_, _, _]) => ?_)
        refine cb_goto C 2 dX1_take_41 (by decide) ?_
        refine ih (x + 1) (by omega) H locs ls (hw.eq ?_) hl
        show _ = (if _ then _ else _)
        rw [if_pos ⟨h2, h3⟩]
  exact L2 4096 0 rfl _ _ ls hw hl
theorem mm_rank (l : Launch) (D : va_G) (cI cZ : ClassId) (h : Nat) (a : Nat → Nat) (σ : cb_S) (hW : mo_W σ) : cb_C l yX1_rank cX1_rank 3 (some .int) 1 0 D cI cZ (cb_WM h a cI cZ) [.ref h] σ (some (rk_r σ)) σ := by
  refine cb_ofI (by decide) rfl (Nat.le_of_ble_eq_true rfl) ?_
  intro p e_ s m args below meth c A Q C hw ret ls hl
  have hl : cb_L ls 3 [_, _, _] := hl
  have g0 := rk_n_le (σ 5) 4095
  have L31 : ∀ (k r : Nat), r + k = 12 → rk_l (rk_n (σ 5) 4095) k r = rk_r σ → ∀ (H : Heap) (locs : List Loc) (ls : Array Slot), cb_W D cI cZ (cb_WM h a cI cZ) A s σ H locs → cb_L ls 3 [some (.ref h), some (.int (nI (rk_n (σ 5) 4095))), some (.int (nI r))] → W p l e_ (cb_R 1 0) s m args below meth c H locs 0 0 Q (F0 m 31 ls []) := by
    intro k
    induction k with
    | zero =>
      intro r hr hT H locs ls hw hl
      refine cb_iload_n C hl dX1_rank_31 rfl ?_
      refine cb_bipush C 12 dX1_rank_32 rfl ?_
      refine cb_icmp_ge C 52 dX1_rank_34 (by decide) (by omega) (by omega) (fun h1 => ?_) (fun h1 => ?_)
      · refine cb_iload_n C hl dX1_rank_52 rfl ?_
        exact cb_top (by rw [← hT]; rfl) (ret _ _ _ _ hw dX1_rank_53)
      · exact absurd h1 (by omega)
    | succ k ih =>
      intro r hr hT H locs ls hw hl
      have gp : 2 ^ r ≤ 4096 := pw_12 (by omega)
      refine cb_iload_n C hl dX1_rank_31 rfl ?_
      refine cb_bipush C 12 dX1_rank_32 rfl ?_
      refine cb_icmp_ge C 52 dX1_rank_34 (by decide) (by omega) (by omega) (fun h1 => ?_) (fun h1 => ?_)
      · exact absurd h1 (by omega)
      refine cb_iconst C 1 dX1_rank_37 rfl ?_
      refine cb_iload_n C hl dX1_rank_38 rfl ?_
      refine cb_ishl C dX1_rank_39 (by omega) ?_
      refine cb_iload_n C hl dX1_rank_40 rfl ?_
      refine cb_iconst C 1 dX1_rank_41 rfl ?_
      refine cb_iadd C dX1_rank_42 ?_
      refine cb_icmp_ge C 52 dX1_rank_43 (by decide) (by omega) (by omega) (fun h2 => ?_) (fun h2 => ?_)
      · refine cb_iload_n C hl dX1_rank_52 rfl ?_
        refine cb_top ?_ (ret _ _ _ _ hw dX1_rank_53)
        rw [← hT]
        show _ = (if _ then _ else _)
        rw [if_neg (by omega)]
      · refine cb_inc1 C hl dX1_rank_46 rfl (by decide) (fun ls (hl : cb_L ls 3 [_, _, _]) => ?_)
        refine cb_goto C 31 dX1_rank_49 (by decide) ?_
        refine ih (r + 1) (by omega) ?_ H locs ls hw hl
        rw [← hT]
        show _ = (if _ then _ else _)
        rw [if_pos h2]
  refine cb_iconst C 0 dX1_rank_0 rfl ?_
  refine cb_istore_n C hl dX1_rank_1 (by decide) (fun ls (hl : cb_L ls 3 [_, _, _]) => ?_)
  refine cb_iconst C 1 dX1_rank_2 rfl ?_
  refine cb_istore_n C hl dX1_rank_3 (by decide) (fun ls (hl : cb_L ls 3 [_, _, _]) => ?_)
  have L4 : ∀ (k x : Nat), x + k = 4095 → ∀ (H : Heap) (locs : List Loc) (ls : Array Slot), cb_W D cI cZ (cb_WM h a cI cZ) A s σ H locs → cb_L ls 3 [some (.ref h), some (.int (nI (rk_n (σ 5) x))), some (.int (nI (x + 1)))] → W p l e_ (cb_R 1 0) s m args below meth c H locs 0 0 Q (F0 m 4 ls []) := by
    intro k
    induction k with
    | zero =>
      intro x hx H locs ls hw hl
      obtain rfl : x = 4095 := by omega
      refine cb_iload_n C hl dX1_rank_4 rfl ?_
      refine cb_sipush C 4096 dX1_rank_5 rfl ?_
      refine cb_icmp_ge C 29 dX1_rank_8 (by decide) (by omega) (by omega) (fun h1 => ?_) (fun h1 => ?_)
      · refine cb_iconst C 0 dX1_rank_29 rfl ?_
        refine cb_istore_n C hl dX1_rank_30 (by decide) (fun ls (hl : cb_L ls 3 [_, _, _]) => ?_)
        exact L31 12 0 rfl rfl H locs ls hw hl
      · exact absurd h1 (by omega)
    | succ k ih =>
      intro x hx H locs ls hw hl
      have g1 := hW (x + 1) (by omega)
      refine cb_iload_n C hl dX1_rank_4 rfl ?_
      refine cb_sipush C 4096 dX1_rank_5 rfl ?_
      refine cb_icmp_ge C 29 dX1_rank_8 (by decide) (by omega) (by omega) (fun h1 => ?_) (fun h1 => ?_)
      · exact absurd h1 (by omega)
      refine cb_aload_n C hl dX1_rank_11 rfl ?_
      refine cb_mg_23 C hw dX1_rank_12 ?_
      refine cb_iload_n C hl dX1_rank_15 rfl ?_
      refine cb_miald C hw dX1_rank_16 rfl (by omega) ?_
      refine cb_if_lt C 23 dX1_rank_17 (by decide) (by omega) (fun h2 => ?_) (fun h2 => ?_)
      · refine cb_inc1 C hl dX1_rank_23 rfl (by decide) (fun ls (hl : cb_L ls 3 [_, _, _]) => ?_)
        refine cb_goto C 4 dX1_rank_26 (by decide) ?_
        refine ih (x + 1) (by omega) H locs ls hw ?_
        rw [show rk_n (σ 5) (x + 1) = rk_n (σ 5) x by (show (if _ then _ else _) = _); rw [if_neg (by omega)]]
        exact hl
      · refine cb_inc1 C hl dX1_rank_20 rfl (by decide) (fun ls (hl : cb_L ls 3 [_, _, _]) => ?_)
        refine cb_inc1 C hl dX1_rank_23 rfl (by decide) (fun ls (hl : cb_L ls 3 [_, _, _]) => ?_)
        refine cb_goto C 4 dX1_rank_26 (by decide) ?_
        refine ih (x + 1) (by omega) H locs ls hw ?_
        rw [show rk_n (σ 5) (x + 1) = rk_n (σ 5) x + 1 by (show (if _ then _ else _) = _); rw [if_pos (by omega)]]
        exact hl
  exact L4 4095 0 rfl _ _ ls hw hl
theorem mm_total (l : Launch) (D : va_G) (cI cZ : ClassId) (h : Nat) (a : Nat → Nat) (σ : cb_S) (hW : mo_W σ) : cb_C l yX1_total cX1_total 4 (some .int) 2 23 D cI cZ (cb_WM h a cI cZ) [.ref h] σ (some (mt_p σ).2) (mt_p σ).1 := by
  refine cb_ofI (by decide) rfl (Nat.le_of_ble_eq_true rfl) ?_
  intro p e_ s m args below meth c A Q C hw ret ls hl
  have hl : cb_L ls 4 [_, _, _, _] := hl
  refine cb_iconst C 0 dX1_total_0 rfl ?_
  refine cb_istore_n C hl dX1_total_1 (by decide) (fun ls (hl : cb_L ls 4 [_, _, _, _]) => ?_)
  refine cb_aload_n C hl dX1_total_2 rfl ?_
  refine cb_callVV C hw (mm_forget l D cI cZ h a σ) (cwX1_X1_forget C.2.2.2.2 ⟨by decide, by decide⟩) (cb_reM hw) rfl hl.1 rfl (Nat.le_of_ble_eq_true rfl) ⟨Nat.zero_le _, Nat.zero_le _⟩ dX1_total_3 (fun H locs hw => ?_)
  refine cb_iconst C 0 dX1_total_6 rfl ?_
  refine cb_istore_n C hl dX1_total_7 (by decide) (fun ls (hl : cb_L ls 4 [_, _, _, _]) => ?_)
  have L8 : ∀ (k i sum : Nat) (t : cb_S), i + k = 12 → mo_W t → mo_Z t → mt_f k t sum = mt_p σ → ∀ (H : Heap) (locs : List Loc) (ls : Array Slot) (o3 : Option Value), cb_W D cI cZ (cb_WM h a cI cZ) A s t H locs → cb_L ls 4 [some (.ref h), some (.int (nI sum)), some (.int (nI i)), o3] → W p l e_ (cb_R 2 23) s m args below meth c H locs 0 0 Q (F0 m 8 ls []) := by
    intro k
    induction k with
    | zero =>
      intro i sum t hi hWt hZt hT H locs ls o3 hw hl
      refine cb_iload_n C hl dX1_total_8 rfl ?_
      refine cb_bipush C 12 dX1_total_9 rfl ?_
      refine cb_icmp_ge C 43 dX1_total_11 (by decide) (by omega) (by omega) (fun h1 => ?_) (fun h1 => ?_)
      · refine cb_iload_n C hl dX1_total_43 rfl ?_
        exact cb_top (by rw [← hT]; rfl) (ret _ _ _ _ (hw.eq (by rw [← hT]; rfl)) dX1_total_44)
      · exact absurd h1 (by omega)
    | succ k ih =>
      intro i sum t hi hWt hZt hT H locs ls o3 hw hl
      have g1 := lt_r_lt t
      refine cb_iload_n C hl dX1_total_8 rfl ?_
      refine cb_bipush C 12 dX1_total_9 rfl ?_
      refine cb_icmp_ge C 43 dX1_total_11 (by decide) (by omega) (by omega) (fun h1 => ?_) (fun h1 => ?_)
      · exact absurd h1 (by omega)
      refine cb_aload_n C hl dX1_total_14 rfl ?_
      refine cb_callVI C hw (mm_lightest l D cI cZ h a t hWt hZt) (cwX1_X1_lightest C.2.2.2.2 ⟨by decide, by decide⟩) (cb_reM hw) rfl hl.1 rfl (Nat.le_of_ble_eq_true rfl) ⟨Nat.zero_le _, Nat.zero_le _⟩ dX1_total_15 (fun H locs hw => ?_)
      refine cb_istore_n C hl dX1_total_18 (by decide) (fun ls (hl : cb_L ls 4 [_, _, _, _]) => ?_)
      refine cb_iload_n C hl dX1_total_19 rfl ?_
      refine cb_if_lt C 37 dX1_total_20 (by decide) (by omega) (fun h2 => ?_) (fun h2 => ?_)
      · refine cb_inc1 C hl dX1_total_37 rfl (by decide) (fun ls (hl : cb_L ls 4 [_, _, _, _]) => ?_)
        refine cb_goto C 8 dX1_total_40 (by decide) ?_
        refine ih (i + 1) sum t (by omega) hWt hZt ?_ H locs ls _ hw hl
        rw [← hT]
        show _ = (if _ then _ else _)
        rw [if_pos (by omega)]
      · refine cb_iload_n C hl dX1_total_23 rfl ?_
        refine cb_aload_n C hl dX1_total_24 rfl ?_
        refine cb_mg_23 C hw dX1_total_25 ?_
        refine cb_iload_n C hl dX1_total_28 rfl ?_
        refine cb_miald C hw dX1_total_29 rfl (by omega) ?_
        refine cb_iadd C dX1_total_30 ?_
        refine cb_istore_n C hl dX1_total_31 (by decide) (fun ls (hl : cb_L ls 4 [_, _, _, _]) => ?_)
        refine cb_aload_n C hl dX1_total_32 rfl ?_
        refine cb_iload_n C hl dX1_total_33 rfl ?_
        refine cb_callVV C hw (mm_take l D cI cZ h a t hZt (by omega : lt_r t < 4096)) (cwX1_X1_take C.2.2.2.2 ⟨by decide, by decide⟩) (cb_reM hw) rfl hl.1 rfl (Nat.le_of_ble_eq_true rfl) ⟨Nat.zero_le _, Nat.zero_le _⟩ dX1_total_34 (fun H locs hw => ?_)
        refine cb_inc1 C hl dX1_total_37 rfl (by decide) (fun ls (hl : cb_L ls 4 [_, _, _, _]) => ?_)
        refine cb_goto C 8 dX1_total_40 (by decide) ?_
        refine ih (i + 1) _ _ (by omega) ?_ (tk_S_Z hZt _) ?_ H locs ls _ hw hl
        · intro x hx; rw [tk_S_k _ _ (by decide)]; exact hWt x hx
        · rw [← hT]
          show _ = (if _ then _ else _)
          rw [if_neg (by omega)]
  exact L8 12 0 0 _ rfl (fun x hx => by rw [fo_S_k _ (by decide)]; exact hW x hx) (fo_S_Z σ) rfl _ _ ls _ hw hl
theorem mm_part (l : Launch) (D : va_G) (cI cZ : ClassId) (h : Nat) (a : Nat → Nat) (σ : cb_S) (hW : mo_W σ) {j : Nat} (hj : j < 4294967296) : cb_C l yX1_part cX1_part 4 (some .int) 2 23 D cI cZ (cb_WM h a cI cZ) [.ref h, .int (nI j)] σ (some (mp_p σ j).2) (mp_p σ j).1 := by
  refine cb_ofI (by decide) rfl (Nat.le_of_ble_eq_true rfl) ?_
  intro p e_ s m args below meth c A Q C hw ret ls hl
  have hl : cb_L ls 4 [_, _, _, _] := hl
  refine cb_aload_n C hl dX1_part_0 rfl ?_
  refine cb_callVV C hw (mm_forget l D cI cZ h a σ) (cwX1_X1_forget C.2.2.2.2 ⟨by decide, by decide⟩) (cb_reM hw) rfl hl.1 rfl (Nat.le_of_ble_eq_true rfl) ⟨Nat.zero_le _, Nat.zero_le _⟩ dX1_part_1 (fun H locs hw => ?_)
  refine cb_iconst C 0 dX1_part_4 rfl ?_
  refine cb_istore_n C hl dX1_part_5 (by decide) (fun ls (hl : cb_L ls 4 [_, _, _, _]) => ?_)
  have L6 : ∀ (k i : Nat) (t : cb_S), i + k = 12 → mo_W t → mo_Z t → mp_f j k i t = mp_p σ j → ∀ (H : Heap) (locs : List Loc) (ls : Array Slot) (o3 : Option Value), cb_W D cI cZ (cb_WM h a cI cZ) A s t H locs → cb_L ls 4 [some (.ref h), some (.int (nI j)), some (.int (nI i)), o3] → W p l e_ (cb_R 2 23) s m args below meth c H locs 0 0 Q (F0 m 6 ls []) := by
    intro k
    induction k with
    | zero =>
      intro i t hi hWt hZt hT H locs ls o3 hw hl
      refine cb_iload_n C hl dX1_part_6 rfl ?_
      refine cb_bipush C 12 dX1_part_7 rfl ?_
      refine cb_icmp_ge C 47 dX1_part_9 (by decide) (by omega) (by omega) (fun h1 => ?_) (fun h1 => ?_)
      · refine cb_bipush C 4294967291 dX1_part_47 rfl ?_
        exact cb_top (by rw [← hT]; rfl) (ret _ _ _ _ (hw.eq (by rw [← hT]; rfl)) dX1_part_49)
      · exact absurd h1 (by omega)
    | succ k ih =>
      intro i t hi hWt hZt hT H locs ls o3 hw hl
      have g1 := lt_r_lt t
      refine cb_iload_n C hl dX1_part_6 rfl ?_
      refine cb_bipush C 12 dX1_part_7 rfl ?_
      refine cb_icmp_ge C 47 dX1_part_9 (by decide) (by omega) (by omega) (fun h1 => ?_) (fun h1 => ?_)
      · exact absurd h1 (by omega)
      refine cb_aload_n C hl dX1_part_12 rfl ?_
      refine cb_callVI C hw (mm_lightest l D cI cZ h a t hWt hZt) (cwX1_X1_lightest C.2.2.2.2 ⟨by decide, by decide⟩) (cb_reM hw) rfl hl.1 rfl (Nat.le_of_ble_eq_true rfl) ⟨Nat.zero_le _, Nat.zero_le _⟩ dX1_part_13 (fun H locs hw => ?_)
      refine cb_istore_n C hl dX1_part_16 (by decide) (fun ls (hl : cb_L ls 4 [_, _, _, _]) => ?_)
      refine cb_iload_n C hl dX1_part_17 rfl ?_
      refine cb_if_ge C 24 dX1_part_18 (by decide) (by omega) (fun h2 => ?_) (fun h2 => ?_)
      · refine cb_iload_n C hl dX1_part_24 rfl ?_
        refine cb_iload_n C hl dX1_part_25 rfl ?_
        refine cb_icmp_ne C 36 dX1_part_26 (by decide) (by omega) (by omega) (fun h3 => ?_) (fun h3 => ?_)
        · refine cb_aload_n C hl dX1_part_36 rfl ?_
          refine cb_iload_n C hl dX1_part_37 rfl ?_
          refine cb_callVV C hw (mm_take l D cI cZ h a t hZt (by omega : lt_r t < 4096)) (cwX1_X1_take C.2.2.2.2 ⟨by decide, by decide⟩) (cb_reM hw) rfl hl.1 rfl (Nat.le_of_ble_eq_true rfl) ⟨Nat.zero_le _, Nat.zero_le _⟩ dX1_part_38 (fun H locs hw => ?_)
          refine cb_inc1 C hl dX1_part_41 rfl (by decide) (fun ls (hl : cb_L ls 4 [_, _, _, _]) => ?_)
          refine cb_goto C 6 dX1_part_44 (by decide) ?_
          refine ih (i + 1) _ (by omega) ?_ (tk_S_Z hZt _) ?_ H locs ls _ hw hl
          · intro x hx; rw [tk_S_k _ _ (by decide)]; exact hWt x hx
          · rw [← hT]
            show _ = (if _ then _ else (if _ then _ else _))
            rw [if_neg (by omega), if_neg h3]
        · have hT2 : mp_p σ j = (t, t 5 (lt_r t)) := by
            rw [← hT]
            show (if _ then _ else (if _ then _ else _)) = _
            rw [if_neg (by omega), if_pos h3]
          refine cb_aload_n C hl dX1_part_29 rfl ?_
          refine cb_mg_23 C hw dX1_part_30 ?_
          refine cb_iload_n C hl dX1_part_33 rfl ?_
          refine cb_miald C hw dX1_part_34 rfl (by omega) ?_
          exact cb_top (by rw [hT2]) (ret _ _ _ _ (hw.eq (by rw [hT2])) dX1_part_35)
      · have hT2 : mp_p σ j = (t, 4294967291) := by
          rw [← hT]
          show (if _ then _ else _) = _
          rw [if_pos (by omega)]
        refine cb_bipush C 4294967291 dX1_part_21 rfl ?_
        exact cb_top (by rw [hT2]) (ret _ _ _ _ (hw.eq (by rw [hT2])) dX1_part_23)
  exact L6 12 0 _ rfl (fun x hx => by rw [fo_S_k _ (by decide)]; exact hW x hx) (fo_S_Z σ) rfl _ _ ls _ hw hl
theorem mm_through (l : Launch) (D : va_G) (cI cZ : ClassId) (h : Nat) (a : Nat → Nat) (σ : cb_S) (hc : σ 3 0 ≤ 12) (hW : mo_W σ) {k : Nat} (hk : k < 4294967296) : cb_C l yX1_through cX1_through 5 (some .int) 2 21 D cI cZ (cb_WM h a cI cZ) [.ref h, .int (nI k)] σ (some (mh_r σ k)) σ := by
  refine cb_ofI (by decide) rfl (Nat.le_of_ble_eq_true rfl) ?_
  intro p e_ s m args below meth c A Q C hw ret ls hl
  have hl : cb_L ls 5 [_, _, _, _, _] := hl
  refine cb_aload_n C hl dX1_through_0 rfl ?_
  refine cb_iload_n C hl dX1_through_1 rfl ?_
  refine cb_callVI C hw (mm_isEdge l D cI cZ h a σ hc hk) (cwX1_X1_isEdge C.2.2.2.2 ⟨by decide, by decide⟩) (cb_reM hw) rfl hl.1 rfl (Nat.le_of_ble_eq_true rfl) ⟨Nat.zero_le _, Nat.zero_le _⟩ dX1_through_2 (fun H locs hw => ?_)
  by_cases h1 : k < σ 3 0
  · rw [if_pos h1]
    refine cb_if_ne C 11 dX1_through_5 (by decide) (by omega) (fun h2 => ?_) (fun h2 => ?_)
    · refine cb_bipush C 4294967291 dX1_through_11 rfl ?_
      refine cb_istore_n C hl dX1_through_13 (by decide) (fun ls (hl : cb_L ls 5 [_, _, _, _, _]) => ?_)
      refine cb_iconst C 1 dX1_through_14 rfl ?_
      refine cb_istore_n C hl dX1_through_15 (by decide) (fun ls (hl : cb_L ls 5 [_, _, _, _, _]) => ?_)
      have L16 : ∀ (j x : Nat), x + j = 4095 → ∀ (H : Heap) (locs : List Loc) (ls : Array Slot) (o4 : Option Value), cb_W D cI cZ (cb_WM h a cI cZ) A s σ H locs → cb_L ls 5 [some (.ref h), some (.int (nI k)), some (.int (nI (mh_f (σ 5) k x))), some (.int (nI (x + 1))), o4] → W p l e_ (cb_R 2 21) s m args below meth c H locs 0 0 Q (F0 m 16 ls []) := by
        intro j
        induction j with
        | zero =>
          intro x hx H locs ls o4 hw hl
          obtain rfl : x = 4095 := by omega
          refine cb_iload_n C hl dX1_through_16 rfl ?_
          refine cb_sipush C 4096 dX1_through_17 rfl ?_
          refine cb_icmp_ge C 63 dX1_through_20 (by decide) (by omega) (by omega) (fun h3 => ?_) (fun h3 => ?_)
          · refine cb_iload_n C hl dX1_through_63 rfl ?_
            exact cb_top (by unfold mh_r; rw [if_neg (by omega)]) (ret _ _ _ _ hw dX1_through_64)
          · exact absurd h3 (by omega)
        | succ j ih =>
          intro x hx H locs ls o4 hw hl
          have g1 := hW (x + 1) (by omega)
          have g2 := mh_f_lt (σ 5) k x
          have g3 : ((x + 1) >>> k) &&& 1 ≤ 1 := Nat.and_le_right
          refine cb_iload_n C hl dX1_through_16 rfl ?_
          refine cb_sipush C 4096 dX1_through_17 rfl ?_
          refine cb_icmp_ge C 63 dX1_through_20 (by decide) (by omega) (by omega) (fun h3 => ?_) (fun h3 => ?_)
          · exact absurd h3 (by omega)
          refine cb_aload_n C hl dX1_through_23 rfl ?_
          refine cb_mg_23 C hw dX1_through_24 ?_
          refine cb_iload_n C hl dX1_through_27 rfl ?_
          refine cb_miald C hw dX1_through_28 rfl (by omega) ?_
          refine cb_istore C hl dX1_through_29 (by decide) (fun ls (hl : cb_L ls 5 [_, _, _, _, _]) => ?_)
          have B57 : mh_f (σ 5) k (x + 1) = mh_f (σ 5) k x → W p l e_ (cb_R 2 21) s m args below meth c H locs 0 0 Q (F0 m 57 ls []) := by
            intro q
            refine cb_inc1 C hl dX1_through_57 rfl (by decide) (fun ls (hl : cb_L ls 5 [_, _, _, _, _]) => ?_)
            refine cb_goto C 16 dX1_through_60 (by decide) ?_
            exact ih (x + 1) (by omega) H locs ls _ hw (by rw [q]; exact hl)
          have B54 : mh_f (σ 5) k (x + 1) = σ 5 (x + 1) → W p l e_ (cb_R 2 21) s m args below meth c H locs 0 0 Q (F0 m 54 ls []) := by
            intro q
            refine cb_iload C hl dX1_through_54 rfl ?_
            refine cb_istore_n C hl dX1_through_56 (by decide) (fun ls (hl : cb_L ls 5 [_, _, _, _, _]) => ?_)
            refine cb_inc1 C hl dX1_through_57 rfl (by decide) (fun ls (hl : cb_L ls 5 [_, _, _, _, _]) => ?_)
            refine cb_goto C 16 dX1_through_60 (by decide) ?_
            exact ih (x + 1) (by omega) H locs ls _ hw (by rw [q]; exact hl)
          refine cb_iload_n C hl dX1_through_31 rfl ?_
          refine cb_iload_n C hl dX1_through_32 rfl ?_
          refine cb_ishr C dX1_through_33 (by omega) (by omega) ?_
          refine cb_iconst C 1 dX1_through_34 rfl ?_
          refine cb_iand C dX1_through_35 ?_
          refine cb_if_eq C 57 dX1_through_36 (by decide) (by omega) (fun h4 => ?_) (fun h4 => ?_)
          · exact B57 (by show (if _ then _ else _) = _; rw [if_neg (fun q => q.1 h4)])
          refine cb_iload C hl dX1_through_39 rfl ?_
          refine cb_if_lt C 57 dX1_through_41 (by decide) (by omega) (fun h5 => ?_) (fun h5 => ?_)
          · exact B57 (by show (if _ then _ else _) = _; rw [if_neg (by omega)])
          refine cb_iload_n C hl dX1_through_44 rfl ?_
          refine cb_if_lt C 54 dX1_through_45 (by decide) (by omega) (fun h6 => ?_) (fun h6 => ?_)
          · exact B54 (by show (if _ then _ else _) = _; rw [if_pos ⟨h4, h5, Or.inl h6⟩])
          refine cb_iload C hl dX1_through_48 rfl ?_
          refine cb_iload_n C hl dX1_through_50 rfl ?_
          refine cb_icmp_ge C 57 dX1_through_51 (by decide) (by omega) (by omega) (fun h7 => ?_) (fun h7 => ?_)
          · exact B57 (by show (if _ then _ else _) = _; rw [if_neg (by omega)])
          · exact B54 (by show (if _ then _ else _) = _; rw [if_pos ⟨h4, h5, Or.inr h7⟩])
      exact L16 4095 0 rfl _ _ ls _ hw hl
    · exact absurd h2 (by omega)
  · rw [if_neg h1]
    refine cb_if_ne C 11 dX1_through_5 (by decide) (by omega) (fun h2 => ?_) (fun h2 => ?_)
    · exact absurd rfl h2
    · refine cb_bipush C 4294967292 dX1_through_8 rfl ?_
      exact cb_top (by unfold mh_r; rw [if_pos h1]) (ret _ _ _ _ hw dX1_through_10)
theorem mm_closed (l : Launch) (D : va_G) (cI cZ : ClassId) (h : Nat) (a : Nat → Nat) (σ : cb_S) (hW : mo_W σ) {k : Nat} (hk : k < 4294967296) : cb_C l yX1_closed cX1_closed 2 (some .boolean) 1 0 D cI cZ (cb_WM h a cI cZ) [.ref h, .int (nI k)] σ (some (mc_r σ k)) σ := by
  refine cb_ofZ (by unfold mc_r; split <;> omega) (by decide) rfl (Nat.le_of_ble_eq_true rfl) ?_
  intro p e_ s m args below meth c A Q C hw ret ls hl
  have hl : cb_L ls 2 [_, _] := hl
  refine cb_iload_n C hl dX1_closed_0 rfl ?_
  refine cb_if_lt C 24 dX1_closed_1 (by decide) (by omega) (fun h1 => ?_) (fun h1 => ?_)
  · refine cb_iconst C 0 dX1_closed_24 rfl ?_
    exact cb_top (by unfold mc_r; rw [if_neg (by omega)]) (ret _ _ _ _ hw dX1_closed_25)
  refine cb_iload_n C hl dX1_closed_4 rfl ?_
  refine cb_sipush C 4096 dX1_closed_5 rfl ?_
  refine cb_icmp_ge C 24 dX1_closed_8 (by decide) (by omega) (by omega) (fun h2 => ?_) (fun h2 => ?_)
  · refine cb_iconst C 0 dX1_closed_24 rfl ?_
    exact cb_top (by unfold mc_r; rw [if_neg (by omega)]) (ret _ _ _ _ hw dX1_closed_25)
  have g1 := hW k h2
  refine cb_aload_n C hl dX1_closed_11 rfl ?_
  refine cb_mg_23 C hw dX1_closed_12 ?_
  refine cb_iload_n C hl dX1_closed_15 rfl ?_
  refine cb_miald C hw dX1_closed_16 rfl (by omega) ?_
  refine cb_if_lt C 24 dX1_closed_17 (by decide) (by omega) (fun h3 => ?_) (fun h3 => ?_)
  · refine cb_iconst C 0 dX1_closed_24 rfl ?_
    exact cb_top (by unfold mc_r; rw [if_neg (by omega)]) (ret _ _ _ _ hw dX1_closed_25)
  · refine cb_iconst C 1 dX1_closed_20 rfl ?_
    refine cb_goto C 25 dX1_closed_21 (by decide) ?_
    exact cb_top (by unfold mc_r; rw [if_pos (by omega)]) (ret _ _ _ _ hw dX1_closed_25)
theorem mm_level (l : Launch) (D : va_G) (cI cZ : ClassId) (h : Nat) (a : Nat → Nat) (σ : cb_S) (hW : mo_W σ) {mk : Nat} (hk : mk < 4294967296) : cb_C l yX1_level cX1_level 5 (some .int) 2 23 D cI cZ (cb_WM h a cI cZ) [.ref h, .int (nI mk)] σ (some (ml_p σ mk).2) (ml_p σ mk).1 := by
  refine cb_ofI (by decide) rfl (Nat.le_of_ble_eq_true rfl) ?_
  intro p e_ s m args below meth c A Q C hw ret ls hl
  have hl : cb_L ls 5 [_, _, _, _, _] := hl
  have hm1 : mc_r σ mk ≤ 1 := by unfold mc_r; split <;> omega
  refine cb_aload_n C hl dX1_level_0 rfl ?_
  refine cb_iload_n C hl dX1_level_1 rfl ?_
  refine cb_callVI C hw (mm_closed l D cI cZ h a σ hW hk) (cwX1_X1_closed C.2.2.2.2 ⟨by decide, by decide⟩) (cb_reM hw) rfl hl.1 rfl (Nat.le_of_ble_eq_true rfl) ⟨Nat.zero_le _, Nat.zero_le _⟩ dX1_level_2 (fun H locs hw => ?_)
  refine cb_if_ne C 11 dX1_level_5 (by decide) (by omega) (fun h1 => ?_) (fun h1 => ?_)
  · have hm : mk < 4096 ∧ σ 5 mk < 2147483648 := by
      unfold mc_r at h1
      by_cases q : mk < 4096 ∧ σ 5 mk < 2147483648
      · exact q
      · rw [if_neg q] at h1; exact absurd rfl h1
    refine cb_iconst C 0 dX1_level_11 rfl ?_
    refine cb_istore_n C hl dX1_level_12 (by decide) (fun ls (hl : cb_L ls 5 [_, _, _, _, _]) => ?_)
    refine cb_aload_n C hl dX1_level_13 rfl ?_
    refine cb_callVV C hw (mm_forget l D cI cZ h a σ) (cwX1_X1_forget C.2.2.2.2 ⟨by decide, by decide⟩) (cb_reM hw) rfl hl.1 rfl (Nat.le_of_ble_eq_true rfl) ⟨Nat.zero_le _, Nat.zero_le _⟩ dX1_level_14 (fun H locs hw => ?_)
    refine cb_iconst C 0 dX1_level_17 rfl ?_
    refine cb_istore_n C hl dX1_level_18 (by decide) (fun ls (hl : cb_L ls 5 [_, _, _, _, _]) => ?_)
    have L19 : ∀ (k i last : Nat) (t : cb_S), i + k = 12 → mo_W t → mo_Z t → t 5 = σ 5 → ml_f mk k t last = ml_p σ mk → ∀ (H : Heap) (locs : List Loc) (ls : Array Slot) (o4 : Option Value), cb_W D cI cZ (cb_WM h a cI cZ) A s t H locs → cb_L ls 5 [some (.ref h), some (.int (nI mk)), some (.int (nI last)), some (.int (nI i)), o4] → W p l e_ (cb_R 2 23) s m args below meth c H locs 0 0 Q (F0 m 19 ls []) := by
      intro k
      induction k with
      | zero =>
        intro i last t hi hWt hZt h5 hT H locs ls o4 hw hl
        refine cb_iload_n C hl dX1_level_19 rfl ?_
        refine cb_bipush C 12 dX1_level_20 rfl ?_
        refine cb_icmp_ge C 62 dX1_level_22 (by decide) (by omega) (by omega) (fun h2 => ?_) (fun h2 => ?_)
        · refine cb_iload_n C hl dX1_level_62 rfl ?_
          exact cb_top (by rw [← hT]; rfl) (ret _ _ _ _ (hw.eq (by rw [← hT]; rfl)) dX1_level_63)
        · exact absurd h2 (by omega)
      | succ k ih =>
        intro i last t hi hWt hZt h5 hT H locs ls o4 hw hl
        have g1 := hZt mk hm.1
        refine cb_iload_n C hl dX1_level_19 rfl ?_
        refine cb_bipush C 12 dX1_level_20 rfl ?_
        refine cb_icmp_ge C 62 dX1_level_22 (by decide) (by omega) (by omega) (fun h2 => ?_) (fun h2 => ?_)
        · exact absurd h2 (by omega)
        refine cb_aload_n C hl dX1_level_25 rfl ?_
        refine cb_mg_19 C hw dX1_level_26 ?_
        refine cb_iload_n C hl dX1_level_29 rfl ?_
        refine cb_mbald C hw dX1_level_30 (by omega) ?_
        refine cb_if_eq C 36 dX1_level_31 (by decide) (by omega) (fun h3 => ?_) (fun h3 => ?_)
        · have g2 : lt_r t < 4096 := by
            rcases lt_f_spec (t 5) (t 4) 4096 (Nat.le_refl _) with q | q
            · exact absurd ⟨by rw [h5]; exact hm.2, h3⟩ (q.2 mk hm.1)
            · exact q.1
          refine cb_aload_n C hl dX1_level_36 rfl ?_
          refine cb_callVI C hw (mm_lightest l D cI cZ h a t hWt hZt) (cwX1_X1_lightest C.2.2.2.2 ⟨by decide, by decide⟩) (cb_reM hw) rfl hl.1 rfl (Nat.le_of_ble_eq_true rfl) ⟨Nat.zero_le _, Nat.zero_le _⟩ dX1_level_37 (fun H locs hw => ?_)
          refine cb_istore C hl dX1_level_40 (by decide) (fun ls (hl : cb_L ls 5 [_, _, _, _, _]) => ?_)
          refine cb_aload_n C hl dX1_level_42 rfl ?_
          refine cb_mg_23 C hw dX1_level_43 ?_
          refine cb_iload C hl dX1_level_46 rfl ?_
          refine cb_miald C hw dX1_level_48 rfl (by omega) ?_
          refine cb_istore_n C hl dX1_level_49 (by decide) (fun ls (hl : cb_L ls 5 [_, _, _, _, _]) => ?_)
          refine cb_aload_n C hl dX1_level_50 rfl ?_
          refine cb_iload C hl dX1_level_51 rfl ?_
          refine cb_callVV C hw (mm_take l D cI cZ h a t hZt g2) (cwX1_X1_take C.2.2.2.2 ⟨by decide, by decide⟩) (cb_reM hw) rfl hl.1 rfl (Nat.le_of_ble_eq_true rfl) ⟨Nat.zero_le _, Nat.zero_le _⟩ dX1_level_53 (fun H locs hw => ?_)
          refine cb_inc1 C hl dX1_level_56 rfl (by decide) (fun ls (hl : cb_L ls 5 [_, _, _, _, _]) => ?_)
          refine cb_goto C 19 dX1_level_59 (by decide) ?_
          refine ih (i + 1) _ _ (by omega) ?_ (tk_S_Z hZt _) ?_ ?_ H locs ls _ hw hl
          · intro x hx; rw [tk_S_k _ _ (by decide)]; exact hWt x hx
          · rw [tk_S_k _ _ (by decide)]; exact h5
          · rw [← hT]
            show _ = (if _ then _ else _)
            rw [if_neg (fun q => q h3)]
        · have hT2 : ml_p σ mk = (t, last) := by
            rw [← hT]
            show (if _ then _ else _) = _
            rw [if_pos h3]
          refine cb_iload_n C hl dX1_level_34 rfl ?_
          exact cb_top (by rw [hT2]) (ret _ _ _ _ (hw.eq (by rw [hT2])) dX1_level_35)
    refine L19 12 0 0 _ rfl (fun x hx => by rw [fo_S_k _ (by decide)]; exact hW x hx) (fo_S_Z σ) (fo_S_k _ (by decide)) ?_ _ _ ls _ hw hl
    unfold ml_p
    rw [if_neg h1]
  · refine cb_bipush C 4294967291 dX1_level_8 rfl ?_
    refine cb_top ?_ (ret _ _ _ _ (hw.eq ?_) dX1_level_10)
    · unfold ml_p; rw [if_pos h1]
    · unfold ml_p; rw [if_pos h1]
theorem mm_bridges (l : Launch) (D : va_G) (cI cZ : ClassId) (h : Nat) (a : Nat → Nat) (σ : cb_S) (hc : σ 3 0 ≤ 12) (hW : mo_W σ) : cb_C l yX1_bridges cX1_bridges 3 (some .int) 3 45 D cI cZ (cb_WM h a cI cZ) [.ref h] σ (some (mb_f σ (σ 3 0))) σ := by
  refine cb_ofI (by decide) rfl (Nat.le_of_ble_eq_true rfl) ?_
  intro p e_ s m args below meth c A Q C hw ret ls hl
  have hl : cb_L ls 3 [_, _, _] := hl
  refine cb_iconst C 0 dX1_bridges_0 rfl ?_
  refine cb_istore_n C hl dX1_bridges_1 (by decide) (fun ls (hl : cb_L ls 3 [_, _, _]) => ?_)
  refine cb_iconst C 0 dX1_bridges_2 rfl ?_
  refine cb_istore_n C hl dX1_bridges_3 (by decide) (fun ls (hl : cb_L ls 3 [_, _, _]) => ?_)
  have L4 : ∀ (k e : Nat), e + k = σ 3 0 → ∀ (H : Heap) (locs : List Loc) (ls : Array Slot), cb_W D cI cZ (cb_WM h a cI cZ) A s σ H locs → cb_L ls 3 [some (.ref h), some (.int (nI (mb_f σ e))), some (.int (nI e))] → W p l e_ (cb_R 3 45) s m args below meth c H locs 0 0 Q (F0 m 4 ls []) := by
    intro k
    induction k with
    | zero =>
      intro e he H locs ls hw hl
      obtain rfl : e = σ 3 0 := by omega
      refine cb_iload_n C hl dX1_bridges_4 rfl ?_
      refine cb_aload_n C hl dX1_bridges_5 rfl ?_
      refine cb_mg_29 C hw dX1_bridges_6 ?_
      refine cb_icmp_ge C 31 dX1_bridges_9 (by decide) (by omega) (by omega) (fun h1 => ?_) (fun h1 => ?_)
      · refine cb_iload_n C hl dX1_bridges_31 rfl ?_
        exact ret _ _ _ _ hw dX1_bridges_32
      · exact absurd h1 (by omega)
    | succ k ih =>
      intro e he H locs ls hw hl
      have g1 : mh_r σ e < 4294967296 := by
        unfold mh_r
        have := mh_f_lt (σ 5) e 4095
        split <;> omega
      refine cb_iload_n C hl dX1_bridges_4 rfl ?_
      refine cb_aload_n C hl dX1_bridges_5 rfl ?_
      refine cb_mg_29 C hw dX1_bridges_6 ?_
      refine cb_icmp_ge C 31 dX1_bridges_9 (by decide) (by omega) (by omega) (fun h1 => ?_) (fun h1 => ?_)
      · exact absurd h1 (by omega)
      refine cb_aload_n C hl dX1_bridges_12 rfl ?_
      refine cb_iload_n C hl dX1_bridges_13 rfl ?_
      refine cb_callVI C hw (mm_through l D cI cZ h a σ hc hW (by omega : e < 4294967296)) (cwX1_X1_through C.2.2.2.2 ⟨by decide, by decide⟩) (cb_reM hw) rfl hl.1 rfl (Nat.le_of_ble_eq_true rfl) ⟨Nat.zero_le _, Nat.zero_le _⟩ dX1_bridges_14 (fun H locs hw => ?_)
      refine cb_bipush C 4294967291 dX1_bridges_17 rfl ?_
      refine cb_icmp_ne C 25 dX1_bridges_19 (by decide) (by omega) (by omega) (fun h2 => ?_) (fun h2 => ?_)
      · refine cb_inc1 C hl dX1_bridges_25 rfl (by decide) (fun ls (hl : cb_L ls 3 [_, _, _]) => ?_)
        refine cb_goto C 4 dX1_bridges_28 (by decide) ?_
        refine ih (e + 1) (by omega) H locs ls hw ?_
        rw [show mb_f σ (e + 1) = mb_f σ e by (show (if _ then _ else _) = _); rw [if_neg h2]]
        exact hl
      · refine cb_inc1 C hl dX1_bridges_22 rfl (by decide) (fun ls (hl : cb_L ls 3 [_, _, _]) => ?_)
        refine cb_inc1 C hl dX1_bridges_25 rfl (by decide) (fun ls (hl : cb_L ls 3 [_, _, _]) => ?_)
        refine cb_goto C 4 dX1_bridges_28 (by decide) ?_
        refine ih (e + 1) (by omega) H locs ls hw ?_
        rw [show mb_f σ (e + 1) = mb_f σ e + 1 by (show (if _ then _ else _) = _); rw [if_pos h2]]
        exact hl
  exact L4 (σ 3 0) 0 (by omega) _ _ ls hw hl
end
section
/-! the constructors -/
theorem cb_cid {s : State} {D : va_G} {tys : List (ClassId × FieldType)} (hK : va_K D vwCl tys s) {i j : Nat} {c1 c2 : ClassId} {ty : FieldType} (ht : ty = .int ∨ ty = .boolean) (h1 : tys[i]? = some (c1, ty)) (h2 : tys[j]? = some (c2, ty)) : c1 = c2 := by
  have e1 := (hK.2 i _ h1).2
  have e2 := (hK.2 j _ h2).2
  rcases ht with rfl | rfl
  · exact Option.some.inj (e1.symm.trans e2)
  · exact Option.some.inj (e1.symm.trans e2)
abbrev cb_fX0 : List Value := [.int (nI 0), .null, .null, .null, .null, .int (nI 0), .null, .int (nI 0), .null, .null, .null, .null, .null, .int (nI 0), .int (nI 0), .null]
theorem met_initX (l : Launch) (D : va_G) (h sz : Nat) : Met l yX0_init (ws_ yX0_init cX0_init 1 none) { frames := 1, cells := 11, slots := 133, locals := 12 } (va_Pc [.ref h] (fun U => U.heap.size = sz ∧ va_P D vwCl [(h, .inr (0, cb_fX0))] U.heap ∧ va_K D vwCl [] U ∧ va_D (fun _ => True) [(h, .inr (0, cb_fX0))]))
    (va_Qv (fun _ : (Nat → Nat) × ClassId × ClassId => True) (fun u t => va_P D vwCl (cb_WX h u.1 u.2.1 u.2.2 (fun _ _ => 0)) t.heap ∧ va_K D vwCl (cb_T u.2.1 u.2.2) t ∧ va_D (va_A [(h, .inr (0, cb_fX0))] sz) (cb_WX h u.1 u.2.1 u.2.2 (fun _ _ => 0))) (va_A [(h, .inr (0, cb_fX0))] sz)) 11 133 (va_A [(h, .inr (0, cb_fX0))] sz) := by
  refine Met.ofW (cc := cX0_init) (maxL := 1) (ret := none) (by decide) rfl ?_
  intro p e_ s m args below meth c s₁ B hml hv
  obtain ⟨rfl, hsz, hP, hK, hD0⟩ := hv
  have hts := atoms_spec (ws := ws_ yX0_init cX0_init 1 none) B.pre
  have hts : ∀ w ∈ lw_all, w.before _ s = true := fun w h => hts w (List.mem_cons_of_mem _ h)
  have hown : s.vm.findClass RX0 = some m.cls := findClass_of_methodNamed B.named
  have hlocks := B.notSynchronized
  have hin : meth.name = "<init>" := (name_of_methodNamed B.named B.method).1
  have C : CallFix p m c cX0_init 1 s _ lw_all RX0 := ⟨B.exec, B.bytes, hml, hown, hts⟩
  subst hsz
  have hD := hD0.self (sz := s.heap.size)
  generalize hAe : va_A [(h, .inr (0, cb_fX0))] s.heap.size = A at hD ⊢
  have hA : ∀ q : Nat, s.heap.size ≤ q → A q := fun q h => by rw [← hAe]; exact Or.inr h
  have hS : va_S A s.heap s.heap [] := va_S.rf
  have hl := (cb_L.entry [.ref h] (n := 1) (fun v hv => by rw [List.mem_singleton.mp hv]; rfl) (Nat.le_of_ble_eq_true rfl) (fun i v h => by have := cb_args [.ref _] (fun v hv => by rw [List.mem_singleton.mp hv]; rfl) 0 i v h; rwa [Nat.zero_add] at this))
  rw [lg_entry_eq]
  generalize (lg_sl ([.ref h]) ++ List.replicate (1 - (lg_sl ([.ref h])).length) Slot.unset).toArray = ls at hl ⊢
  have hl : cb_L ls 1 [some (.ref h)] := hl
  refine cb_aload_n C hl dX0_init_0 rfl ?_
  refine W.objInit C.1 C.2.1 hown (hts _ q25) (hts _ q26) (hts _ q27) rfl (by rw [hml]; exact hl.1) rfl dX0_init_1 (Nat.le_of_ble_eq_true rfl) (Nat.le_of_ble_eq_true rfl) ?_
  refine W.eq (g2 := F0 m 4 ls []) rfl ?_
  have hP : va_P D vwCl [(h, .inr (0, [.int (nI 0), .null, .null, .null, .null, .int (nI 0), .null, .int (nI 0), .null, .null, .null, .null, .null, .int (nI 0), .int (nI 0), .null]))] s.heap := hP
  have hD : va_D A [(h, .inr (0, [.int (nI 0), .null, .null, .null, .null, .int (nI 0), .null, .int (nI 0), .null, .null, .null, .null, .null, .int (nI 0), .int (nI 0), .null]))] := hD
  have hK : va_K D vwCl [] s := hK
  refine cb_aload_n C hl dX0_init_4 rfl ?_
  refine cb_bipush C 12 dX0_init_5 rfl ?_
  refine va_newa (ws := [(h, .inr (0, [.int (nI 0), .null, .null, .null, .null, .int (nI 0), .null, .int (nI 0), .null, .null, .null, .null, .null, .int (nI 0), .int (nI 0), .null]))]) (atype := .int) C.1 C.2.1 (hts _ q77) (ty := .int) rfl hK hP hD hS hA (n := nI 12) (N' := 12) (a0 := (12, .inl (fun _ => nI 0))) (fun _ => rfl) (by decide +kernel) (nI_clamp (by decide)) (by decide) (Nat.le_of_ble_eq_true rfl) (Nat.le_of_ble_eq_true rfl) dX0_init_7 (fun q_1 c1 H hK hP hD hS => ?_)
  refine W.widen (k := 1) (n := 12) (Nat.le_of_ble_eq_true rfl) (Nat.le_of_ble_eq_true rfl) ?_
  have hP : va_P D vwCl [(h, .inr (0, [.int (nI 0), .null, .null, .null, .null, .int (nI 0), .null, .int (nI 0), .null, .null, .null, .null, .null, .int (nI 0), .int (nI 0), .null])), (q_1, .inl (c1, 12, .inl (fun _ => nI 0)))] H := hP
  have hD : va_D A [(h, .inr (0, [.int (nI 0), .null, .null, .null, .null, .int (nI 0), .null, .int (nI 0), .null, .null, .null, .null, .null, .int (nI 0), .int (nI 0), .null])), (q_1, .inl (c1, 12, .inl (fun _ => nI 0)))] := hD
  have hK : va_K D vwCl [(c1, .int)] s := hK
  refine va_putF (ws := [(h, .inr (0, [.int (nI 0), .null, .null, .null, .null, .int (nI 0), .null, .int (nI 0), .null, .null, .null, .null, .null, .int (nI 0), .int (nI 0), .null])), (q_1, .inl (c1, 12, .inl (fun _ => nI 0)))]) (ci := 0) (N := 16) (C := RX0) (T := TX0) C.1 C.2.1 hts in_X0 tyX0 tyX0_ok nmX0 hown hK hP hD hS 0 rfl rfl 1 (by decide) (hts _ q29) (fun _ h => h) rfl hin rfl (ty := .array .int) (v := .ref q_1) (by decide +kernel) rfl rfl (Nat.le_of_ble_eq_true rfl) dX0_init_9 (fun H locs hP hD hS => ?_)
  have hP : va_P D vwCl [(h, .inr (0, [.int (nI 0), .ref q_1, .null, .null, .null, .int (nI 0), .null, .int (nI 0), .null, .null, .null, .null, .null, .int (nI 0), .int (nI 0), .null])), (q_1, .inl (c1, 12, .inl (fun _ => nI 0)))] H := hP
  have hD : va_D A [(h, .inr (0, [.int (nI 0), .ref q_1, .null, .null, .null, .int (nI 0), .null, .int (nI 0), .null, .null, .null, .null, .null, .int (nI 0), .int (nI 0), .null])), (q_1, .inl (c1, 12, .inl (fun _ => nI 0)))] := hD
  refine cb_aload_n C hl dX0_init_12 rfl ?_
  refine cb_bipush C 12 dX0_init_13 rfl ?_
  refine va_newa (ws := [(h, .inr (0, [.int (nI 0), .ref q_1, .null, .null, .null, .int (nI 0), .null, .int (nI 0), .null, .null, .null, .null, .null, .int (nI 0), .int (nI 0), .null])), (q_1, .inl (c1, 12, .inl (fun _ => nI 0)))]) (atype := .int) C.1 C.2.1 (hts _ q77) (ty := .int) rfl hK hP hD hS hA (n := nI 12) (N' := 12) (a0 := (12, .inl (fun _ => nI 0))) (fun _ => rfl) (by decide +kernel) (nI_clamp (by decide)) (by decide) (Nat.le_of_ble_eq_true rfl) (Nat.le_of_ble_eq_true rfl) dX0_init_15 (fun q_2 c2 H hK hP hD hS => ?_)
  refine W.widen (k := 2) (n := 24) (Nat.le_of_ble_eq_true rfl) (Nat.le_of_ble_eq_true rfl) ?_
  have hP : va_P D vwCl [(h, .inr (0, [.int (nI 0), .ref q_1, .null, .null, .null, .int (nI 0), .null, .int (nI 0), .null, .null, .null, .null, .null, .int (nI 0), .int (nI 0), .null])), (q_1, .inl (c1, 12, .inl (fun _ => nI 0))), (q_2, .inl (c2, 12, .inl (fun _ => nI 0)))] H := hP
  have hD : va_D A [(h, .inr (0, [.int (nI 0), .ref q_1, .null, .null, .null, .int (nI 0), .null, .int (nI 0), .null, .null, .null, .null, .null, .int (nI 0), .int (nI 0), .null])), (q_1, .inl (c1, 12, .inl (fun _ => nI 0))), (q_2, .inl (c2, 12, .inl (fun _ => nI 0)))] := hD
  have hK : va_K D vwCl [(c1, .int), (c2, .int)] s := hK
  refine va_putF (ws := [(h, .inr (0, [.int (nI 0), .ref q_1, .null, .null, .null, .int (nI 0), .null, .int (nI 0), .null, .null, .null, .null, .null, .int (nI 0), .int (nI 0), .null])), (q_1, .inl (c1, 12, .inl (fun _ => nI 0))), (q_2, .inl (c2, 12, .inl (fun _ => nI 0)))]) (ci := 0) (N := 16) (C := RX0) (T := TX0) C.1 C.2.1 hts in_X0 tyX0 tyX0_ok nmX0 hown hK hP hD hS 0 rfl rfl 2 (by decide) (hts _ q30) (fun _ h => h) rfl hin rfl (ty := .array .int) (v := .ref q_2) (by decide +kernel) rfl rfl (Nat.le_of_ble_eq_true rfl) dX0_init_17 (fun H locs hP hD hS => ?_)
  have hP : va_P D vwCl [(h, .inr (0, [.int (nI 0), .ref q_1, .ref q_2, .null, .null, .int (nI 0), .null, .int (nI 0), .null, .null, .null, .null, .null, .int (nI 0), .int (nI 0), .null])), (q_1, .inl (c1, 12, .inl (fun _ => nI 0))), (q_2, .inl (c2, 12, .inl (fun _ => nI 0)))] H := hP
  have hD : va_D A [(h, .inr (0, [.int (nI 0), .ref q_1, .ref q_2, .null, .null, .int (nI 0), .null, .int (nI 0), .null, .null, .null, .null, .null, .int (nI 0), .int (nI 0), .null])), (q_1, .inl (c1, 12, .inl (fun _ => nI 0))), (q_2, .inl (c2, 12, .inl (fun _ => nI 0)))] := hD
  refine cb_aload_n C hl dX0_init_20 rfl ?_
  refine cb_bipush C 12 dX0_init_21 rfl ?_
  refine va_newa (ws := [(h, .inr (0, [.int (nI 0), .ref q_1, .ref q_2, .null, .null, .int (nI 0), .null, .int (nI 0), .null, .null, .null, .null, .null, .int (nI 0), .int (nI 0), .null])), (q_1, .inl (c1, 12, .inl (fun _ => nI 0))), (q_2, .inl (c2, 12, .inl (fun _ => nI 0)))]) (atype := .int) C.1 C.2.1 (hts _ q77) (ty := .int) rfl hK hP hD hS hA (n := nI 12) (N' := 12) (a0 := (12, .inl (fun _ => nI 0))) (fun _ => rfl) (by decide +kernel) (nI_clamp (by decide)) (by decide) (Nat.le_of_ble_eq_true rfl) (Nat.le_of_ble_eq_true rfl) dX0_init_23 (fun q_3 c3 H hK hP hD hS => ?_)
  refine W.widen (k := 3) (n := 36) (Nat.le_of_ble_eq_true rfl) (Nat.le_of_ble_eq_true rfl) ?_
  have hP : va_P D vwCl [(h, .inr (0, [.int (nI 0), .ref q_1, .ref q_2, .null, .null, .int (nI 0), .null, .int (nI 0), .null, .null, .null, .null, .null, .int (nI 0), .int (nI 0), .null])), (q_1, .inl (c1, 12, .inl (fun _ => nI 0))), (q_2, .inl (c2, 12, .inl (fun _ => nI 0))), (q_3, .inl (c3, 12, .inl (fun _ => nI 0)))] H := hP
  have hD : va_D A [(h, .inr (0, [.int (nI 0), .ref q_1, .ref q_2, .null, .null, .int (nI 0), .null, .int (nI 0), .null, .null, .null, .null, .null, .int (nI 0), .int (nI 0), .null])), (q_1, .inl (c1, 12, .inl (fun _ => nI 0))), (q_2, .inl (c2, 12, .inl (fun _ => nI 0))), (q_3, .inl (c3, 12, .inl (fun _ => nI 0)))] := hD
  have hK : va_K D vwCl [(c1, .int), (c2, .int), (c3, .int)] s := hK
  refine va_putF (ws := [(h, .inr (0, [.int (nI 0), .ref q_1, .ref q_2, .null, .null, .int (nI 0), .null, .int (nI 0), .null, .null, .null, .null, .null, .int (nI 0), .int (nI 0), .null])), (q_1, .inl (c1, 12, .inl (fun _ => nI 0))), (q_2, .inl (c2, 12, .inl (fun _ => nI 0))), (q_3, .inl (c3, 12, .inl (fun _ => nI 0)))]) (ci := 0) (N := 16) (C := RX0) (T := TX0) C.1 C.2.1 hts in_X0 tyX0 tyX0_ok nmX0 hown hK hP hD hS 0 rfl rfl 3 (by decide) (hts _ q31) (fun _ h => h) rfl hin rfl (ty := .array .int) (v := .ref q_3) (by decide +kernel) rfl rfl (Nat.le_of_ble_eq_true rfl) dX0_init_25 (fun H locs hP hD hS => ?_)
  have hP : va_P D vwCl [(h, .inr (0, [.int (nI 0), .ref q_1, .ref q_2, .ref q_3, .null, .int (nI 0), .null, .int (nI 0), .null, .null, .null, .null, .null, .int (nI 0), .int (nI 0), .null])), (q_1, .inl (c1, 12, .inl (fun _ => nI 0))), (q_2, .inl (c2, 12, .inl (fun _ => nI 0))), (q_3, .inl (c3, 12, .inl (fun _ => nI 0)))] H := hP
  have hD : va_D A [(h, .inr (0, [.int (nI 0), .ref q_1, .ref q_2, .ref q_3, .null, .int (nI 0), .null, .int (nI 0), .null, .null, .null, .null, .null, .int (nI 0), .int (nI 0), .null])), (q_1, .inl (c1, 12, .inl (fun _ => nI 0))), (q_2, .inl (c2, 12, .inl (fun _ => nI 0))), (q_3, .inl (c3, 12, .inl (fun _ => nI 0)))] := hD
  refine cb_aload_n C hl dX0_init_28 rfl ?_
  refine cb_bipush C 7 dX0_init_29 rfl ?_
  refine va_newa (ws := [(h, .inr (0, [.int (nI 0), .ref q_1, .ref q_2, .ref q_3, .null, .int (nI 0), .null, .int (nI 0), .null, .null, .null, .null, .null, .int (nI 0), .int (nI 0), .null])), (q_1, .inl (c1, 12, .inl (fun _ => nI 0))), (q_2, .inl (c2, 12, .inl (fun _ => nI 0))), (q_3, .inl (c3, 12, .inl (fun _ => nI 0)))]) (atype := .int) C.1 C.2.1 (hts _ q77) (ty := .int) rfl hK hP hD hS hA (n := nI 7) (N' := 7) (a0 := (7, .inl (fun _ => nI 0))) (fun _ => rfl) (by decide +kernel) (nI_clamp (by decide)) (by decide) (Nat.le_of_ble_eq_true rfl) (Nat.le_of_ble_eq_true rfl) dX0_init_31 (fun q_4 c4 H hK hP hD hS => ?_)
  refine W.widen (k := 4) (n := 43) (Nat.le_of_ble_eq_true rfl) (Nat.le_of_ble_eq_true rfl) ?_
  have hP : va_P D vwCl [(h, .inr (0, [.int (nI 0), .ref q_1, .ref q_2, .ref q_3, .null, .int (nI 0), .null, .int (nI 0), .null, .null, .null, .null, .null, .int (nI 0), .int (nI 0), .null])), (q_1, .inl (c1, 12, .inl (fun _ => nI 0))), (q_2, .inl (c2, 12, .inl (fun _ => nI 0))), (q_3, .inl (c3, 12, .inl (fun _ => nI 0))), (q_4, .inl (c4, 7, .inl (fun _ => nI 0)))] H := hP
  have hD : va_D A [(h, .inr (0, [.int (nI 0), .ref q_1, .ref q_2, .ref q_3, .null, .int (nI 0), .null, .int (nI 0), .null, .null, .null, .null, .null, .int (nI 0), .int (nI 0), .null])), (q_1, .inl (c1, 12, .inl (fun _ => nI 0))), (q_2, .inl (c2, 12, .inl (fun _ => nI 0))), (q_3, .inl (c3, 12, .inl (fun _ => nI 0))), (q_4, .inl (c4, 7, .inl (fun _ => nI 0)))] := hD
  have hK : va_K D vwCl [(c1, .int), (c2, .int), (c3, .int), (c4, .int)] s := hK
  refine va_putF (ws := [(h, .inr (0, [.int (nI 0), .ref q_1, .ref q_2, .ref q_3, .null, .int (nI 0), .null, .int (nI 0), .null, .null, .null, .null, .null, .int (nI 0), .int (nI 0), .null])), (q_1, .inl (c1, 12, .inl (fun _ => nI 0))), (q_2, .inl (c2, 12, .inl (fun _ => nI 0))), (q_3, .inl (c3, 12, .inl (fun _ => nI 0))), (q_4, .inl (c4, 7, .inl (fun _ => nI 0)))]) (ci := 0) (N := 16) (C := RX0) (T := TX0) C.1 C.2.1 hts in_X0 tyX0 tyX0_ok nmX0 hown hK hP hD hS 0 rfl rfl 4 (by decide) (hts _ q32) (fun _ h => h) rfl hin rfl (ty := .array .int) (v := .ref q_4) (by decide +kernel) rfl rfl (Nat.le_of_ble_eq_true rfl) dX0_init_33 (fun H locs hP hD hS => ?_)
  have hP : va_P D vwCl [(h, .inr (0, [.int (nI 0), .ref q_1, .ref q_2, .ref q_3, .ref q_4, .int (nI 0), .null, .int (nI 0), .null, .null, .null, .null, .null, .int (nI 0), .int (nI 0), .null])), (q_1, .inl (c1, 12, .inl (fun _ => nI 0))), (q_2, .inl (c2, 12, .inl (fun _ => nI 0))), (q_3, .inl (c3, 12, .inl (fun _ => nI 0))), (q_4, .inl (c4, 7, .inl (fun _ => nI 0)))] H := hP
  have hD : va_D A [(h, .inr (0, [.int (nI 0), .ref q_1, .ref q_2, .ref q_3, .ref q_4, .int (nI 0), .null, .int (nI 0), .null, .null, .null, .null, .null, .int (nI 0), .int (nI 0), .null])), (q_1, .inl (c1, 12, .inl (fun _ => nI 0))), (q_2, .inl (c2, 12, .inl (fun _ => nI 0))), (q_3, .inl (c3, 12, .inl (fun _ => nI 0))), (q_4, .inl (c4, 7, .inl (fun _ => nI 0)))] := hD
  refine cb_aload_n C hl dX0_init_36 rfl ?_
  refine cb_bipush C 12 dX0_init_37 rfl ?_
  refine va_newa (ws := [(h, .inr (0, [.int (nI 0), .ref q_1, .ref q_2, .ref q_3, .ref q_4, .int (nI 0), .null, .int (nI 0), .null, .null, .null, .null, .null, .int (nI 0), .int (nI 0), .null])), (q_1, .inl (c1, 12, .inl (fun _ => nI 0))), (q_2, .inl (c2, 12, .inl (fun _ => nI 0))), (q_3, .inl (c3, 12, .inl (fun _ => nI 0))), (q_4, .inl (c4, 7, .inl (fun _ => nI 0)))]) (atype := .int) C.1 C.2.1 (hts _ q77) (ty := .int) rfl hK hP hD hS hA (n := nI 12) (N' := 12) (a0 := (12, .inl (fun _ => nI 0))) (fun _ => rfl) (by decide +kernel) (nI_clamp (by decide)) (by decide) (Nat.le_of_ble_eq_true rfl) (Nat.le_of_ble_eq_true rfl) dX0_init_39 (fun q_6 c6 H hK hP hD hS => ?_)
  refine W.widen (k := 5) (n := 55) (Nat.le_of_ble_eq_true rfl) (Nat.le_of_ble_eq_true rfl) ?_
  have hP : va_P D vwCl [(h, .inr (0, [.int (nI 0), .ref q_1, .ref q_2, .ref q_3, .ref q_4, .int (nI 0), .null, .int (nI 0), .null, .null, .null, .null, .null, .int (nI 0), .int (nI 0), .null])), (q_1, .inl (c1, 12, .inl (fun _ => nI 0))), (q_2, .inl (c2, 12, .inl (fun _ => nI 0))), (q_3, .inl (c3, 12, .inl (fun _ => nI 0))), (q_4, .inl (c4, 7, .inl (fun _ => nI 0))), (q_6, .inl (c6, 12, .inl (fun _ => nI 0)))] H := hP
  have hD : va_D A [(h, .inr (0, [.int (nI 0), .ref q_1, .ref q_2, .ref q_3, .ref q_4, .int (nI 0), .null, .int (nI 0), .null, .null, .null, .null, .null, .int (nI 0), .int (nI 0), .null])), (q_1, .inl (c1, 12, .inl (fun _ => nI 0))), (q_2, .inl (c2, 12, .inl (fun _ => nI 0))), (q_3, .inl (c3, 12, .inl (fun _ => nI 0))), (q_4, .inl (c4, 7, .inl (fun _ => nI 0))), (q_6, .inl (c6, 12, .inl (fun _ => nI 0)))] := hD
  have hK : va_K D vwCl [(c1, .int), (c2, .int), (c3, .int), (c4, .int), (c6, .int)] s := hK
  refine va_putF (ws := [(h, .inr (0, [.int (nI 0), .ref q_1, .ref q_2, .ref q_3, .ref q_4, .int (nI 0), .null, .int (nI 0), .null, .null, .null, .null, .null, .int (nI 0), .int (nI 0), .null])), (q_1, .inl (c1, 12, .inl (fun _ => nI 0))), (q_2, .inl (c2, 12, .inl (fun _ => nI 0))), (q_3, .inl (c3, 12, .inl (fun _ => nI 0))), (q_4, .inl (c4, 7, .inl (fun _ => nI 0))), (q_6, .inl (c6, 12, .inl (fun _ => nI 0)))]) (ci := 0) (N := 16) (C := RX0) (T := TX0) C.1 C.2.1 hts in_X0 tyX0 tyX0_ok nmX0 hown hK hP hD hS 0 rfl rfl 6 (by decide) (hts _ q34) (fun _ h => h) rfl hin rfl (ty := .array .int) (v := .ref q_6) (by decide +kernel) rfl rfl (Nat.le_of_ble_eq_true rfl) dX0_init_41 (fun H locs hP hD hS => ?_)
  have hP : va_P D vwCl [(h, .inr (0, [.int (nI 0), .ref q_1, .ref q_2, .ref q_3, .ref q_4, .int (nI 0), .ref q_6, .int (nI 0), .null, .null, .null, .null, .null, .int (nI 0), .int (nI 0), .null])), (q_1, .inl (c1, 12, .inl (fun _ => nI 0))), (q_2, .inl (c2, 12, .inl (fun _ => nI 0))), (q_3, .inl (c3, 12, .inl (fun _ => nI 0))), (q_4, .inl (c4, 7, .inl (fun _ => nI 0))), (q_6, .inl (c6, 12, .inl (fun _ => nI 0)))] H := hP
  have hD : va_D A [(h, .inr (0, [.int (nI 0), .ref q_1, .ref q_2, .ref q_3, .ref q_4, .int (nI 0), .ref q_6, .int (nI 0), .null, .null, .null, .null, .null, .int (nI 0), .int (nI 0), .null])), (q_1, .inl (c1, 12, .inl (fun _ => nI 0))), (q_2, .inl (c2, 12, .inl (fun _ => nI 0))), (q_3, .inl (c3, 12, .inl (fun _ => nI 0))), (q_4, .inl (c4, 7, .inl (fun _ => nI 0))), (q_6, .inl (c6, 12, .inl (fun _ => nI 0)))] := hD
  refine cb_aload_n C hl dX0_init_44 rfl ?_
  refine cb_bipush C 12 dX0_init_45 rfl ?_
  refine va_newa (ws := [(h, .inr (0, [.int (nI 0), .ref q_1, .ref q_2, .ref q_3, .ref q_4, .int (nI 0), .ref q_6, .int (nI 0), .null, .null, .null, .null, .null, .int (nI 0), .int (nI 0), .null])), (q_1, .inl (c1, 12, .inl (fun _ => nI 0))), (q_2, .inl (c2, 12, .inl (fun _ => nI 0))), (q_3, .inl (c3, 12, .inl (fun _ => nI 0))), (q_4, .inl (c4, 7, .inl (fun _ => nI 0))), (q_6, .inl (c6, 12, .inl (fun _ => nI 0)))]) (atype := .int) C.1 C.2.1 (hts _ q77) (ty := .int) rfl hK hP hD hS hA (n := nI 12) (N' := 12) (a0 := (12, .inl (fun _ => nI 0))) (fun _ => rfl) (by decide +kernel) (nI_clamp (by decide)) (by decide) (Nat.le_of_ble_eq_true rfl) (Nat.le_of_ble_eq_true rfl) dX0_init_47 (fun q_8 c8 H hK hP hD hS => ?_)
  refine W.widen (k := 6) (n := 67) (Nat.le_of_ble_eq_true rfl) (Nat.le_of_ble_eq_true rfl) ?_
  have hP : va_P D vwCl [(h, .inr (0, [.int (nI 0), .ref q_1, .ref q_2, .ref q_3, .ref q_4, .int (nI 0), .ref q_6, .int (nI 0), .null, .null, .null, .null, .null, .int (nI 0), .int (nI 0), .null])), (q_1, .inl (c1, 12, .inl (fun _ => nI 0))), (q_2, .inl (c2, 12, .inl (fun _ => nI 0))), (q_3, .inl (c3, 12, .inl (fun _ => nI 0))), (q_4, .inl (c4, 7, .inl (fun _ => nI 0))), (q_6, .inl (c6, 12, .inl (fun _ => nI 0))), (q_8, .inl (c8, 12, .inl (fun _ => nI 0)))] H := hP
  have hD : va_D A [(h, .inr (0, [.int (nI 0), .ref q_1, .ref q_2, .ref q_3, .ref q_4, .int (nI 0), .ref q_6, .int (nI 0), .null, .null, .null, .null, .null, .int (nI 0), .int (nI 0), .null])), (q_1, .inl (c1, 12, .inl (fun _ => nI 0))), (q_2, .inl (c2, 12, .inl (fun _ => nI 0))), (q_3, .inl (c3, 12, .inl (fun _ => nI 0))), (q_4, .inl (c4, 7, .inl (fun _ => nI 0))), (q_6, .inl (c6, 12, .inl (fun _ => nI 0))), (q_8, .inl (c8, 12, .inl (fun _ => nI 0)))] := hD
  have hK : va_K D vwCl [(c1, .int), (c2, .int), (c3, .int), (c4, .int), (c6, .int), (c8, .int)] s := hK
  refine va_putF (ws := [(h, .inr (0, [.int (nI 0), .ref q_1, .ref q_2, .ref q_3, .ref q_4, .int (nI 0), .ref q_6, .int (nI 0), .null, .null, .null, .null, .null, .int (nI 0), .int (nI 0), .null])), (q_1, .inl (c1, 12, .inl (fun _ => nI 0))), (q_2, .inl (c2, 12, .inl (fun _ => nI 0))), (q_3, .inl (c3, 12, .inl (fun _ => nI 0))), (q_4, .inl (c4, 7, .inl (fun _ => nI 0))), (q_6, .inl (c6, 12, .inl (fun _ => nI 0))), (q_8, .inl (c8, 12, .inl (fun _ => nI 0)))]) (ci := 0) (N := 16) (C := RX0) (T := TX0) C.1 C.2.1 hts in_X0 tyX0 tyX0_ok nmX0 hown hK hP hD hS 0 rfl rfl 8 (by decide) (hts _ q36) (fun _ h => h) rfl hin rfl (ty := .array .int) (v := .ref q_8) (by decide +kernel) rfl rfl (Nat.le_of_ble_eq_true rfl) dX0_init_49 (fun H locs hP hD hS => ?_)
  have hP : va_P D vwCl [(h, .inr (0, [.int (nI 0), .ref q_1, .ref q_2, .ref q_3, .ref q_4, .int (nI 0), .ref q_6, .int (nI 0), .ref q_8, .null, .null, .null, .null, .int (nI 0), .int (nI 0), .null])), (q_1, .inl (c1, 12, .inl (fun _ => nI 0))), (q_2, .inl (c2, 12, .inl (fun _ => nI 0))), (q_3, .inl (c3, 12, .inl (fun _ => nI 0))), (q_4, .inl (c4, 7, .inl (fun _ => nI 0))), (q_6, .inl (c6, 12, .inl (fun _ => nI 0))), (q_8, .inl (c8, 12, .inl (fun _ => nI 0)))] H := hP
  have hD : va_D A [(h, .inr (0, [.int (nI 0), .ref q_1, .ref q_2, .ref q_3, .ref q_4, .int (nI 0), .ref q_6, .int (nI 0), .ref q_8, .null, .null, .null, .null, .int (nI 0), .int (nI 0), .null])), (q_1, .inl (c1, 12, .inl (fun _ => nI 0))), (q_2, .inl (c2, 12, .inl (fun _ => nI 0))), (q_3, .inl (c3, 12, .inl (fun _ => nI 0))), (q_4, .inl (c4, 7, .inl (fun _ => nI 0))), (q_6, .inl (c6, 12, .inl (fun _ => nI 0))), (q_8, .inl (c8, 12, .inl (fun _ => nI 0)))] := hD
  refine cb_aload_n C hl dX0_init_52 rfl ?_
  refine cb_bipush C 12 dX0_init_53 rfl ?_
  refine va_newa (ws := [(h, .inr (0, [.int (nI 0), .ref q_1, .ref q_2, .ref q_3, .ref q_4, .int (nI 0), .ref q_6, .int (nI 0), .ref q_8, .null, .null, .null, .null, .int (nI 0), .int (nI 0), .null])), (q_1, .inl (c1, 12, .inl (fun _ => nI 0))), (q_2, .inl (c2, 12, .inl (fun _ => nI 0))), (q_3, .inl (c3, 12, .inl (fun _ => nI 0))), (q_4, .inl (c4, 7, .inl (fun _ => nI 0))), (q_6, .inl (c6, 12, .inl (fun _ => nI 0))), (q_8, .inl (c8, 12, .inl (fun _ => nI 0)))]) (atype := .int) C.1 C.2.1 (hts _ q77) (ty := .int) rfl hK hP hD hS hA (n := nI 12) (N' := 12) (a0 := (12, .inl (fun _ => nI 0))) (fun _ => rfl) (by decide +kernel) (nI_clamp (by decide)) (by decide) (Nat.le_of_ble_eq_true rfl) (Nat.le_of_ble_eq_true rfl) dX0_init_55 (fun q_9 c9 H hK hP hD hS => ?_)
  refine W.widen (k := 7) (n := 79) (Nat.le_of_ble_eq_true rfl) (Nat.le_of_ble_eq_true rfl) ?_
  have hP : va_P D vwCl [(h, .inr (0, [.int (nI 0), .ref q_1, .ref q_2, .ref q_3, .ref q_4, .int (nI 0), .ref q_6, .int (nI 0), .ref q_8, .null, .null, .null, .null, .int (nI 0), .int (nI 0), .null])), (q_1, .inl (c1, 12, .inl (fun _ => nI 0))), (q_2, .inl (c2, 12, .inl (fun _ => nI 0))), (q_3, .inl (c3, 12, .inl (fun _ => nI 0))), (q_4, .inl (c4, 7, .inl (fun _ => nI 0))), (q_6, .inl (c6, 12, .inl (fun _ => nI 0))), (q_8, .inl (c8, 12, .inl (fun _ => nI 0))), (q_9, .inl (c9, 12, .inl (fun _ => nI 0)))] H := hP
  have hD : va_D A [(h, .inr (0, [.int (nI 0), .ref q_1, .ref q_2, .ref q_3, .ref q_4, .int (nI 0), .ref q_6, .int (nI 0), .ref q_8, .null, .null, .null, .null, .int (nI 0), .int (nI 0), .null])), (q_1, .inl (c1, 12, .inl (fun _ => nI 0))), (q_2, .inl (c2, 12, .inl (fun _ => nI 0))), (q_3, .inl (c3, 12, .inl (fun _ => nI 0))), (q_4, .inl (c4, 7, .inl (fun _ => nI 0))), (q_6, .inl (c6, 12, .inl (fun _ => nI 0))), (q_8, .inl (c8, 12, .inl (fun _ => nI 0))), (q_9, .inl (c9, 12, .inl (fun _ => nI 0)))] := hD
  have hK : va_K D vwCl [(c1, .int), (c2, .int), (c3, .int), (c4, .int), (c6, .int), (c8, .int), (c9, .int)] s := hK
  refine va_putF (ws := [(h, .inr (0, [.int (nI 0), .ref q_1, .ref q_2, .ref q_3, .ref q_4, .int (nI 0), .ref q_6, .int (nI 0), .ref q_8, .null, .null, .null, .null, .int (nI 0), .int (nI 0), .null])), (q_1, .inl (c1, 12, .inl (fun _ => nI 0))), (q_2, .inl (c2, 12, .inl (fun _ => nI 0))), (q_3, .inl (c3, 12, .inl (fun _ => nI 0))), (q_4, .inl (c4, 7, .inl (fun _ => nI 0))), (q_6, .inl (c6, 12, .inl (fun _ => nI 0))), (q_8, .inl (c8, 12, .inl (fun _ => nI 0))), (q_9, .inl (c9, 12, .inl (fun _ => nI 0)))]) (ci := 0) (N := 16) (C := RX0) (T := TX0) C.1 C.2.1 hts in_X0 tyX0 tyX0_ok nmX0 hown hK hP hD hS 0 rfl rfl 9 (by decide) (hts _ q37) (fun _ h => h) rfl hin rfl (ty := .array .int) (v := .ref q_9) (by decide +kernel) rfl rfl (Nat.le_of_ble_eq_true rfl) dX0_init_57 (fun H locs hP hD hS => ?_)
  have hP : va_P D vwCl [(h, .inr (0, [.int (nI 0), .ref q_1, .ref q_2, .ref q_3, .ref q_4, .int (nI 0), .ref q_6, .int (nI 0), .ref q_8, .ref q_9, .null, .null, .null, .int (nI 0), .int (nI 0), .null])), (q_1, .inl (c1, 12, .inl (fun _ => nI 0))), (q_2, .inl (c2, 12, .inl (fun _ => nI 0))), (q_3, .inl (c3, 12, .inl (fun _ => nI 0))), (q_4, .inl (c4, 7, .inl (fun _ => nI 0))), (q_6, .inl (c6, 12, .inl (fun _ => nI 0))), (q_8, .inl (c8, 12, .inl (fun _ => nI 0))), (q_9, .inl (c9, 12, .inl (fun _ => nI 0)))] H := hP
  have hD : va_D A [(h, .inr (0, [.int (nI 0), .ref q_1, .ref q_2, .ref q_3, .ref q_4, .int (nI 0), .ref q_6, .int (nI 0), .ref q_8, .ref q_9, .null, .null, .null, .int (nI 0), .int (nI 0), .null])), (q_1, .inl (c1, 12, .inl (fun _ => nI 0))), (q_2, .inl (c2, 12, .inl (fun _ => nI 0))), (q_3, .inl (c3, 12, .inl (fun _ => nI 0))), (q_4, .inl (c4, 7, .inl (fun _ => nI 0))), (q_6, .inl (c6, 12, .inl (fun _ => nI 0))), (q_8, .inl (c8, 12, .inl (fun _ => nI 0))), (q_9, .inl (c9, 12, .inl (fun _ => nI 0)))] := hD
  refine cb_aload_n C hl dX0_init_60 rfl ?_
  refine cb_bipush C 14 dX0_init_61 rfl ?_
  refine va_newa (ws := [(h, .inr (0, [.int (nI 0), .ref q_1, .ref q_2, .ref q_3, .ref q_4, .int (nI 0), .ref q_6, .int (nI 0), .ref q_8, .ref q_9, .null, .null, .null, .int (nI 0), .int (nI 0), .null])), (q_1, .inl (c1, 12, .inl (fun _ => nI 0))), (q_2, .inl (c2, 12, .inl (fun _ => nI 0))), (q_3, .inl (c3, 12, .inl (fun _ => nI 0))), (q_4, .inl (c4, 7, .inl (fun _ => nI 0))), (q_6, .inl (c6, 12, .inl (fun _ => nI 0))), (q_8, .inl (c8, 12, .inl (fun _ => nI 0))), (q_9, .inl (c9, 12, .inl (fun _ => nI 0)))]) (atype := .int) C.1 C.2.1 (hts _ q77) (ty := .int) rfl hK hP hD hS hA (n := nI 14) (N' := 14) (a0 := (14, .inl (fun _ => nI 0))) (fun _ => rfl) (by decide +kernel) (nI_clamp (by decide)) (by decide) (Nat.le_of_ble_eq_true rfl) (Nat.le_of_ble_eq_true rfl) dX0_init_63 (fun q_10 c10 H hK hP hD hS => ?_)
  refine W.widen (k := 8) (n := 93) (Nat.le_of_ble_eq_true rfl) (Nat.le_of_ble_eq_true rfl) ?_
  have hP : va_P D vwCl [(h, .inr (0, [.int (nI 0), .ref q_1, .ref q_2, .ref q_3, .ref q_4, .int (nI 0), .ref q_6, .int (nI 0), .ref q_8, .ref q_9, .null, .null, .null, .int (nI 0), .int (nI 0), .null])), (q_1, .inl (c1, 12, .inl (fun _ => nI 0))), (q_2, .inl (c2, 12, .inl (fun _ => nI 0))), (q_3, .inl (c3, 12, .inl (fun _ => nI 0))), (q_4, .inl (c4, 7, .inl (fun _ => nI 0))), (q_6, .inl (c6, 12, .inl (fun _ => nI 0))), (q_8, .inl (c8, 12, .inl (fun _ => nI 0))), (q_9, .inl (c9, 12, .inl (fun _ => nI 0))), (q_10, .inl (c10, 14, .inl (fun _ => nI 0)))] H := hP
  have hD : va_D A [(h, .inr (0, [.int (nI 0), .ref q_1, .ref q_2, .ref q_3, .ref q_4, .int (nI 0), .ref q_6, .int (nI 0), .ref q_8, .ref q_9, .null, .null, .null, .int (nI 0), .int (nI 0), .null])), (q_1, .inl (c1, 12, .inl (fun _ => nI 0))), (q_2, .inl (c2, 12, .inl (fun _ => nI 0))), (q_3, .inl (c3, 12, .inl (fun _ => nI 0))), (q_4, .inl (c4, 7, .inl (fun _ => nI 0))), (q_6, .inl (c6, 12, .inl (fun _ => nI 0))), (q_8, .inl (c8, 12, .inl (fun _ => nI 0))), (q_9, .inl (c9, 12, .inl (fun _ => nI 0))), (q_10, .inl (c10, 14, .inl (fun _ => nI 0)))] := hD
  have hK : va_K D vwCl [(c1, .int), (c2, .int), (c3, .int), (c4, .int), (c6, .int), (c8, .int), (c9, .int), (c10, .int)] s := hK
  refine va_putF (ws := [(h, .inr (0, [.int (nI 0), .ref q_1, .ref q_2, .ref q_3, .ref q_4, .int (nI 0), .ref q_6, .int (nI 0), .ref q_8, .ref q_9, .null, .null, .null, .int (nI 0), .int (nI 0), .null])), (q_1, .inl (c1, 12, .inl (fun _ => nI 0))), (q_2, .inl (c2, 12, .inl (fun _ => nI 0))), (q_3, .inl (c3, 12, .inl (fun _ => nI 0))), (q_4, .inl (c4, 7, .inl (fun _ => nI 0))), (q_6, .inl (c6, 12, .inl (fun _ => nI 0))), (q_8, .inl (c8, 12, .inl (fun _ => nI 0))), (q_9, .inl (c9, 12, .inl (fun _ => nI 0))), (q_10, .inl (c10, 14, .inl (fun _ => nI 0)))]) (ci := 0) (N := 16) (C := RX0) (T := TX0) C.1 C.2.1 hts in_X0 tyX0 tyX0_ok nmX0 hown hK hP hD hS 0 rfl rfl 10 (by decide) (hts _ q38) (fun _ h => h) rfl hin rfl (ty := .array .int) (v := .ref q_10) (by decide +kernel) rfl rfl (Nat.le_of_ble_eq_true rfl) dX0_init_65 (fun H locs hP hD hS => ?_)
  have hP : va_P D vwCl [(h, .inr (0, [.int (nI 0), .ref q_1, .ref q_2, .ref q_3, .ref q_4, .int (nI 0), .ref q_6, .int (nI 0), .ref q_8, .ref q_9, .ref q_10, .null, .null, .int (nI 0), .int (nI 0), .null])), (q_1, .inl (c1, 12, .inl (fun _ => nI 0))), (q_2, .inl (c2, 12, .inl (fun _ => nI 0))), (q_3, .inl (c3, 12, .inl (fun _ => nI 0))), (q_4, .inl (c4, 7, .inl (fun _ => nI 0))), (q_6, .inl (c6, 12, .inl (fun _ => nI 0))), (q_8, .inl (c8, 12, .inl (fun _ => nI 0))), (q_9, .inl (c9, 12, .inl (fun _ => nI 0))), (q_10, .inl (c10, 14, .inl (fun _ => nI 0)))] H := hP
  have hD : va_D A [(h, .inr (0, [.int (nI 0), .ref q_1, .ref q_2, .ref q_3, .ref q_4, .int (nI 0), .ref q_6, .int (nI 0), .ref q_8, .ref q_9, .ref q_10, .null, .null, .int (nI 0), .int (nI 0), .null])), (q_1, .inl (c1, 12, .inl (fun _ => nI 0))), (q_2, .inl (c2, 12, .inl (fun _ => nI 0))), (q_3, .inl (c3, 12, .inl (fun _ => nI 0))), (q_4, .inl (c4, 7, .inl (fun _ => nI 0))), (q_6, .inl (c6, 12, .inl (fun _ => nI 0))), (q_8, .inl (c8, 12, .inl (fun _ => nI 0))), (q_9, .inl (c9, 12, .inl (fun _ => nI 0))), (q_10, .inl (c10, 14, .inl (fun _ => nI 0)))] := hD
  refine cb_aload_n C hl dX0_init_68 rfl ?_
  refine cb_bipush C 14 dX0_init_69 rfl ?_
  refine va_newa (ws := [(h, .inr (0, [.int (nI 0), .ref q_1, .ref q_2, .ref q_3, .ref q_4, .int (nI 0), .ref q_6, .int (nI 0), .ref q_8, .ref q_9, .ref q_10, .null, .null, .int (nI 0), .int (nI 0), .null])), (q_1, .inl (c1, 12, .inl (fun _ => nI 0))), (q_2, .inl (c2, 12, .inl (fun _ => nI 0))), (q_3, .inl (c3, 12, .inl (fun _ => nI 0))), (q_4, .inl (c4, 7, .inl (fun _ => nI 0))), (q_6, .inl (c6, 12, .inl (fun _ => nI 0))), (q_8, .inl (c8, 12, .inl (fun _ => nI 0))), (q_9, .inl (c9, 12, .inl (fun _ => nI 0))), (q_10, .inl (c10, 14, .inl (fun _ => nI 0)))]) (atype := .int) C.1 C.2.1 (hts _ q77) (ty := .int) rfl hK hP hD hS hA (n := nI 14) (N' := 14) (a0 := (14, .inl (fun _ => nI 0))) (fun _ => rfl) (by decide +kernel) (nI_clamp (by decide)) (by decide) (Nat.le_of_ble_eq_true rfl) (Nat.le_of_ble_eq_true rfl) dX0_init_71 (fun q_11 c11 H hK hP hD hS => ?_)
  refine W.widen (k := 9) (n := 107) (Nat.le_of_ble_eq_true rfl) (Nat.le_of_ble_eq_true rfl) ?_
  have hP : va_P D vwCl [(h, .inr (0, [.int (nI 0), .ref q_1, .ref q_2, .ref q_3, .ref q_4, .int (nI 0), .ref q_6, .int (nI 0), .ref q_8, .ref q_9, .ref q_10, .null, .null, .int (nI 0), .int (nI 0), .null])), (q_1, .inl (c1, 12, .inl (fun _ => nI 0))), (q_2, .inl (c2, 12, .inl (fun _ => nI 0))), (q_3, .inl (c3, 12, .inl (fun _ => nI 0))), (q_4, .inl (c4, 7, .inl (fun _ => nI 0))), (q_6, .inl (c6, 12, .inl (fun _ => nI 0))), (q_8, .inl (c8, 12, .inl (fun _ => nI 0))), (q_9, .inl (c9, 12, .inl (fun _ => nI 0))), (q_10, .inl (c10, 14, .inl (fun _ => nI 0))), (q_11, .inl (c11, 14, .inl (fun _ => nI 0)))] H := hP
  have hD : va_D A [(h, .inr (0, [.int (nI 0), .ref q_1, .ref q_2, .ref q_3, .ref q_4, .int (nI 0), .ref q_6, .int (nI 0), .ref q_8, .ref q_9, .ref q_10, .null, .null, .int (nI 0), .int (nI 0), .null])), (q_1, .inl (c1, 12, .inl (fun _ => nI 0))), (q_2, .inl (c2, 12, .inl (fun _ => nI 0))), (q_3, .inl (c3, 12, .inl (fun _ => nI 0))), (q_4, .inl (c4, 7, .inl (fun _ => nI 0))), (q_6, .inl (c6, 12, .inl (fun _ => nI 0))), (q_8, .inl (c8, 12, .inl (fun _ => nI 0))), (q_9, .inl (c9, 12, .inl (fun _ => nI 0))), (q_10, .inl (c10, 14, .inl (fun _ => nI 0))), (q_11, .inl (c11, 14, .inl (fun _ => nI 0)))] := hD
  have hK : va_K D vwCl [(c1, .int), (c2, .int), (c3, .int), (c4, .int), (c6, .int), (c8, .int), (c9, .int), (c10, .int), (c11, .int)] s := hK
  refine va_putF (ws := [(h, .inr (0, [.int (nI 0), .ref q_1, .ref q_2, .ref q_3, .ref q_4, .int (nI 0), .ref q_6, .int (nI 0), .ref q_8, .ref q_9, .ref q_10, .null, .null, .int (nI 0), .int (nI 0), .null])), (q_1, .inl (c1, 12, .inl (fun _ => nI 0))), (q_2, .inl (c2, 12, .inl (fun _ => nI 0))), (q_3, .inl (c3, 12, .inl (fun _ => nI 0))), (q_4, .inl (c4, 7, .inl (fun _ => nI 0))), (q_6, .inl (c6, 12, .inl (fun _ => nI 0))), (q_8, .inl (c8, 12, .inl (fun _ => nI 0))), (q_9, .inl (c9, 12, .inl (fun _ => nI 0))), (q_10, .inl (c10, 14, .inl (fun _ => nI 0))), (q_11, .inl (c11, 14, .inl (fun _ => nI 0)))]) (ci := 0) (N := 16) (C := RX0) (T := TX0) C.1 C.2.1 hts in_X0 tyX0 tyX0_ok nmX0 hown hK hP hD hS 0 rfl rfl 11 (by decide) (hts _ q39) (fun _ h => h) rfl hin rfl (ty := .array .int) (v := .ref q_11) (by decide +kernel) rfl rfl (Nat.le_of_ble_eq_true rfl) dX0_init_73 (fun H locs hP hD hS => ?_)
  have hP : va_P D vwCl [(h, .inr (0, [.int (nI 0), .ref q_1, .ref q_2, .ref q_3, .ref q_4, .int (nI 0), .ref q_6, .int (nI 0), .ref q_8, .ref q_9, .ref q_10, .ref q_11, .null, .int (nI 0), .int (nI 0), .null])), (q_1, .inl (c1, 12, .inl (fun _ => nI 0))), (q_2, .inl (c2, 12, .inl (fun _ => nI 0))), (q_3, .inl (c3, 12, .inl (fun _ => nI 0))), (q_4, .inl (c4, 7, .inl (fun _ => nI 0))), (q_6, .inl (c6, 12, .inl (fun _ => nI 0))), (q_8, .inl (c8, 12, .inl (fun _ => nI 0))), (q_9, .inl (c9, 12, .inl (fun _ => nI 0))), (q_10, .inl (c10, 14, .inl (fun _ => nI 0))), (q_11, .inl (c11, 14, .inl (fun _ => nI 0)))] H := hP
  have hD : va_D A [(h, .inr (0, [.int (nI 0), .ref q_1, .ref q_2, .ref q_3, .ref q_4, .int (nI 0), .ref q_6, .int (nI 0), .ref q_8, .ref q_9, .ref q_10, .ref q_11, .null, .int (nI 0), .int (nI 0), .null])), (q_1, .inl (c1, 12, .inl (fun _ => nI 0))), (q_2, .inl (c2, 12, .inl (fun _ => nI 0))), (q_3, .inl (c3, 12, .inl (fun _ => nI 0))), (q_4, .inl (c4, 7, .inl (fun _ => nI 0))), (q_6, .inl (c6, 12, .inl (fun _ => nI 0))), (q_8, .inl (c8, 12, .inl (fun _ => nI 0))), (q_9, .inl (c9, 12, .inl (fun _ => nI 0))), (q_10, .inl (c10, 14, .inl (fun _ => nI 0))), (q_11, .inl (c11, 14, .inl (fun _ => nI 0)))] := hD
  refine cb_aload_n C hl dX0_init_76 rfl ?_
  refine cb_bipush C 14 dX0_init_77 rfl ?_
  refine va_newa (ws := [(h, .inr (0, [.int (nI 0), .ref q_1, .ref q_2, .ref q_3, .ref q_4, .int (nI 0), .ref q_6, .int (nI 0), .ref q_8, .ref q_9, .ref q_10, .ref q_11, .null, .int (nI 0), .int (nI 0), .null])), (q_1, .inl (c1, 12, .inl (fun _ => nI 0))), (q_2, .inl (c2, 12, .inl (fun _ => nI 0))), (q_3, .inl (c3, 12, .inl (fun _ => nI 0))), (q_4, .inl (c4, 7, .inl (fun _ => nI 0))), (q_6, .inl (c6, 12, .inl (fun _ => nI 0))), (q_8, .inl (c8, 12, .inl (fun _ => nI 0))), (q_9, .inl (c9, 12, .inl (fun _ => nI 0))), (q_10, .inl (c10, 14, .inl (fun _ => nI 0))), (q_11, .inl (c11, 14, .inl (fun _ => nI 0)))]) (atype := .boolean) C.1 C.2.1 (hts _ q78) (ty := .boolean) rfl hK hP hD hS hA (n := nI 14) (N' := 14) (a0 := (14, .inl (fun _ => nI 0))) (fun _ => rfl) (by decide +kernel) (nI_clamp (by decide)) (by decide) (Nat.le_of_ble_eq_true rfl) (Nat.le_of_ble_eq_true rfl) dX0_init_79 (fun q_12 c12 H hK hP hD hS => ?_)
  refine W.widen (k := 10) (n := 121) (Nat.le_of_ble_eq_true rfl) (Nat.le_of_ble_eq_true rfl) ?_
  have hP : va_P D vwCl [(h, .inr (0, [.int (nI 0), .ref q_1, .ref q_2, .ref q_3, .ref q_4, .int (nI 0), .ref q_6, .int (nI 0), .ref q_8, .ref q_9, .ref q_10, .ref q_11, .null, .int (nI 0), .int (nI 0), .null])), (q_1, .inl (c1, 12, .inl (fun _ => nI 0))), (q_2, .inl (c2, 12, .inl (fun _ => nI 0))), (q_3, .inl (c3, 12, .inl (fun _ => nI 0))), (q_4, .inl (c4, 7, .inl (fun _ => nI 0))), (q_6, .inl (c6, 12, .inl (fun _ => nI 0))), (q_8, .inl (c8, 12, .inl (fun _ => nI 0))), (q_9, .inl (c9, 12, .inl (fun _ => nI 0))), (q_10, .inl (c10, 14, .inl (fun _ => nI 0))), (q_11, .inl (c11, 14, .inl (fun _ => nI 0))), (q_12, .inl (c12, 14, .inl (fun _ => nI 0)))] H := hP
  have hD : va_D A [(h, .inr (0, [.int (nI 0), .ref q_1, .ref q_2, .ref q_3, .ref q_4, .int (nI 0), .ref q_6, .int (nI 0), .ref q_8, .ref q_9, .ref q_10, .ref q_11, .null, .int (nI 0), .int (nI 0), .null])), (q_1, .inl (c1, 12, .inl (fun _ => nI 0))), (q_2, .inl (c2, 12, .inl (fun _ => nI 0))), (q_3, .inl (c3, 12, .inl (fun _ => nI 0))), (q_4, .inl (c4, 7, .inl (fun _ => nI 0))), (q_6, .inl (c6, 12, .inl (fun _ => nI 0))), (q_8, .inl (c8, 12, .inl (fun _ => nI 0))), (q_9, .inl (c9, 12, .inl (fun _ => nI 0))), (q_10, .inl (c10, 14, .inl (fun _ => nI 0))), (q_11, .inl (c11, 14, .inl (fun _ => nI 0))), (q_12, .inl (c12, 14, .inl (fun _ => nI 0)))] := hD
  have hK : va_K D vwCl [(c1, .int), (c2, .int), (c3, .int), (c4, .int), (c6, .int), (c8, .int), (c9, .int), (c10, .int), (c11, .int), (c12, .boolean)] s := hK
  refine va_putF (ws := [(h, .inr (0, [.int (nI 0), .ref q_1, .ref q_2, .ref q_3, .ref q_4, .int (nI 0), .ref q_6, .int (nI 0), .ref q_8, .ref q_9, .ref q_10, .ref q_11, .null, .int (nI 0), .int (nI 0), .null])), (q_1, .inl (c1, 12, .inl (fun _ => nI 0))), (q_2, .inl (c2, 12, .inl (fun _ => nI 0))), (q_3, .inl (c3, 12, .inl (fun _ => nI 0))), (q_4, .inl (c4, 7, .inl (fun _ => nI 0))), (q_6, .inl (c6, 12, .inl (fun _ => nI 0))), (q_8, .inl (c8, 12, .inl (fun _ => nI 0))), (q_9, .inl (c9, 12, .inl (fun _ => nI 0))), (q_10, .inl (c10, 14, .inl (fun _ => nI 0))), (q_11, .inl (c11, 14, .inl (fun _ => nI 0))), (q_12, .inl (c12, 14, .inl (fun _ => nI 0)))]) (ci := 0) (N := 16) (C := RX0) (T := TX0) C.1 C.2.1 hts in_X0 tyX0 tyX0_ok nmX0 hown hK hP hD hS 0 rfl rfl 12 (by decide) (hts _ q40) (fun _ h => h) rfl hin rfl (ty := .array .boolean) (v := .ref q_12) (by decide +kernel) rfl rfl (Nat.le_of_ble_eq_true rfl) dX0_init_81 (fun H locs hP hD hS => ?_)
  have hP : va_P D vwCl [(h, .inr (0, [.int (nI 0), .ref q_1, .ref q_2, .ref q_3, .ref q_4, .int (nI 0), .ref q_6, .int (nI 0), .ref q_8, .ref q_9, .ref q_10, .ref q_11, .ref q_12, .int (nI 0), .int (nI 0), .null])), (q_1, .inl (c1, 12, .inl (fun _ => nI 0))), (q_2, .inl (c2, 12, .inl (fun _ => nI 0))), (q_3, .inl (c3, 12, .inl (fun _ => nI 0))), (q_4, .inl (c4, 7, .inl (fun _ => nI 0))), (q_6, .inl (c6, 12, .inl (fun _ => nI 0))), (q_8, .inl (c8, 12, .inl (fun _ => nI 0))), (q_9, .inl (c9, 12, .inl (fun _ => nI 0))), (q_10, .inl (c10, 14, .inl (fun _ => nI 0))), (q_11, .inl (c11, 14, .inl (fun _ => nI 0))), (q_12, .inl (c12, 14, .inl (fun _ => nI 0)))] H := hP
  have hD : va_D A [(h, .inr (0, [.int (nI 0), .ref q_1, .ref q_2, .ref q_3, .ref q_4, .int (nI 0), .ref q_6, .int (nI 0), .ref q_8, .ref q_9, .ref q_10, .ref q_11, .ref q_12, .int (nI 0), .int (nI 0), .null])), (q_1, .inl (c1, 12, .inl (fun _ => nI 0))), (q_2, .inl (c2, 12, .inl (fun _ => nI 0))), (q_3, .inl (c3, 12, .inl (fun _ => nI 0))), (q_4, .inl (c4, 7, .inl (fun _ => nI 0))), (q_6, .inl (c6, 12, .inl (fun _ => nI 0))), (q_8, .inl (c8, 12, .inl (fun _ => nI 0))), (q_9, .inl (c9, 12, .inl (fun _ => nI 0))), (q_10, .inl (c10, 14, .inl (fun _ => nI 0))), (q_11, .inl (c11, 14, .inl (fun _ => nI 0))), (q_12, .inl (c12, 14, .inl (fun _ => nI 0)))] := hD
  refine cb_aload_n C hl dX0_init_84 rfl ?_
  refine cb_bipush C 12 dX0_init_85 rfl ?_
  refine va_newa (ws := [(h, .inr (0, [.int (nI 0), .ref q_1, .ref q_2, .ref q_3, .ref q_4, .int (nI 0), .ref q_6, .int (nI 0), .ref q_8, .ref q_9, .ref q_10, .ref q_11, .ref q_12, .int (nI 0), .int (nI 0), .null])), (q_1, .inl (c1, 12, .inl (fun _ => nI 0))), (q_2, .inl (c2, 12, .inl (fun _ => nI 0))), (q_3, .inl (c3, 12, .inl (fun _ => nI 0))), (q_4, .inl (c4, 7, .inl (fun _ => nI 0))), (q_6, .inl (c6, 12, .inl (fun _ => nI 0))), (q_8, .inl (c8, 12, .inl (fun _ => nI 0))), (q_9, .inl (c9, 12, .inl (fun _ => nI 0))), (q_10, .inl (c10, 14, .inl (fun _ => nI 0))), (q_11, .inl (c11, 14, .inl (fun _ => nI 0))), (q_12, .inl (c12, 14, .inl (fun _ => nI 0)))]) (atype := .int) C.1 C.2.1 (hts _ q77) (ty := .int) rfl hK hP hD hS hA (n := nI 12) (N' := 12) (a0 := (12, .inl (fun _ => nI 0))) (fun _ => rfl) (by decide +kernel) (nI_clamp (by decide)) (by decide) (Nat.le_of_ble_eq_true rfl) (Nat.le_of_ble_eq_true rfl) dX0_init_87 (fun q_15 c15 H hK hP hD hS => ?_)
  refine W.widen (k := 11) (n := 133) (Nat.le_of_ble_eq_true rfl) (Nat.le_of_ble_eq_true rfl) ?_
  have hP : va_P D vwCl [(h, .inr (0, [.int (nI 0), .ref q_1, .ref q_2, .ref q_3, .ref q_4, .int (nI 0), .ref q_6, .int (nI 0), .ref q_8, .ref q_9, .ref q_10, .ref q_11, .ref q_12, .int (nI 0), .int (nI 0), .null])), (q_1, .inl (c1, 12, .inl (fun _ => nI 0))), (q_2, .inl (c2, 12, .inl (fun _ => nI 0))), (q_3, .inl (c3, 12, .inl (fun _ => nI 0))), (q_4, .inl (c4, 7, .inl (fun _ => nI 0))), (q_6, .inl (c6, 12, .inl (fun _ => nI 0))), (q_8, .inl (c8, 12, .inl (fun _ => nI 0))), (q_9, .inl (c9, 12, .inl (fun _ => nI 0))), (q_10, .inl (c10, 14, .inl (fun _ => nI 0))), (q_11, .inl (c11, 14, .inl (fun _ => nI 0))), (q_12, .inl (c12, 14, .inl (fun _ => nI 0))), (q_15, .inl (c15, 12, .inl (fun _ => nI 0)))] H := hP
  have hD : va_D A [(h, .inr (0, [.int (nI 0), .ref q_1, .ref q_2, .ref q_3, .ref q_4, .int (nI 0), .ref q_6, .int (nI 0), .ref q_8, .ref q_9, .ref q_10, .ref q_11, .ref q_12, .int (nI 0), .int (nI 0), .null])), (q_1, .inl (c1, 12, .inl (fun _ => nI 0))), (q_2, .inl (c2, 12, .inl (fun _ => nI 0))), (q_3, .inl (c3, 12, .inl (fun _ => nI 0))), (q_4, .inl (c4, 7, .inl (fun _ => nI 0))), (q_6, .inl (c6, 12, .inl (fun _ => nI 0))), (q_8, .inl (c8, 12, .inl (fun _ => nI 0))), (q_9, .inl (c9, 12, .inl (fun _ => nI 0))), (q_10, .inl (c10, 14, .inl (fun _ => nI 0))), (q_11, .inl (c11, 14, .inl (fun _ => nI 0))), (q_12, .inl (c12, 14, .inl (fun _ => nI 0))), (q_15, .inl (c15, 12, .inl (fun _ => nI 0)))] := hD
  have hK : va_K D vwCl [(c1, .int), (c2, .int), (c3, .int), (c4, .int), (c6, .int), (c8, .int), (c9, .int), (c10, .int), (c11, .int), (c12, .boolean), (c15, .int)] s := hK
  refine va_putF (ws := [(h, .inr (0, [.int (nI 0), .ref q_1, .ref q_2, .ref q_3, .ref q_4, .int (nI 0), .ref q_6, .int (nI 0), .ref q_8, .ref q_9, .ref q_10, .ref q_11, .ref q_12, .int (nI 0), .int (nI 0), .null])), (q_1, .inl (c1, 12, .inl (fun _ => nI 0))), (q_2, .inl (c2, 12, .inl (fun _ => nI 0))), (q_3, .inl (c3, 12, .inl (fun _ => nI 0))), (q_4, .inl (c4, 7, .inl (fun _ => nI 0))), (q_6, .inl (c6, 12, .inl (fun _ => nI 0))), (q_8, .inl (c8, 12, .inl (fun _ => nI 0))), (q_9, .inl (c9, 12, .inl (fun _ => nI 0))), (q_10, .inl (c10, 14, .inl (fun _ => nI 0))), (q_11, .inl (c11, 14, .inl (fun _ => nI 0))), (q_12, .inl (c12, 14, .inl (fun _ => nI 0))), (q_15, .inl (c15, 12, .inl (fun _ => nI 0)))]) (ci := 0) (N := 16) (C := RX0) (T := TX0) C.1 C.2.1 hts in_X0 tyX0 tyX0_ok nmX0 hown hK hP hD hS 0 rfl rfl 15 (by decide) (hts _ q43) (fun _ h => h) rfl hin rfl (ty := .array .int) (v := .ref q_15) (by decide +kernel) rfl rfl (Nat.le_of_ble_eq_true rfl) dX0_init_89 (fun H locs hP hD hS => ?_)
  have hP : va_P D vwCl [(h, .inr (0, [.int (nI 0), .ref q_1, .ref q_2, .ref q_3, .ref q_4, .int (nI 0), .ref q_6, .int (nI 0), .ref q_8, .ref q_9, .ref q_10, .ref q_11, .ref q_12, .int (nI 0), .int (nI 0), .ref q_15])), (q_1, .inl (c1, 12, .inl (fun _ => nI 0))), (q_2, .inl (c2, 12, .inl (fun _ => nI 0))), (q_3, .inl (c3, 12, .inl (fun _ => nI 0))), (q_4, .inl (c4, 7, .inl (fun _ => nI 0))), (q_6, .inl (c6, 12, .inl (fun _ => nI 0))), (q_8, .inl (c8, 12, .inl (fun _ => nI 0))), (q_9, .inl (c9, 12, .inl (fun _ => nI 0))), (q_10, .inl (c10, 14, .inl (fun _ => nI 0))), (q_11, .inl (c11, 14, .inl (fun _ => nI 0))), (q_12, .inl (c12, 14, .inl (fun _ => nI 0))), (q_15, .inl (c15, 12, .inl (fun _ => nI 0)))] H := hP
  have hD : va_D A [(h, .inr (0, [.int (nI 0), .ref q_1, .ref q_2, .ref q_3, .ref q_4, .int (nI 0), .ref q_6, .int (nI 0), .ref q_8, .ref q_9, .ref q_10, .ref q_11, .ref q_12, .int (nI 0), .int (nI 0), .ref q_15])), (q_1, .inl (c1, 12, .inl (fun _ => nI 0))), (q_2, .inl (c2, 12, .inl (fun _ => nI 0))), (q_3, .inl (c3, 12, .inl (fun _ => nI 0))), (q_4, .inl (c4, 7, .inl (fun _ => nI 0))), (q_6, .inl (c6, 12, .inl (fun _ => nI 0))), (q_8, .inl (c8, 12, .inl (fun _ => nI 0))), (q_9, .inl (c9, 12, .inl (fun _ => nI 0))), (q_10, .inl (c10, 14, .inl (fun _ => nI 0))), (q_11, .inl (c11, 14, .inl (fun _ => nI 0))), (q_12, .inl (c12, 14, .inl (fun _ => nI 0))), (q_15, .inl (c15, 12, .inl (fun _ => nI 0)))] := hD
  obtain rfl : c1 = c2 := cb_cid hK (i := 0) (j := 1) (Or.inl rfl) rfl rfl
  obtain rfl : c1 = c3 := cb_cid hK (i := 0) (j := 2) (Or.inl rfl) rfl rfl
  obtain rfl : c1 = c4 := cb_cid hK (i := 0) (j := 3) (Or.inl rfl) rfl rfl
  obtain rfl : c1 = c6 := cb_cid hK (i := 0) (j := 4) (Or.inl rfl) rfl rfl
  obtain rfl : c1 = c8 := cb_cid hK (i := 0) (j := 5) (Or.inl rfl) rfl rfl
  obtain rfl : c1 = c9 := cb_cid hK (i := 0) (j := 6) (Or.inl rfl) rfl rfl
  obtain rfl : c1 = c10 := cb_cid hK (i := 0) (j := 7) (Or.inl rfl) rfl rfl
  obtain rfl : c1 = c11 := cb_cid hK (i := 0) (j := 8) (Or.inl rfl) rfl rfl
  obtain rfl : c1 = c15 := cb_cid hK (i := 0) (j := 10) (Or.inl rfl) rfl rfl
  have hK : va_K D vwCl (cb_T c1 c12) s := hK.sub [0, 9] rfl
  obtain ⟨a, ha⟩ : ∃ a : Nat → Nat, a = (fun k => if k = 1 then q_1 else if k = 2 then q_2 else if k = 3 then q_3 else if k = 4 then q_4 else if k = 6 then q_6 else if k = 8 then q_8 else if k = 9 then q_9 else if k = 10 then q_10 else if k = 11 then q_11 else if k = 12 then q_12 else q_15) := ⟨_, rfl⟩
  have hWe : [(h, .inr (0, [.int (nI 0), .ref q_1, .ref q_2, .ref q_3, .ref q_4, .int (nI 0), .ref q_6, .int (nI 0), .ref q_8, .ref q_9, .ref q_10, .ref q_11, .ref q_12, .int (nI 0), .int (nI 0), .ref q_15])), (q_1, .inl (c1, 12, .inl (fun _ => nI 0))), (q_2, .inl (c1, 12, .inl (fun _ => nI 0))), (q_3, .inl (c1, 12, .inl (fun _ => nI 0))), (q_4, .inl (c1, 7, .inl (fun _ => nI 0))), (q_6, .inl (c1, 12, .inl (fun _ => nI 0))), (q_8, .inl (c1, 12, .inl (fun _ => nI 0))), (q_9, .inl (c1, 12, .inl (fun _ => nI 0))), (q_10, .inl (c1, 14, .inl (fun _ => nI 0))), (q_11, .inl (c1, 14, .inl (fun _ => nI 0))), (q_12, .inl (c12, 14, .inl (fun _ => nI 0))), (q_15, .inl (c1, 12, .inl (fun _ => nI 0)))] = cb_WX h a c1 c12 (fun _ _ => 0) := by rw [ha]; rfl
  have hw : cb_W D c1 c12 (cb_WX h a c1 c12) A s (fun _ _ => 0) H locs := ⟨hK, hWe ▸ hP, hWe ▸ hD, hS, hA⟩
  refine cb_aload_n C hl dX0_init_92 rfl ?_
  refine cb_iconst C 0 dX0_init_93 rfl ?_
  refine cb_xp_44 C hw dX0_init_94 (fun H locs hw => ?_)
  have hw := hw.eq (σ' := fun _ _ => 0) (by funext k i; simp [cb_up])
  exact W.vret C.1 C.2.1 B.returns (fun t ht hW => ⟨⟨(a, c1, c12), rfl, trivial, by rw [ht]; exact hw.2.1, va_K.moved hW.alike hw.1, hw.2.2.1⟩, hw.2.2.2.1.F ht⟩) hw.2.2.2.1.2.2 dX0_init_97
abbrev cb_fM0 : List Value := [.null, .null, .null, .int (nI 0), .null, .null]
theorem met_initM (l : Launch) (D : va_G) (h sz : Nat) : Met l yX1_init (ws_ yX1_init cX1_init 1 none) { frames := 4, cells := 5, slots := 8228, locals := 69 } (va_Pc [.ref h] (fun U => U.heap.size = sz ∧ va_P D vwCl [(h, .inr (1, cb_fM0))] U.heap ∧ va_K D vwCl [] U ∧ va_D (fun _ => True) [(h, .inr (1, cb_fM0))]))
    (va_Qv (fun _ : (Nat → Nat) × ClassId × ClassId => True) (fun u t => va_P D vwCl (cb_WM h u.1 u.2.1 u.2.2 (rf_S (fun _ _ => 0))) t.heap ∧ va_K D vwCl (cb_T u.2.1 u.2.2) t ∧ va_D (va_A [(h, .inr (1, cb_fM0))] sz) (cb_WM h u.1 u.2.1 u.2.2 (rf_S (fun _ _ => 0)))) (va_A [(h, .inr (1, cb_fM0))] sz)) 5 8228 (va_A [(h, .inr (1, cb_fM0))] sz) := by
  refine Met.ofW (cc := cX1_init) (maxL := 1) (ret := none) (by decide) rfl ?_
  intro p e_ s m args below meth c s₁ B hml hv
  obtain ⟨rfl, hsz, hP, hK, hD0⟩ := hv
  have hts := atoms_spec (ws := ws_ yX1_init cX1_init 1 none) B.pre
  have hts : ∀ w ∈ lw_all, w.before _ s = true := fun w h => hts w (List.mem_cons_of_mem _ h)
  have hown : s.vm.findClass RX1 = some m.cls := findClass_of_methodNamed B.named
  have hlocks := B.notSynchronized
  have hin : meth.name = "<init>" := (name_of_methodNamed B.named B.method).1
  have C : CallFix p m c cX1_init 1 s _ lw_all RX1 := ⟨B.exec, B.bytes, hml, hown, hts⟩
  subst hsz
  have hD := hD0.self (sz := s.heap.size)
  generalize hAe : va_A [(h, .inr (1, cb_fM0))] s.heap.size = A at hD ⊢
  have hA : ∀ q : Nat, s.heap.size ≤ q → A q := fun q h => by rw [← hAe]; exact Or.inr h
  have hS : va_S A s.heap s.heap [] := va_S.rf
  have hl := (cb_L.entry [.ref h] (n := 1) (fun v hv => by rw [List.mem_singleton.mp hv]; rfl) (Nat.le_of_ble_eq_true rfl) (fun i v h => by have := cb_args [.ref _] (fun v hv => by rw [List.mem_singleton.mp hv]; rfl) 0 i v h; rwa [Nat.zero_add] at this))
  rw [lg_entry_eq]
  generalize (lg_sl ([.ref h]) ++ List.replicate (1 - (lg_sl ([.ref h])).length) Slot.unset).toArray = ls at hl ⊢
  have hl : cb_L ls 1 [some (.ref h)] := hl
  refine cb_aload_n C hl dX1_init_0 rfl ?_
  refine W.objInit C.1 C.2.1 hown (hts _ q171) (hts _ q26) (hts _ q27) rfl (by rw [hml]; exact hl.1) rfl dX1_init_1 (Nat.le_of_ble_eq_true rfl) (Nat.le_of_ble_eq_true rfl) ?_
  refine W.eq (g2 := F0 m 4 ls []) rfl ?_
  have hP : va_P D vwCl [(h, .inr (1, [.null, .null, .null, .int (nI 0), .null, .null]))] s.heap := hP
  have hD : va_D A [(h, .inr (1, [.null, .null, .null, .int (nI 0), .null, .null]))] := hD
  have hK : va_K D vwCl [] s := hK
  refine cb_aload_n C hl dX1_init_4 rfl ?_
  refine cb_bipush C 12 dX1_init_5 rfl ?_
  refine va_newa (ws := [(h, .inr (1, [.null, .null, .null, .int (nI 0), .null, .null]))]) (atype := .int) C.1 C.2.1 (hts _ q77) (ty := .int) rfl hK hP hD hS hA (n := nI 12) (N' := 12) (a0 := (12, .inl (fun _ => nI 0))) (fun _ => rfl) (by decide +kernel) (nI_clamp (by decide)) (by decide) (Nat.le_of_ble_eq_true rfl) (Nat.le_of_ble_eq_true rfl) dX1_init_7 (fun q_0 c0 H hK hP hD hS => ?_)
  refine W.widen (k := 1) (n := 12) (Nat.le_of_ble_eq_true rfl) (Nat.le_of_ble_eq_true rfl) ?_
  have hP : va_P D vwCl [(h, .inr (1, [.null, .null, .null, .int (nI 0), .null, .null])), (q_0, .inl (c0, 12, .inl (fun _ => nI 0)))] H := hP
  have hD : va_D A [(h, .inr (1, [.null, .null, .null, .int (nI 0), .null, .null])), (q_0, .inl (c0, 12, .inl (fun _ => nI 0)))] := hD
  have hK : va_K D vwCl [(c0, .int)] s := hK
  refine va_putF (ws := [(h, .inr (1, [.null, .null, .null, .int (nI 0), .null, .null])), (q_0, .inl (c0, 12, .inl (fun _ => nI 0)))]) (ci := 1) (N := 6) (C := RX1) (T := TX1) C.1 C.2.1 hts in_X1 tyX1 tyX1_ok nmX1 hown hK hP hD hS 0 rfl rfl 0 (by decide) (hts _ q184) (fun _ h => h) rfl hin rfl (ty := .array .int) (v := .ref q_0) (by decide +kernel) rfl rfl (Nat.le_of_ble_eq_true rfl) dX1_init_9 (fun H locs hP hD hS => ?_)
  have hP : va_P D vwCl [(h, .inr (1, [.ref q_0, .null, .null, .int (nI 0), .null, .null])), (q_0, .inl (c0, 12, .inl (fun _ => nI 0)))] H := hP
  have hD : va_D A [(h, .inr (1, [.ref q_0, .null, .null, .int (nI 0), .null, .null])), (q_0, .inl (c0, 12, .inl (fun _ => nI 0)))] := hD
  refine cb_aload_n C hl dX1_init_12 rfl ?_
  refine cb_bipush C 12 dX1_init_13 rfl ?_
  refine va_newa (ws := [(h, .inr (1, [.ref q_0, .null, .null, .int (nI 0), .null, .null])), (q_0, .inl (c0, 12, .inl (fun _ => nI 0)))]) (atype := .int) C.1 C.2.1 (hts _ q77) (ty := .int) rfl hK hP hD hS hA (n := nI 12) (N' := 12) (a0 := (12, .inl (fun _ => nI 0))) (fun _ => rfl) (by decide +kernel) (nI_clamp (by decide)) (by decide) (Nat.le_of_ble_eq_true rfl) (Nat.le_of_ble_eq_true rfl) dX1_init_15 (fun q_1 c1 H hK hP hD hS => ?_)
  refine W.widen (k := 2) (n := 24) (Nat.le_of_ble_eq_true rfl) (Nat.le_of_ble_eq_true rfl) ?_
  have hP : va_P D vwCl [(h, .inr (1, [.ref q_0, .null, .null, .int (nI 0), .null, .null])), (q_0, .inl (c0, 12, .inl (fun _ => nI 0))), (q_1, .inl (c1, 12, .inl (fun _ => nI 0)))] H := hP
  have hD : va_D A [(h, .inr (1, [.ref q_0, .null, .null, .int (nI 0), .null, .null])), (q_0, .inl (c0, 12, .inl (fun _ => nI 0))), (q_1, .inl (c1, 12, .inl (fun _ => nI 0)))] := hD
  have hK : va_K D vwCl [(c0, .int), (c1, .int)] s := hK
  refine va_putF (ws := [(h, .inr (1, [.ref q_0, .null, .null, .int (nI 0), .null, .null])), (q_0, .inl (c0, 12, .inl (fun _ => nI 0))), (q_1, .inl (c1, 12, .inl (fun _ => nI 0)))]) (ci := 1) (N := 6) (C := RX1) (T := TX1) C.1 C.2.1 hts in_X1 tyX1 tyX1_ok nmX1 hown hK hP hD hS 0 rfl rfl 1 (by decide) (hts _ q185) (fun _ h => h) rfl hin rfl (ty := .array .int) (v := .ref q_1) (by decide +kernel) rfl rfl (Nat.le_of_ble_eq_true rfl) dX1_init_17 (fun H locs hP hD hS => ?_)
  have hP : va_P D vwCl [(h, .inr (1, [.ref q_0, .ref q_1, .null, .int (nI 0), .null, .null])), (q_0, .inl (c0, 12, .inl (fun _ => nI 0))), (q_1, .inl (c1, 12, .inl (fun _ => nI 0)))] H := hP
  have hD : va_D A [(h, .inr (1, [.ref q_0, .ref q_1, .null, .int (nI 0), .null, .null])), (q_0, .inl (c0, 12, .inl (fun _ => nI 0))), (q_1, .inl (c1, 12, .inl (fun _ => nI 0)))] := hD
  refine cb_aload_n C hl dX1_init_20 rfl ?_
  refine cb_bipush C 12 dX1_init_21 rfl ?_
  refine va_newa (ws := [(h, .inr (1, [.ref q_0, .ref q_1, .null, .int (nI 0), .null, .null])), (q_0, .inl (c0, 12, .inl (fun _ => nI 0))), (q_1, .inl (c1, 12, .inl (fun _ => nI 0)))]) (atype := .int) C.1 C.2.1 (hts _ q77) (ty := .int) rfl hK hP hD hS hA (n := nI 12) (N' := 12) (a0 := (12, .inl (fun _ => nI 0))) (fun _ => rfl) (by decide +kernel) (nI_clamp (by decide)) (by decide) (Nat.le_of_ble_eq_true rfl) (Nat.le_of_ble_eq_true rfl) dX1_init_23 (fun q_2 c2 H hK hP hD hS => ?_)
  refine W.widen (k := 3) (n := 36) (Nat.le_of_ble_eq_true rfl) (Nat.le_of_ble_eq_true rfl) ?_
  have hP : va_P D vwCl [(h, .inr (1, [.ref q_0, .ref q_1, .null, .int (nI 0), .null, .null])), (q_0, .inl (c0, 12, .inl (fun _ => nI 0))), (q_1, .inl (c1, 12, .inl (fun _ => nI 0))), (q_2, .inl (c2, 12, .inl (fun _ => nI 0)))] H := hP
  have hD : va_D A [(h, .inr (1, [.ref q_0, .ref q_1, .null, .int (nI 0), .null, .null])), (q_0, .inl (c0, 12, .inl (fun _ => nI 0))), (q_1, .inl (c1, 12, .inl (fun _ => nI 0))), (q_2, .inl (c2, 12, .inl (fun _ => nI 0)))] := hD
  have hK : va_K D vwCl [(c0, .int), (c1, .int), (c2, .int)] s := hK
  refine va_putF (ws := [(h, .inr (1, [.ref q_0, .ref q_1, .null, .int (nI 0), .null, .null])), (q_0, .inl (c0, 12, .inl (fun _ => nI 0))), (q_1, .inl (c1, 12, .inl (fun _ => nI 0))), (q_2, .inl (c2, 12, .inl (fun _ => nI 0)))]) (ci := 1) (N := 6) (C := RX1) (T := TX1) C.1 C.2.1 hts in_X1 tyX1 tyX1_ok nmX1 hown hK hP hD hS 0 rfl rfl 2 (by decide) (hts _ q186) (fun _ h => h) rfl hin rfl (ty := .array .int) (v := .ref q_2) (by decide +kernel) rfl rfl (Nat.le_of_ble_eq_true rfl) dX1_init_25 (fun H locs hP hD hS => ?_)
  have hP : va_P D vwCl [(h, .inr (1, [.ref q_0, .ref q_1, .ref q_2, .int (nI 0), .null, .null])), (q_0, .inl (c0, 12, .inl (fun _ => nI 0))), (q_1, .inl (c1, 12, .inl (fun _ => nI 0))), (q_2, .inl (c2, 12, .inl (fun _ => nI 0)))] H := hP
  have hD : va_D A [(h, .inr (1, [.ref q_0, .ref q_1, .ref q_2, .int (nI 0), .null, .null])), (q_0, .inl (c0, 12, .inl (fun _ => nI 0))), (q_1, .inl (c1, 12, .inl (fun _ => nI 0))), (q_2, .inl (c2, 12, .inl (fun _ => nI 0)))] := hD
  refine cb_aload_n C hl dX1_init_28 rfl ?_
  refine cb_sipush C 4096 dX1_init_29 rfl ?_
  refine va_newa (ws := [(h, .inr (1, [.ref q_0, .ref q_1, .ref q_2, .int (nI 0), .null, .null])), (q_0, .inl (c0, 12, .inl (fun _ => nI 0))), (q_1, .inl (c1, 12, .inl (fun _ => nI 0))), (q_2, .inl (c2, 12, .inl (fun _ => nI 0)))]) (atype := .boolean) C.1 C.2.1 (hts _ q78) (ty := .boolean) rfl hK hP hD hS hA (n := nI 4096) (N' := 4096) (a0 := (4096, .inl (fun _ => nI 0))) (fun _ => rfl) (by decide +kernel) (nI_clamp (by decide)) (by decide) (Nat.le_of_ble_eq_true rfl) (Nat.le_of_ble_eq_true rfl) dX1_init_32 (fun q_4 c4 H hK hP hD hS => ?_)
  refine W.widen (k := 4) (n := 4132) (Nat.le_of_ble_eq_true rfl) (Nat.le_of_ble_eq_true rfl) ?_
  have hP : va_P D vwCl [(h, .inr (1, [.ref q_0, .ref q_1, .ref q_2, .int (nI 0), .null, .null])), (q_0, .inl (c0, 12, .inl (fun _ => nI 0))), (q_1, .inl (c1, 12, .inl (fun _ => nI 0))), (q_2, .inl (c2, 12, .inl (fun _ => nI 0))), (q_4, .inl (c4, 4096, .inl (fun _ => nI 0)))] H := hP
  have hD : va_D A [(h, .inr (1, [.ref q_0, .ref q_1, .ref q_2, .int (nI 0), .null, .null])), (q_0, .inl (c0, 12, .inl (fun _ => nI 0))), (q_1, .inl (c1, 12, .inl (fun _ => nI 0))), (q_2, .inl (c2, 12, .inl (fun _ => nI 0))), (q_4, .inl (c4, 4096, .inl (fun _ => nI 0)))] := hD
  have hK : va_K D vwCl [(c0, .int), (c1, .int), (c2, .int), (c4, .boolean)] s := hK
  refine va_putF (ws := [(h, .inr (1, [.ref q_0, .ref q_1, .ref q_2, .int (nI 0), .null, .null])), (q_0, .inl (c0, 12, .inl (fun _ => nI 0))), (q_1, .inl (c1, 12, .inl (fun _ => nI 0))), (q_2, .inl (c2, 12, .inl (fun _ => nI 0))), (q_4, .inl (c4, 4096, .inl (fun _ => nI 0)))]) (ci := 1) (N := 6) (C := RX1) (T := TX1) C.1 C.2.1 hts in_X1 tyX1 tyX1_ok nmX1 hown hK hP hD hS 0 rfl rfl 4 (by decide) (hts _ q188) (fun _ h => h) rfl hin rfl (ty := .array .boolean) (v := .ref q_4) (by decide +kernel) rfl rfl (Nat.le_of_ble_eq_true rfl) dX1_init_34 (fun H locs hP hD hS => ?_)
  have hP : va_P D vwCl [(h, .inr (1, [.ref q_0, .ref q_1, .ref q_2, .int (nI 0), .ref q_4, .null])), (q_0, .inl (c0, 12, .inl (fun _ => nI 0))), (q_1, .inl (c1, 12, .inl (fun _ => nI 0))), (q_2, .inl (c2, 12, .inl (fun _ => nI 0))), (q_4, .inl (c4, 4096, .inl (fun _ => nI 0)))] H := hP
  have hD : va_D A [(h, .inr (1, [.ref q_0, .ref q_1, .ref q_2, .int (nI 0), .ref q_4, .null])), (q_0, .inl (c0, 12, .inl (fun _ => nI 0))), (q_1, .inl (c1, 12, .inl (fun _ => nI 0))), (q_2, .inl (c2, 12, .inl (fun _ => nI 0))), (q_4, .inl (c4, 4096, .inl (fun _ => nI 0)))] := hD
  refine cb_aload_n C hl dX1_init_37 rfl ?_
  refine cb_sipush C 4096 dX1_init_38 rfl ?_
  refine va_newa (ws := [(h, .inr (1, [.ref q_0, .ref q_1, .ref q_2, .int (nI 0), .ref q_4, .null])), (q_0, .inl (c0, 12, .inl (fun _ => nI 0))), (q_1, .inl (c1, 12, .inl (fun _ => nI 0))), (q_2, .inl (c2, 12, .inl (fun _ => nI 0))), (q_4, .inl (c4, 4096, .inl (fun _ => nI 0)))]) (atype := .int) C.1 C.2.1 (hts _ q77) (ty := .int) rfl hK hP hD hS hA (n := nI 4096) (N' := 4096) (a0 := (4096, .inl (fun _ => nI 0))) (fun _ => rfl) (by decide +kernel) (nI_clamp (by decide)) (by decide) (Nat.le_of_ble_eq_true rfl) (Nat.le_of_ble_eq_true rfl) dX1_init_41 (fun q_5 c5 H hK hP hD hS => ?_)
  refine W.widen (k := 5) (n := 8228) (Nat.le_of_ble_eq_true rfl) (Nat.le_of_ble_eq_true rfl) ?_
  have hP : va_P D vwCl [(h, .inr (1, [.ref q_0, .ref q_1, .ref q_2, .int (nI 0), .ref q_4, .null])), (q_0, .inl (c0, 12, .inl (fun _ => nI 0))), (q_1, .inl (c1, 12, .inl (fun _ => nI 0))), (q_2, .inl (c2, 12, .inl (fun _ => nI 0))), (q_4, .inl (c4, 4096, .inl (fun _ => nI 0))), (q_5, .inl (c5, 4096, .inl (fun _ => nI 0)))] H := hP
  have hD : va_D A [(h, .inr (1, [.ref q_0, .ref q_1, .ref q_2, .int (nI 0), .ref q_4, .null])), (q_0, .inl (c0, 12, .inl (fun _ => nI 0))), (q_1, .inl (c1, 12, .inl (fun _ => nI 0))), (q_2, .inl (c2, 12, .inl (fun _ => nI 0))), (q_4, .inl (c4, 4096, .inl (fun _ => nI 0))), (q_5, .inl (c5, 4096, .inl (fun _ => nI 0)))] := hD
  have hK : va_K D vwCl [(c0, .int), (c1, .int), (c2, .int), (c4, .boolean), (c5, .int)] s := hK
  refine va_putF (ws := [(h, .inr (1, [.ref q_0, .ref q_1, .ref q_2, .int (nI 0), .ref q_4, .null])), (q_0, .inl (c0, 12, .inl (fun _ => nI 0))), (q_1, .inl (c1, 12, .inl (fun _ => nI 0))), (q_2, .inl (c2, 12, .inl (fun _ => nI 0))), (q_4, .inl (c4, 4096, .inl (fun _ => nI 0))), (q_5, .inl (c5, 4096, .inl (fun _ => nI 0)))]) (ci := 1) (N := 6) (C := RX1) (T := TX1) C.1 C.2.1 hts in_X1 tyX1 tyX1_ok nmX1 hown hK hP hD hS 0 rfl rfl 5 (by decide) (hts _ q189) (fun _ h => h) rfl hin rfl (ty := .array .int) (v := .ref q_5) (by decide +kernel) rfl rfl (Nat.le_of_ble_eq_true rfl) dX1_init_43 (fun H locs hP hD hS => ?_)
  have hP : va_P D vwCl [(h, .inr (1, [.ref q_0, .ref q_1, .ref q_2, .int (nI 0), .ref q_4, .ref q_5])), (q_0, .inl (c0, 12, .inl (fun _ => nI 0))), (q_1, .inl (c1, 12, .inl (fun _ => nI 0))), (q_2, .inl (c2, 12, .inl (fun _ => nI 0))), (q_4, .inl (c4, 4096, .inl (fun _ => nI 0))), (q_5, .inl (c5, 4096, .inl (fun _ => nI 0)))] H := hP
  have hD : va_D A [(h, .inr (1, [.ref q_0, .ref q_1, .ref q_2, .int (nI 0), .ref q_4, .ref q_5])), (q_0, .inl (c0, 12, .inl (fun _ => nI 0))), (q_1, .inl (c1, 12, .inl (fun _ => nI 0))), (q_2, .inl (c2, 12, .inl (fun _ => nI 0))), (q_4, .inl (c4, 4096, .inl (fun _ => nI 0))), (q_5, .inl (c5, 4096, .inl (fun _ => nI 0)))] := hD
  obtain rfl : c0 = c1 := cb_cid hK (i := 0) (j := 1) (Or.inl rfl) rfl rfl
  obtain rfl : c0 = c2 := cb_cid hK (i := 0) (j := 2) (Or.inl rfl) rfl rfl
  obtain rfl : c0 = c5 := cb_cid hK (i := 0) (j := 4) (Or.inl rfl) rfl rfl
  have hK : va_K D vwCl (cb_T c0 c4) s := hK.sub [0, 3] rfl
  obtain ⟨a, ha⟩ : ∃ a : Nat → Nat, a = (fun k => if k = 0 then q_0 else if k = 1 then q_1 else if k = 2 then q_2 else if k = 4 then q_4 else q_5) := ⟨_, rfl⟩
  have hWe : [(h, .inr (1, [.ref q_0, .ref q_1, .ref q_2, .int (nI 0), .ref q_4, .ref q_5])), (q_0, .inl (c0, 12, .inl (fun _ => nI 0))), (q_1, .inl (c0, 12, .inl (fun _ => nI 0))), (q_2, .inl (c0, 12, .inl (fun _ => nI 0))), (q_4, .inl (c4, 4096, .inl (fun _ => nI 0))), (q_5, .inl (c0, 4096, .inl (fun _ => nI 0)))] = cb_WM h a c0 c4 (fun _ _ => 0) := by rw [ha]; rfl
  have hw : cb_W D c0 c4 (cb_WM h a c0 c4) A s (fun _ _ => 0) H locs := ⟨hK, hWe ▸ hP, hWe ▸ hD, hS, hA⟩
  refine cb_aload_n C hl dX1_init_46 rfl ?_
  refine cb_callVV C hw (mm_refresh l D _ _ h a (fun _ _ => 0) ⟨Nat.zero_le _, fun e he => absurd he (Nat.not_lt_zero _)⟩) (cwX1_X1_refresh C.2.2.2.2 ⟨Nat.le_of_ble_eq_true rfl, Nat.le_of_ble_eq_true rfl⟩) (cb_reM hw) rfl hl.1 rfl (Nat.le_of_ble_eq_true rfl) ⟨Nat.le_of_ble_eq_true rfl, Nat.le_of_ble_eq_true rfl⟩ dX1_init_47 (fun H locs hw => ?_)
  exact W.vret C.1 C.2.1 B.returns (fun t ht hW => ⟨⟨(a, c0, c4), rfl, trivial, by rw [ht]; exact hw.2.1, va_K.moved hW.alike hw.1, hw.2.2.1⟩, hw.2.2.2.1.F ht⟩) hw.2.2.2.1.2.2 dX1_init_50
end
section
/-! what the law's calls rest on: the answers are equal, the two objects stay alike -/
def cb_E (σ τ : cb_S) : Prop := cb_OK σ ∧ mo_OK τ ∧ τ 3 0 = σ 0 0 ∧ (∀ e, e < σ 0 0 → τ 0 e = σ 1 e ∧ τ 1 e = σ 2 e ∧ τ 2 e = σ 3 e) ∧ ∀ x, x < 4096 → τ 5 x = cw_f τ x
theorem cb_E.w {σ τ : cb_S} (h : cb_E σ τ) : mo_W τ := fun x hx => by
  rw [h.2.2.2.2 x hx]
  have := cw_f_lt h.2.1 x
  omega
theorem cb_E.g {σ σ' τ : cb_S} (h : cb_E σ τ) (g : cb_G σ σ') : cb_E σ' τ := by
  refine ⟨g.ok h.1, h.2.1, ?_, ?_, h.2.2.2.2⟩
  · rw [g 0 (by decide)]; exact h.2.2.1
  · rw [g 0 (by decide), g 1 (by decide), g 2 (by decide), g 3 (by decide)]; exact h.2.2.2.1
theorem cb_E.m {σ τ τ' : cb_S} (h : cb_E σ τ) (g : ∀ k, k ≠ 4 → τ' k = τ k) : cb_E σ τ' := by
  have g' : cb_G τ τ' := fun k hk => g k (by omega)
  refine ⟨h.1, mo_OK.of g' h.2.1, ?_, ?_, ?_⟩
  · rw [g 3 (by decide)]; exact h.2.2.1
  · rw [g 0 (by decide), g 1 (by decide), g 2 (by decide)]; exact h.2.2.2.1
  · intro x hx; rw [g 5 (by decide), cw_f_G g']; exact h.2.2.2.2 x hx
theorem rf_E {σ τ : cb_S} (ok : cb_OK σ) (okm : mo_OK τ) (h3 : τ 3 0 = σ 0 0) (hg : ∀ e, e < σ 0 0 → τ 0 e = σ 1 e ∧ τ 1 e = σ 2 e ∧ τ 2 e = σ 3 e) : cb_E σ (rf_S τ) := by
  have g : cb_G τ (rf_S τ) := fun k hk => rf_S_k τ (by omega)
  refine ⟨ok, mo_OK.of g okm, ?_, ?_, ?_⟩
  · rw [g 3 (by decide)]; exact h3
  · rw [g 0 (by decide), g 1 (by decide), g 2 (by decide)]; exact hg
  · intro x hx; rw [rf_S_5 τ x hx, cw_f_G g]
theorem eq_init : cb_E (fun _ _ => 0) (rf_S (fun _ _ => 0)) :=
  rf_E ⟨Nat.zero_le _, fun e he => absurd he (Nat.not_lt_zero _)⟩ ⟨Nat.zero_le _, fun e he => absurd he (Nat.not_lt_zero _)⟩ rfl (fun e he => absurd he (Nat.not_lt_zero _))
theorem eq_edge {σ τ : cb_S} (h : cb_E σ τ) (u v w : Nat) : (ed_p σ u v w).2 = (me_p τ u v w).2 ∧ cb_E (ed_p σ u v w).1 (me_p τ u v w).1 := by
  obtain ⟨ok, okm, h3, hg, h5⟩ := id h
  unfold ed_p me_p
  by_cases c1 : ¬ (u < 7 ∧ v < 7 ∧ u ≠ v)
  · rw [if_pos c1, if_pos c1]; exact ⟨rfl, h⟩
  · rw [if_neg c1, if_neg c1]
    by_cases c2 : ¬ (1 ≤ w ∧ w ≤ 100)
    · rw [if_pos c2, if_pos c2]; exact ⟨rfl, h⟩
    · rw [if_neg c2, if_neg c2]
      have hc := ok.1
      by_cases c3 : 12 ≤ σ 0 0
      · rw [if_pos c3, if_pos (by omega)]; exact ⟨rfl, h⟩
      · rw [if_neg c3, if_neg (by omega)]
        dsimp only
        refine ⟨h3.symm, rf_E ?_ ?_ ?_ ?_⟩
        · refine ⟨by rw [cb_up_s]; omega, fun e he => ?_⟩
          rw [cb_up_s] at he
          by_cases hen : e = σ 0 0
          · subst hen; simp [cb_up]; omega
          · have g := ok.2 e (by omega)
            simp [cb_up, hen]; exact g
        · refine ⟨by rw [cb_up_s]; omega, fun e he => ?_⟩
          rw [cb_up_s] at he
          by_cases hen : e = τ 3 0
          · subst hen; simp [cb_up]; omega
          · have g := okm.2 e (by omega)
            simp [cb_up, hen]; exact g
        · rw [cb_up_s, cb_up_s, h3]
        · intro e he
          rw [cb_up_s] at he
          rw [h3]
          by_cases hen : e = σ 0 0
          · subst hen; simp [cb_up]
          · have g := hg e (by omega)
            simp [cb_up, hen]; exact g
theorem eq_reweigh {σ τ : cb_S} (h : cb_E σ τ) (k w : Nat) : (rw_p σ k w).2 = (mr_p τ k w).2 ∧ cb_E (rw_p σ k w).1 (mr_p τ k w).1 := by
  obtain ⟨ok, okm, h3, hg, h5⟩ := id h
  unfold rw_p mr_p
  rw [h3]
  by_cases c1 : ¬ k < σ 0 0
  · rw [if_pos c1, if_pos c1]; exact ⟨rfl, h⟩
  · rw [if_neg c1, if_neg c1]
    by_cases c2 : ¬ (1 ≤ w ∧ w ≤ 100)
    · rw [if_pos c2, if_pos c2]; exact ⟨rfl, h⟩
    · rw [if_neg c2, if_neg c2]
      dsimp only
      refine ⟨((hg k (by omega)).2.2).symm, rf_E ?_ ?_ ?_ ?_⟩
      · refine ⟨by rw [cb_up_k _ (by decide)]; exact ok.1, fun e he => ?_⟩
        rw [cb_up_k _ (by decide)] at he
        have g := ok.2 e he
        by_cases hen : e = k
        · subst hen; simp [cb_up]; omega
        · simp [cb_up, hen]; exact g
      · refine ⟨by rw [cb_up_k _ (by decide)]; exact okm.1, fun e he => ?_⟩
        rw [cb_up_k _ (by decide)] at he
        have g := okm.2 e he
        by_cases hen : e = k
        · subst hen; simp [cb_up]; omega
        · simp [cb_up, hen]; exact g
      · rw [cb_up_k _ (by decide), cb_up_k _ (by decide)]; exact h3
      · intro e he
        rw [cb_up_k _ (by decide)] at he
        have g := hg e he
        by_cases hen : e = k
        · subst hen; simp [cb_up]; exact ⟨g.1, g.2.1⟩
        · simp [cb_up, hen]; exact g
theorem eq_drop {σ τ : cb_S} (h : cb_E σ τ) : (dr_p σ).2 = (md_p τ).2 ∧ cb_E (dr_p σ).1 (md_p τ).1 := by
  obtain ⟨ok, okm, h3, hg, h5⟩ := id h
  unfold dr_p md_p
  rw [h3]
  by_cases c1 : σ 0 0 = 0
  · rw [if_pos c1, if_pos c1]; exact ⟨rfl, h⟩
  · rw [if_neg c1, if_neg c1]
    dsimp only
    refine ⟨rfl, rf_E ?_ ?_ ?_ ?_⟩
    · refine ⟨by rw [cb_up_s]; have := ok.1; omega, fun e he => ?_⟩
      rw [cb_up_s] at he
      rw [cb_up_k _ (by decide), cb_up_k _ (by decide), cb_up_k _ (by decide)]
      exact ok.2 e (by omega)
    · refine ⟨by rw [cb_up_s]; have := ok.1; omega, fun e he => ?_⟩
      rw [cb_up_s] at he
      rw [cb_up_k _ (by decide), cb_up_k _ (by decide), cb_up_k _ (by decide)]
      exact okm.2 e (by omega)
    · rw [cb_up_s, cb_up_s]
    · intro e he
      rw [cb_up_s] at he
      rw [cb_up_k _ (by decide), cb_up_k _ (by decide), cb_up_k _ (by decide), cb_up_k _ (by decide), cb_up_k _ (by decide), cb_up_k _ (by decide)]
      exact hg e (by omega)
theorem mt_f_k : ∀ (n : Nat) (τ : cb_S) (sum : Nat) {k : Nat}, k ≠ 4 → (mt_f n τ sum).1 k = τ k := by
  intro n
  induction n with
  | zero => intro τ sum k h; rfl
  | succ n ih =>
    intro τ sum k h
    unfold mt_f
    split
    · exact ih _ _ h
    · rw [ih _ _ h, tk_S_k _ _ h]
theorem mp_f_k (i : Nat) : ∀ (n j : Nat) (τ : cb_S) {k : Nat}, k ≠ 4 → (mp_f i n j τ).1 k = τ k := by
  intro n
  induction n with
  | zero => intro j τ k h; rfl
  | succ n ih =>
    intro j τ k h
    unfold mp_f
    split
    · rfl
    · split
      · rfl
      · rw [ih _ _ h, tk_S_k _ _ h]
theorem ml_f_k (mask : Nat) : ∀ (n : Nat) (τ : cb_S) (last : Nat) {k : Nat}, k ≠ 4 → (ml_f mask n τ last).1 k = τ k := by
  intro n
  induction n with
  | zero => intro τ last k h; rfl
  | succ n ih =>
    intro τ last k h
    unfold ml_f
    split
    · rfl
    · rw [ih _ _ h, tk_S_k _ _ h]
theorem le_f_G (mask : Nat) : ∀ (n i : Nat) (s : cb_S), cb_G s (le_f mask n i s).1 := by
  intro n
  induction n with
  | zero => intro i s; exact cb_G.rf s
  | succ n ih =>
    intro i s
    have g1 : cb_G s (le_1 s i) := fun k hk => le_1_k s i (by omega)
    unfold le_f
    split
    · exact g1
    · exact g1.tr (ih _ _)
theorem th_p_G (σ : cb_S) (k : Nat) : cb_G σ (th_p σ k).1 := by
  unfold th_p
  split
  · exact cb_G.rf σ
  · exact sf_S_G _ _ _ _
theorem le_p_G (σ : cb_S) (mask : Nat) : cb_G σ (le_p σ mask).1 := by
  unfold le_p
  split
  · exact cb_G.rf σ
  · split
    · exact cb_G.rf σ
    · refine (so_S_G σ).tr (cb_G.tr (fun k hk => le_z_k _ (by omega) 12) (le_f_G _ _ _ _))
theorem mt_p_k (τ : cb_S) {k : Nat} (h : k ≠ 4) : (mt_p τ).1 k = τ k := by unfold mt_p; rw [mt_f_k _ _ _ h, fo_S_k _ h]
theorem mp_p_k (τ : cb_S) (i : Nat) {k : Nat} (h : k ≠ 4) : (mp_p τ i).1 k = τ k := by unfold mp_p; rw [mp_f_k _ _ _ _ h, fo_S_k _ h]
theorem ml_p_k (τ : cb_S) (mask : Nat) {k : Nat} (h : k ≠ 4) : (ml_p τ mask).1 k = τ k := by
  unfold ml_p
  split
  · rfl
  · rw [ml_f_k _ _ _ _ h, fo_S_k _ h]
end
section
/-! PURE THEORY: xor sums, boundaries, pairings, weights -/
def xs_f (f : Nat → Bool) : Nat → Bool
  | 0 => false
  | n + 1 => xs_f f n ^^ f n
theorem xs_congr {f g : Nat → Bool} {n : Nat} (h : ∀ e, e < n → f e = g e) : xs_f f n = xs_f g n := by
  induction n with
  | zero => rfl
  | succ n ih => unfold xs_f; rw [ih (fun e he => h e (by omega)), h n (by omega)]
theorem xs_false {f : Nat → Bool} {n : Nat} (h : ∀ e, e < n → f e = false) : xs_f f n = false := by
  induction n with
  | zero => rfl
  | succ n ih => unfold xs_f; rw [ih (fun e he => h e (by omega)), h n (by omega)]; rfl
theorem xs_xor (f g : Nat → Bool) (n : Nat) : xs_f (fun e => f e ^^ g e) n = (xs_f f n ^^ xs_f g n) := by
  induction n with
  | zero => rfl
  | succ n ih =>
    unfold xs_f
    rw [ih]
    cases xs_f f n <;> cases xs_f g n <;> cases f n <;> cases g n <;> rfl
theorem xs_and (b : Bool) (f : Nat → Bool) (n : Nat) : xs_f (fun e => b && f e) n = (b && xs_f f n) := by
  induction n with
  | zero => cases b <;> rfl
  | succ n ih =>
    unfold xs_f
    rw [ih]
    cases b <;> cases xs_f f n <;> cases f n <;> rfl
theorem xs_single {f : Nat → Bool} {n e0 : Nat} (h0 : e0 < n) (h : ∀ e, e < n → e ≠ e0 → f e = false) : xs_f f n = f e0 := by
  induction n with
  | zero => omega
  | succ n ih =>
    unfold xs_f
    by_cases he : e0 = n
    · subst he
      rw [xs_false (fun e he => h e (by omega) (by omega))]
      cases f e0 <;> rfl
    · rw [ih (by omega) (fun e h1 h2 => h e (by omega) h2), h n (by omega) (by omega)]
      cases f e0 <;> rfl
theorem xs_true {f : Nat → Bool} {n : Nat} (h : xs_f f n = true) : ∃ e, e < n ∧ f e = true := by
  induction n with
  | zero => cases h
  | succ n ih =>
    unfold xs_f at h
    cases hf : f n with
    | true => exact ⟨n, by omega, hf⟩
    | false =>
      rw [hf] at h
      obtain ⟨e, h1, h2⟩ := ih (by simpa using h)
      exact ⟨e, by omega, h2⟩
theorem xs_swap (f : Nat → Nat → Bool) (n m : Nat) : xs_f (fun e => xs_f (fun x => f e x) m) n = xs_f (fun x => xs_f (fun e => f e x) n) m := by
  induction n with
  | zero => exact (xs_false (fun _ _ => rfl)).symm
  | succ n ih =>
    have h : xs_f (fun x => xs_f (fun e => f e x) (n + 1)) m = xs_f (fun x => xs_f (fun e => f e x) n ^^ f n x) m := rfl
    rw [h, xs_xor, ← ih]
    rfl
/-! bits -/
theorem tb_pow (e k : Nat) : (2 ^ e).testBit k = decide (e = k) := Nat.testBit_two_pow
theorem tb_lt {S n k : Nat} (h : S < 2 ^ n) (hk : n ≤ k) : S.testBit k = false := Nat.testBit_lt_two_pow (Nat.lt_of_lt_of_le h (Nat.pow_le_pow_right (by decide) hk))
theorem tb_of {S n k : Nat} (h : S < 2 ^ n) (hk : S.testBit k = true) : k < n := by
  rcases Nat.lt_or_ge k n with q | q
  · exact q
  · rw [tb_lt h q] at hk; cases hk
theorem tb_lt_of {S n : Nat} (h : ∀ k, n ≤ k → S.testBit k = false) : S < 2 ^ n := Nat.lt_pow_two_of_testBit S h
theorem tb_ext {S T : Nat} (h : ∀ k, S.testBit k = T.testBit k) : S = T := Nat.eq_of_testBit_eq h
theorem tb_zero {S n : Nat} (h : S < 2 ^ n) (hz : ∀ k, k < n → S.testBit k = false) : S = 0 := by
  apply tb_ext
  intro k
  rw [Nat.zero_testBit]
  rcases Nat.lt_or_ge k n with q | q
  · exact hz k q
  · exact tb_lt h q
theorem tb_and (S e : Nat) : (S >>> e) &&& 1 = (S.testBit e).toNat := by
  rw [Nat.and_one_is_mod, Nat.shiftRight_eq_div_pow, Nat.testBit_eq_decide_div_mod_eq]
  rcases Nat.mod_two_eq_zero_or_one (S / 2 ^ e) with h | h <;> simp [h]
theorem tb_1 (S e : Nat) : (S >>> e) &&& 1 = 1 ↔ S.testBit e = true := by
  rw [tb_and]; cases S.testBit e <;> simp
theorem tb_0 (S e : Nat) : (S >>> e) &&& 1 = 0 ↔ S.testBit e = false := by
  rw [tb_and]; cases S.testBit e <;> simp
theorem xx (a b : Nat) : a ^^^ b ^^^ b = a := by rw [Nat.xor_assoc, Nat.xor_self, Nat.xor_zero]
/-! boundary -/
def gb (u v : Nat → Nat) (n S x : Nat) : Bool := xs_f (fun e => S.testBit e && (decide (u e = x) ^^ decide (v e = x))) n
theorem gb_xor (u v : Nat → Nat) (n S T x : Nat) : gb u v n (S ^^^ T) x = (gb u v n S x ^^ gb u v n T x) := by
  unfold gb
  rw [← xs_xor]
  apply xs_congr
  intro e _
  rw [Nat.testBit_xor]
  cases S.testBit e <;> cases T.testBit e <;> simp
theorem gb_bit {u v : Nat → Nat} {n e : Nat} (he : e < n) (x : Nat) : gb u v n (2 ^ e) x = (decide (u e = x) ^^ decide (v e = x)) := by
  unfold gb
  rw [xs_single he]
  · rw [tb_pow]; simp
  · intro k _ hk
    rw [tb_pow]
    have : ¬ e = k := fun q => hk q.symm
    simp [this]
theorem gb_zero (u v : Nat → Nat) (n x : Nat) : gb u v n 0 x = false := xs_false (fun e _ => by simp)
/-- closed sets of edges -/
def gc (u v : Nat → Nat) (n S : Nat) : Prop := S < 2 ^ n ∧ ∀ x, gb u v n S x = false
theorem gc_zero (u v : Nat → Nat) (n : Nat) : gc u v n 0 := ⟨Nat.two_pow_pos n, fun x => gb_zero u v n x⟩
theorem gc_xor {u v : Nat → Nat} {n S T : Nat} (h : gc u v n S) (g : gc u v n T) : gc u v n (S ^^^ T) :=
  ⟨Nat.xor_lt_two_pow h.1 g.1, fun x => by rw [gb_xor, h.2, g.2]; rfl⟩
/-! pairing -/
def ip (S T : Nat) : Bool := xs_f (fun e => S.testBit e && T.testBit e) 12
theorem ip_xr (S T U : Nat) : ip S (T ^^^ U) = (ip S T ^^ ip S U) := by
  unfold ip
  rw [← xs_xor]
  apply xs_congr
  intro e _
  rw [Nat.testBit_xor]
  cases S.testBit e <;> cases T.testBit e <;> cases U.testBit e <;> rfl
theorem ip_xl (S T U : Nat) : ip (S ^^^ T) U = (ip S U ^^ ip T U) := by
  unfold ip
  rw [← xs_xor]
  apply xs_congr
  intro e _
  rw [Nat.testBit_xor]
  cases S.testBit e <;> cases T.testBit e <;> cases U.testBit e <;> rfl
theorem ip_0r (S : Nat) : ip S 0 = false := xs_false (fun e _ => by simp)
theorem ip_0l (S : Nat) : ip 0 S = false := xs_false (fun e _ => by simp)
theorem ip_br {e : Nat} (he : e < 12) (S : Nat) : ip S (2 ^ e) = S.testBit e := by
  unfold ip
  rw [xs_single he]
  · rw [tb_pow]; simp
  · intro k _ hk
    rw [tb_pow]
    have : ¬ e = k := fun q => hk q.symm
    simp [this]
theorem ip_bl {e : Nat} (he : e < 12) (S : Nat) : ip (2 ^ e) S = S.testBit e := by
  unfold ip
  rw [xs_single he]
  · rw [tb_pow]; simp
  · intro k _ hk
    rw [tb_pow]
    have : ¬ e = k := fun q => hk q.symm
    simp [this]
/-! weight -/
def wt_f (w : Nat → Nat) (S : Nat) : Nat → Nat
  | 0 => 0
  | n + 1 => wt_f w S n + (if S.testBit n then w n else 0)
theorem wt_congr {w : Nat → Nat} {S T n : Nat} (h : ∀ k, k < n → S.testBit k = T.testBit k) : wt_f w S n = wt_f w T n := by
  induction n with
  | zero => rfl
  | succ n ih => unfold wt_f; rw [ih (fun k hk => h k (by omega)), h n (by omega)]
theorem wt_zero (w : Nat → Nat) (n : Nat) : wt_f w 0 n = 0 := by
  induction n with
  | zero => rfl
  | succ n ih => unfold wt_f; rw [ih]; simp
theorem wt_mono {w : Nat → Nat} {S T n : Nat} (h : ∀ k, k < n → S.testBit k = true → T.testBit k = true) : wt_f w S n ≤ wt_f w T n := by
  induction n with
  | zero => exact Nat.le_refl _
  | succ n ih =>
    have h1 := ih (fun k hk => h k (by omega))
    have h2 := h n (by omega)
    unfold wt_f
    cases hs : S.testBit n with
    | false => simp; omega
    | true => rw [h2 hs]; simp; omega
theorem wt_xor_le (w : Nat → Nat) (S T n : Nat) : wt_f w (S ^^^ T) n ≤ wt_f w S n + wt_f w T n := by
  induction n with
  | zero => exact Nat.le_refl _
  | succ n ih =>
    unfold wt_f
    rw [Nat.testBit_xor]
    cases S.testBit n <;> cases T.testBit n <;> simp <;> omega
theorem wt_split {w : Nat → Nat} {S T n : Nat} (h : ∀ k, k < n → T.testBit k = true → S.testBit k = true) : wt_f w S n = wt_f w T n + wt_f w (S ^^^ T) n := by
  induction n with
  | zero => rfl
  | succ n ih =>
    have h1 := ih (fun k hk => h k (by omega))
    have h2 := h n (by omega)
    unfold wt_f
    rw [Nat.testBit_xor]
    cases ht : T.testBit n with
    | false => cases S.testBit n <;> simp <;> omega
    | true => rw [h2 ht]; simp; omega
theorem wt_bit {w : Nat → Nat} {n e : Nat} (he : e < n) : wt_f w (2 ^ e) n = w e := by
  induction n with
  | zero => omega
  | succ n ih =>
    unfold wt_f
    rw [tb_pow]
    by_cases h : e = n
    · subst h
      rw [show wt_f w (2 ^ e) e = wt_f w 0 e from wt_congr (fun k hk => by rw [tb_pow, Nat.zero_testBit]; simp; omega), wt_zero]
      simp
    · rw [ih (by omega)]; simp [h]
/-- a bit less -/
theorem wt_less {w : Nat → Nat} {S n e : Nat} (he : e < n) (h : S.testBit e = true) : wt_f w S n = w e + wt_f w (S ^^^ 2 ^ e) n := by
  rw [← wt_bit (w := w) he]
  apply wt_split
  intro k _ hk
  rw [tb_pow] at hk
  have : e = k := by simpa using hk
  rw [← this]; exact h
/-- a bit more -/
theorem wt_more {w : Nat → Nat} {S n e : Nat} (he : e < n) (h : S.testBit e = false) : wt_f w (S ^^^ 2 ^ e) n = wt_f w S n + w e := by
  have h1 : (S ^^^ 2 ^ e).testBit e = true := by rw [Nat.testBit_xor, h, tb_pow]; simp
  rw [wt_less he h1, xx, Nat.add_comm]
theorem wt_le (w : Nat → Nat) (S : Nat) : ∀ n, (∀ e, e < n → w e ≤ 100) → wt_f w S n ≤ n * 100 := by
  intro n
  induction n with
  | zero => intro _; exact Nat.le_refl 0
  | succ n ih =>
    intro h
    have h1 := ih (fun e he => h e (by omega))
    have h2 := h n (by omega)
    unfold wt_f
    split <;> omega
end
section
/-! the mirrors' closed sets and weights are the pure ones -/
theorem cl_tb {σ : cb_S} (mask n x : Nat) : (cl_f σ mask n).testBit x = gb (σ 1) (σ 2) n mask x := by
  induction n with
  | zero => exact Nat.zero_testBit x
  | succ n ih =>
    show (if (mask >>> n) &&& 1 = 1 then cl_f σ mask n ^^^ (2 ^ σ 1 n ^^^ 2 ^ σ 2 n) else cl_f σ mask n).testBit x = (gb (σ 1) (σ 2) n mask x ^^ (mask.testBit n && (decide (σ 1 n = x) ^^ decide (σ 2 n = x))))
    rw [← ih]
    by_cases h : mask.testBit n = true
    · rw [if_pos ((tb_1 _ _).mpr h), Nat.testBit_xor, Nat.testBit_xor, tb_pow, tb_pow, h]
      simp
    · rw [if_neg (fun q => h ((tb_1 _ _).mp q))]
      have h' : mask.testBit n = false := by simpa using h
      rw [h']; simp
theorem cl_zero {σ : cb_S} (mask n : Nat) : cl_f σ mask n = 0 ↔ ∀ x, gb (σ 1) (σ 2) n mask x = false := by
  constructor
  · intro h x; rw [← cl_tb, h, Nat.zero_testBit]
  · intro h
    apply tb_ext
    intro x
    rw [cl_tb, h, Nat.zero_testBit]
theorem shr_zero (mask n : Nat) : mask >>> n = 0 ↔ mask < 2 ^ n := by
  rw [Nat.shiftRight_eq_div_pow]
  constructor
  · intro h
    rcases Nat.div_eq_zero_iff.mp h with q | q
    · exact absurd q (Nat.ne_of_gt (Nat.two_pow_pos _))
    · exact q
  · exact Nat.div_eq_of_lt
theorem cl_r_iff {σ : cb_S} (ok : cb_OK σ) (mask : Nat) : (gc (σ 1) (σ 2) (σ 0 0) mask → cl_r σ mask = 1) ∧ (¬ gc (σ 1) (σ 2) (σ 0 0) mask → cl_r σ mask = 0) := by
  have h12 := pw_12 ok.1
  unfold cl_r
  constructor
  · intro h
    rw [if_neg, if_pos ((cl_zero _ _).mpr h.2)]
    have h1 := h.1
    have := (shr_zero mask (σ 0 0)).mpr h1
    omega
  · intro h
    by_cases h1 : 2147483648 ≤ mask ∨ mask >>> σ 0 0 ≠ 0
    · rw [if_pos h1]
    · rw [if_neg h1, if_neg]
      intro q
      refine h ⟨?_, (cl_zero _ _).mp q⟩
      exact (shr_zero mask (σ 0 0)).mp (by omega)
theorem dg_par {τ : cb_S} (set v : Nat) : ∀ n, (∀ e, e < n → τ 0 e ≠ τ 1 e) → dg_f τ set v n % 2 = (gb (τ 0) (τ 1) n set v).toNat := by
  intro n
  induction n with
  | zero => intro _; rfl
  | succ n ih =>
    intro h
    have ih' := ih (fun e he => h e (by omega))
    have hn := h n (by omega)
    show (if (set >>> n) &&& 1 ≠ 0 ∧ (τ 0 n = v ∨ τ 1 n = v) then dg_f τ set v n + 1 else dg_f τ set v n) % 2 = (gb (τ 0) (τ 1) n set v ^^ (set.testBit n && (decide (τ 0 n = v) ^^ decide (τ 1 n = v)))).toNat
    cases hb : set.testBit n with
    | false =>
      rw [if_neg (fun q => q.1 ((tb_0 _ _).mpr hb)), ih']
      simp
    | true =>
      have hb' : (set >>> n) &&& 1 ≠ 0 := fun q => by rw [(tb_0 _ _).mp q] at hb; cases hb
      by_cases h0 : τ 0 n = v
      · have h1 : ¬ τ 1 n = v := fun q => hn (h0.trans q.symm)
        rw [if_pos ⟨hb', Or.inl h0⟩]
        simp only [h0, h1, decide_true, decide_false, Bool.xor_false, Bool.and_true]
        generalize gb (τ 0) (τ 1) n set v = g at ih' ⊢
        cases g <;> simp at ih' ⊢ <;> omega
      · by_cases h1 : τ 1 n = v
        · rw [if_pos ⟨hb', Or.inr h1⟩]
          simp only [h0, h1, decide_true, decide_false, Bool.false_xor, Bool.and_true]
          generalize gb (τ 0) (τ 1) n set v = g at ih' ⊢
          cases g <;> simp at ih' ⊢ <;> omega
        · rw [if_neg (fun q => q.2.elim h0 h1), ih']
          simp [h0, h1]
theorem ev_iff (τ : cb_S) (set : Nat) : ∀ k v, ev_f τ set k v ≠ 0 ↔ ∀ x, v ≤ x → x < v + k → dg_f τ set x (τ 3 0) % 2 = 0 := by
  intro k
  induction k with
  | zero => intro v; exact ⟨fun _ x h1 h2 => by omega, fun _ => (by decide : (1 : Nat) ≠ 0)⟩
  | succ k ih =>
    intro v
    unfold ev_f
    by_cases h : dg_f τ set v (τ 3 0) % 2 = 0
    · rw [if_pos h, ih]
      constructor
      · intro q x h1 h2
        by_cases hx : x = v
        · subst hx; exact h
        · exact q x (by omega) (by omega)
      · intro q x h1 h2
        exact q x (by omega) (by omega)
    · rw [if_neg h]
      constructor
      · intro q; exact absurd rfl q
      · intro q; exact absurd (q v (by omega) (by omega)) h
theorem gb_big {u v : Nat → Nat} {n : Nat} (hu : ∀ e, e < n → u e < 7 ∧ v e < 7) (S : Nat) {x : Nat} (hx : 7 ≤ x) : gb u v n S x = false := by
  apply xs_false
  intro e he
  have h := hu e he
  have h1 : ¬ u e = x := by omega
  have h2 : ¬ v e = x := by omega
  simp [h1, h2]
theorem ev_gc {τ : cb_S} (ok : mo_OK τ) (set : Nat) : ev_f τ set 7 0 ≠ 0 ↔ ∀ x, gb (τ 0) (τ 1) (τ 3 0) set x = false := by
  rw [ev_iff]
  have hd := fun v => dg_par (τ := τ) set v (τ 3 0) (fun e he => (ok.2 e he).2.2.1)
  constructor
  · intro q x
    rcases Nat.lt_or_ge x 7 with h | h
    · have h1 := q x (by omega) (by omega)
      rw [hd] at h1
      generalize gb (τ 0) (τ 1) (τ 3 0) set x = g at h1 ⊢
      cases g
      · rfl
      · simp at h1
    · exact gb_big (fun e he => ⟨(ok.2 e he).1, (ok.2 e he).2.1⟩) set h
  · intro q x _ _
    rw [hd, q]; rfl
theorem ws_wt (τ : cb_S) (set n : Nat) : ws_f τ set n = wt_f (τ 2) set n := by
  induction n with
  | zero => rfl
  | succ n ih =>
    unfold ws_f wt_f
    cases hb : set.testBit n with
    | false => rw [if_neg (fun q => q ((tb_0 _ _).mpr hb)), ih]; simp
    | true => rw [if_pos (fun q => by rw [(tb_0 _ _).mp q] at hb; cases hb), ih]; simp
theorem cw_gc {τ : cb_S} (ok : mo_OK τ) (set : Nat) : (gc (τ 0) (τ 1) (τ 3 0) set → cw_f τ set = wt_f (τ 2) set (τ 3 0)) ∧ (¬ gc (τ 0) (τ 1) (τ 3 0) set → cw_f τ set = 4294967295) := by
  constructor
  · intro h
    unfold cw_f
    rw [if_pos ⟨h.1, (ev_gc ok set).mpr h.2⟩, ws_wt]
  · intro h
    unfold cw_f
    rw [if_neg (fun q => h ⟨q.1, (ev_gc ok set).mp q.2⟩)]
/-- congruence: the two graphs are one -/
theorem gb_congr {u v u' v' : Nat → Nat} {n : Nat} (h : ∀ e, e < n → u e = u' e ∧ v e = v' e) (S x : Nat) : gb u v n S x = gb u' v' n S x := by
  apply xs_congr
  intro e he
  rw [(h e he).1, (h e he).2]
theorem wt_wcongr {w w' : Nat → Nat} {n : Nat} (h : ∀ e, e < n → w e = w' e) (S : Nat) : wt_f w S n = wt_f w' S n := by
  induction n with
  | zero => rfl
  | succ n ih => unfold wt_f; rw [ih (fun e he => h e (by omega)), h n (by omega)]
theorem E_gc {σ τ : cb_S} (h : cb_E σ τ) (S : Nat) : gc (τ 0) (τ 1) (τ 3 0) S ↔ gc (σ 1) (σ 2) (σ 0 0) S := by
  have hc := fun x => gb_congr (fun e he => ⟨(h.2.2.2.1 e he).1, (h.2.2.2.1 e he).2.1⟩) S x
  unfold gc
  rw [h.2.2.1]
  constructor
  · intro q; exact ⟨q.1, fun x => by rw [← hc]; exact q.2 x⟩
  · intro q; exact ⟨q.1, fun x => by rw [hc]; exact q.2 x⟩
theorem E_wt {σ τ : cb_S} (h : cb_E σ τ) (S : Nat) : wt_f (τ 2) S (τ 3 0) = wt_f (σ 3) S (σ 0 0) := by
  rw [h.2.2.1]
  exact wt_wcongr (fun e he => (h.2.2.2.1 e he).2.2) S
/-- the model's table of closed weights -/
theorem E_cw {σ τ : cb_S} (h : cb_E σ τ) {x : Nat} (hx : x < 4096) : (gc (σ 1) (σ 2) (σ 0 0) x → τ 5 x = wt_f (σ 3) x (σ 0 0)) ∧ (¬ gc (σ 1) (σ 2) (σ 0 0) x → τ 5 x = 4294967295) := by
  rw [h.2.2.2.2 x hx, ← E_gc h, ← E_wt h]
  exact cw_gc h.2.1 x
theorem wt_1200 {σ : cb_S} (ok : cb_OK σ) (S : Nat) : wt_f (σ 3) S (σ 0 0) ≤ 1200 := by
  have h := wt_le (σ 3) S (σ 0 0) (fun e he => (ok.2 e he).2.2.2.2)
  have := ok.1
  omega
theorem E_cwlt {σ τ : cb_S} (h : cb_E σ τ) {x : Nat} (hx : x < 4096) : τ 5 x < 2147483648 ↔ gc (σ 1) (σ 2) (σ 0 0) x := by
  obtain ⟨h1, h2⟩ := E_cw h hx
  constructor
  · intro q
    apply Classical.byContradiction
    intro n
    rw [h2 n] at q
    omega
  · intro q
    rw [h1 q]
    have := wt_1200 h.1 x
    omega
theorem gc_4096 {σ : cb_S} (ok : cb_OK σ) {x : Nat} (h : gc (σ 1) (σ 2) (σ 0 0) x) : x < 4096 := Nat.lt_of_lt_of_le h.1 (pw_12 ok.1)
theorem eq_closed {σ τ : cb_S} (h : cb_E σ τ) (mask : Nat) : cl_r σ mask = mc_r τ mask := by
  obtain ⟨k1, k2⟩ := cl_r_iff h.1 mask
  unfold mc_r
  by_cases hg : gc (σ 1) (σ 2) (σ 0 0) mask
  · have hm := gc_4096 h.1 hg
    rw [k1 hg, if_pos ⟨hm, (E_cwlt h hm).mpr hg⟩]
  · rw [k2 hg, if_neg]
    intro q
    exact hg ((E_cwlt h q.1).mp q.2)
end
section
/-! walks in the doubled graph (a list of edges, the last one first) -/
def sp_e (σ : cb_S) (set x e y : Nat) : Prop := ¬ (x % 7 ≠ σ 1 e ∧ x % 7 ≠ σ 2 e) ∧ y = rx_y σ x e set
def wk (σ : cb_S) (set wo x0 : Nat) : List Nat → Nat → Prop
  | [], y => y = x0
  | e :: es, y => ∃ z, wk σ set wo x0 es z ∧ e < σ 0 0 ∧ e ≠ wo ∧ sp_e σ set z e y
def wl (w : Nat → Nat) : List Nat → Nat
  | [] => 0
  | e :: es => wl w es + w e
def wx : List Nat → Nat
  | [] => 0
  | e :: es => wx es ^^^ 2 ^ e
/-- the copy of a vertex -/
def dv (b : Nat) (i : Bool) : Nat := if i then b + 7 else b
theorem wk_lt {σ : cb_S} (ok : cb_OK σ) {set wo x0 : Nat} (h0 : x0 < 14) : ∀ (es : List Nat) (y : Nat), wk σ set wo x0 es y → y < 14 := by
  intro es
  cases es with
  | nil => intro y h; rw [show y = x0 from h]; exact h0
  | cons e es =>
    intro y h
    obtain ⟨z, -, he, -, -, hy⟩ := h
    rw [hy]
    exact rx_y_lt ok he
theorem bit_flag (set e : Nat) (i : Bool) : ((if i = true then 1 else 0) = ((set >>> e) &&& 1)) ↔ (i ^^ set.testBit e) = false := by
  rw [tb_and]
  cases i <;> cases set.testBit e <;> simp
/-- a step from a copy of one end leads to a copy of the other -/
theorem sp_dv {σ : cb_S} (ok : cb_OK σ) {set e b b' : Nat} (he : e < σ 0 0) (i : Bool) (h : (σ 1 e = b' ∧ σ 2 e = b) ∨ (σ 1 e = b ∧ σ 2 e = b')) : sp_e σ set (dv b' i) e (dv b (i ^^ set.testBit e)) := by
  obtain ⟨o1, o2, o3, -, -⟩ := ok.2 e he
  have hb' : b' < 7 := by omega
  have hm : dv b' i % 7 = b' := by unfold dv; cases i <;> simp <;> omega
  have h7 : (if 7 ≤ dv b' i then 1 else 0) = (if i = true then 1 else 0) := by
    unfold dv
    cases i with
    | false => simp; omega
    | true => simp
  refine ⟨?_, ?_⟩
  · rw [hm]; omega
  · have hw : rx_w σ (dv b' i) e = b := by
      unfold rx_w
      rw [hm]
      rcases h with ⟨h1, h2⟩ | ⟨h1, h2⟩
      · rw [if_pos h1.symm, h2]
      · rw [if_neg (by omega), h1]
    unfold rx_y
    rw [hw, h7]
    by_cases hq : (if i = true then 1 else 0) = ((set >>> e) &&& 1)
    · rw [if_pos hq, (bit_flag set e i).mp hq]; rfl
    · rw [if_neg hq]
      have hq2 : (i ^^ set.testBit e) = true := by
        cases hx : (i ^^ set.testBit e) with
        | true => rfl
        | false => exact absurd ((bit_flag set e i).mpr hx) hq
      rw [hq2]; rfl
/-- what a walk is: its edges' sum has the ends as boundary, its copy is the pairing, its weight is no less -/
theorem wk_sound {σ : cb_S} (ok : cb_OK σ) {set wo a : Nat} (ha : a < 7) : ∀ (es : List Nat) (y : Nat), wk σ set wo a es y →
    ∃ b, b < 7 ∧ y = dv b (ip set (wx es)) ∧ (∀ x, gb (σ 1) (σ 2) (σ 0 0) (wx es) x = (decide (a = x) ^^ decide (b = x))) ∧ wt_f (σ 3) (wx es) (σ 0 0) ≤ wl (σ 3) es ∧ wx es < 2 ^ σ 0 0 ∧ (wo < 4096 → (wx es).testBit wo = false) := by
  intro es
  induction es with
  | nil =>
    intro y h
    refine ⟨a, ha, ?_, fun x => ?_, ?_, ?_, fun _ => Nat.zero_testBit _⟩
    · rw [show y = a from h]; show a = dv a (ip set 0); rw [ip_0r]; rfl
    · show gb _ _ _ 0 x = _; rw [gb_zero]; simp
    · show wt_f _ 0 _ ≤ _; rw [wt_zero]; exact Nat.zero_le _
    · exact Nat.two_pow_pos _
  | cons e es ih =>
    intro y h
    obtain ⟨z, hz, he, hwo, hs⟩ := h
    obtain ⟨b', hb', hzb, hgb, hwt, hlt, hbo⟩ := ih z hz
    obtain ⟨o1, o2, o3, -, -⟩ := ok.2 e he
    have h12 : e < 12 := by have := ok.1; omega
    have hm : z % 7 = b' := by rw [hzb]; unfold dv; cases ip set (wx es) <;> simp <;> omega
    have hend : b' = σ 1 e ∨ b' = σ 2 e := by
      have := hs.1
      rw [hm] at this
      omega
    obtain ⟨b, hb, hbb⟩ : ∃ b, b < 7 ∧ ((σ 1 e = b' ∧ σ 2 e = b) ∨ (σ 1 e = b ∧ σ 2 e = b')) := by
      rcases hend with q | q
      · exact ⟨σ 2 e, o2, Or.inl ⟨q.symm, rfl⟩⟩
      · exact ⟨σ 1 e, o1, Or.inr ⟨rfl, q.symm⟩⟩
    have hy : y = dv b (ip set (wx es) ^^ set.testBit e) := by
      have := sp_dv ok (set := set) he (ip set (wx es)) hbb
      rw [← hzb] at this
      rw [hs.2, this.2]
    refine ⟨b, hb, ?_, fun x => ?_, ?_, ?_, fun hw4 => ?_⟩
    · rw [hy]; show _ = dv b (ip set (wx es ^^^ 2 ^ e)); rw [ip_xr, ip_br h12]
    · show gb _ _ _ (wx es ^^^ 2 ^ e) x = _
      rw [gb_xor, hgb, gb_bit he]
      rcases hbb with ⟨q1, q2⟩ | ⟨q1, q2⟩
      · rw [q1, q2]; cases decide (a = x) <;> cases decide (b' = x) <;> cases decide (b = x) <;> rfl
      · rw [q1, q2]; cases decide (a = x) <;> cases decide (b' = x) <;> cases decide (b = x) <;> rfl
    · show wt_f _ (wx es ^^^ 2 ^ e) _ ≤ wl _ es + σ 3 e
      have h1 := wt_xor_le (σ 3) (wx es) (2 ^ e) (σ 0 0)
      rw [wt_bit he] at h1
      omega
    · exact Nat.xor_lt_two_pow hlt (Nat.pow_lt_pow_right (by decide) he)
    · show (wx es ^^^ 2 ^ e).testBit wo = false
      rw [Nat.testBit_xor, hbo hw4, tb_pow]; simp; exact hwo
/-- a set with boundary a + b holds a walk from a to b, of no more weight -/
theorem trail {σ : cb_S} (ok : cb_OK σ) (set wo : Nat) {a : Nat} : ∀ (N S b : Nat), wt_f (σ 3) S (σ 0 0) ≤ N → b < 7 → S < 2 ^ σ 0 0 → (∀ k, S.testBit k = true → k ≠ wo) → (∀ x, gb (σ 1) (σ 2) (σ 0 0) S x = (decide (a = x) ^^ decide (b = x))) →
    ∃ es, wk σ set wo a es (dv b (ip set (wx es))) ∧ wl (σ 3) es = wt_f (σ 3) (wx es) (σ 0 0) ∧ ∀ k, (wx es).testBit k = true → S.testBit k = true := by
  intro N
  induction N with
  | zero =>
    intro S b hN hb hS hwo hgb
    by_cases hab : a = b
    · subst hab
      exact ⟨[], by show dv a (ip set 0) = a; rw [ip_0r]; rfl, (wt_zero _ _).symm, fun k hk => by rw [show wx [] = 0 from rfl, Nat.zero_testBit] at hk; cases hk⟩
    · have h1 := hgb b
      rw [show decide (a = b) = false by simp [hab], show decide (b = b) = true by simp] at h1
      obtain ⟨e, he, h2⟩ := xs_true h1
      have h3 : S.testBit e = true := by cases h : S.testBit e <;> simp [h] at h2 ⊢
      have h4 := wt_less (w := σ 3) he h3
      have := (ok.2 e he).2.2.2.1
      omega
  | succ N ih =>
    intro S b hN hb hS hwo hgb
    by_cases hab : a = b
    · subst hab
      exact ⟨[], by show dv a (ip set 0) = a; rw [ip_0r]; rfl, (wt_zero _ _).symm, fun k hk => by rw [show wx [] = 0 from rfl, Nat.zero_testBit] at hk; cases hk⟩
    · have h1 := hgb b
      rw [show decide (a = b) = false by simp [hab], show decide (b = b) = true by simp] at h1
      obtain ⟨e, he, h2⟩ := xs_true h1
      have h3 : S.testBit e = true := by cases h : S.testBit e <;> simp [h] at h2 ⊢
      rw [h3, Bool.true_and] at h2
      have h4 := wt_less (w := σ 3) he h3
      obtain ⟨o1, o2, o3, o4, -⟩ := ok.2 e he
      have h12 : e < 12 := by have := ok.1; omega
      obtain ⟨b', hb', hbb⟩ : ∃ b', b' < 7 ∧ ((σ 1 e = b' ∧ σ 2 e = b) ∨ (σ 1 e = b ∧ σ 2 e = b')) := by
        by_cases q : σ 1 e = b
        · exact ⟨σ 2 e, o2, Or.inr ⟨q, rfl⟩⟩
        · refine ⟨σ 1 e, o1, Or.inl ⟨rfl, ?_⟩⟩
          simpa [q] using h2
      have hS1 : S ^^^ 2 ^ e < 2 ^ σ 0 0 := Nat.xor_lt_two_pow hS (Nat.pow_lt_pow_right (by decide) he)
      have hk1 : ∀ k, (S ^^^ 2 ^ e).testBit k = true → S.testBit k = true ∧ k ≠ e := by
        intro k hk
        rw [Nat.testBit_xor, tb_pow] at hk
        by_cases hke : e = k
        · subst hke; rw [h3] at hk; simp at hk
        · simp [hke] at hk; exact ⟨hk, fun q => hke q.symm⟩
      obtain ⟨es, e1, e2, e3⟩ := ih (S ^^^ 2 ^ e) b' (by omega) hb' hS1 (fun k hk => hwo k (hk1 k hk).1) (fun x => by
        rw [gb_xor, hgb, gb_bit he]
        rcases hbb with ⟨q1, q2⟩ | ⟨q1, q2⟩
        · rw [q1, q2]; cases decide (a = x) <;> cases decide (b' = x) <;> cases decide (b = x) <;> rfl
        · rw [q1, q2]; cases decide (a = x) <;> cases decide (b' = x) <;> cases decide (b = x) <;> rfl)
      have hne : (wx es).testBit e = false := by
        cases h : (wx es).testBit e with
        | false => rfl
        | true => exact absurd rfl (hk1 e (e3 e h)).2
      refine ⟨e :: es, ⟨_, e1, he, hwo e h3, ?_⟩, ?_, ?_⟩
      · show sp_e σ set (dv b' (ip set (wx es))) e (dv b (ip set (wx es ^^^ 2 ^ e)))
        rw [ip_xr, ip_br h12]
        exact sp_dv ok he _ hbb
      · show wl _ es + σ 3 e = wt_f _ (wx es ^^^ 2 ^ e) _
        rw [wt_more he hne, e2]
      · intro k hk
        rw [show wx (e :: es) = wx es ^^^ 2 ^ e from rfl, Nat.testBit_xor, tb_pow] at hk
        by_cases hke : e = k
        · subst hke; exact h3
        · simp [hke] at hk
          exact (hk1 k (e3 k hk)).1
end
section
/-! counting -/
def cn (p : Nat → Bool) : Nat → Nat
  | 0 => 0
  | k + 1 => cn p k + (if p k then 1 else 0)
theorem cn_le (p : Nat → Bool) (n : Nat) : cn p n ≤ n := by
  induction n with
  | zero => exact Nat.le_refl 0
  | succ n ih => unfold cn; split <;> omega
theorem cn_full {p : Nat → Bool} {n : Nat} (h : cn p n = n) : ∀ y, y < n → p y = true := by
  induction n with
  | zero => intro y hy; omega
  | succ n ih =>
    intro y hy
    have h1 := cn_le p n
    unfold cn at h
    cases hp : p n with
    | false => rw [hp] at h; simp at h; omega
    | true =>
      by_cases hy2 : y = n
      · rw [hy2]; exact hp
      · rw [hp] at h; exact ih (by simpa using h) y (by omega)
theorem cn_congr {p q : Nat → Bool} {n : Nat} (h : ∀ y, y < n → p y = q y) : cn p n = cn q n := by
  induction n with
  | zero => rfl
  | succ n ih => unfold cn; rw [ih (fun y hy => h y (by omega)), h n (by omega)]
theorem cn_add {p q : Nat → Bool} {n x : Nat} (hx : x < n) (hp : p x = false) (hq : q x = true) (h : ∀ y, y ≠ x → q y = p y) : cn q n = cn p n + 1 := by
  induction n with
  | zero => omega
  | succ n ih =>
    unfold cn
    by_cases hn : x = n
    · subst hn
      rw [hp, hq, cn_congr (fun y hy => h y (by omega))]
      simp
    · rw [ih (by omega), h n (fun q => hn q.symm)]
      omega
theorem cn_none {p : Nat → Bool} {n : Nat} (h : ∀ y, y < n → p y = false) : cn p n = 0 := by
  induction n with
  | zero => rfl
  | succ n ih => unfold cn; rw [ih (fun y hy => h y (by omega)), h n (by omega)]; rfl
/-! DIJKSTRA on the doubled graph -/
theorem ne_spec (di dn : Nat → Nat) : ∀ n, n ≤ 4096 → (ne_f di dn n = 4294967295 ∧ ∀ y, y < n → dn y = 0 → 1000000 ≤ di y) ∨ (ne_f di dn n < n ∧ dn (ne_f di dn n) = 0 ∧ di (ne_f di dn n) < 1000000 ∧ ∀ y, y < n → dn y = 0 → di (ne_f di dn n) ≤ di y) := by
  intro n
  induction n with
  | zero => intro _; exact Or.inl ⟨rfl, fun y h => by omega⟩
  | succ n ih' =>
    intro hn
    have ih := ih' (by omega)
    unfold ne_f
    by_cases hc : dn n = 0 ∧ di n < 1000000 ∧ (ne_f di dn n = 4294967295 ∨ di n < di (ne_f di dn n))
    · rw [if_pos hc]
      refine Or.inr ⟨by omega, hc.1, hc.2.1, fun y hy h1 => ?_⟩
      by_cases hyn : y = n
      · subst hyn; exact Nat.le_refl _
      · rcases ih with ⟨i1, i2⟩ | ⟨i1, i2, i3, i4⟩
        · have := i2 y (by omega) h1; omega
        · rcases hc.2.2 with q | q
          · omega
          · have := i4 y (by omega) h1; omega
    · rw [if_neg hc]
      rcases ih with ⟨i1, i2⟩ | ⟨i1, i2, i3, i4⟩
      · refine Or.inl ⟨i1, fun y hy h1 => ?_⟩
        by_cases hyn : y = n
        · subst hyn
          rcases Nat.lt_or_ge (di y) 1000000 with q | q
          · exact absurd ⟨h1, q, Or.inl i1⟩ hc
          · exact q
        · exact i2 y (by omega) h1
      · refine Or.inr ⟨by omega, i2, i3, fun y hy h1 => ?_⟩
        by_cases hyn : y = n
        · subst hyn
          rcases Nat.lt_or_ge (di y) 1000000 with q | q
          · rcases Nat.lt_or_ge (di y) (di (ne_f di dn y)) with q2 | q2
            · exact absurd ⟨h1, q, Or.inr q2⟩ hc
            · exact q2
          · omega
        · exact i4 y (by omega) h1
theorem rx_y_G {σ t : cb_S} (g : cb_G σ t) (x e set : Nat) : rx_y t x e set = rx_y σ x e set := by
  unfold rx_y rx_w
  rw [g 1 (by decide), g 2 (by decide)]
/-- every distance is a walk's -/
def dj_J (σ : cb_S) (set wo start : Nat) (t : cb_S) : Prop := ∀ y, y < 14 → t 10 y < 1000000 → ∃ es, wk σ set wo start es y ∧ wl (σ 3) es = t 10 y ∧ wx es = t 11 y
def dj_I (σ : cb_S) (set wo start : Nat) (t : cb_S) : Prop :=
  cb_G σ t ∧ sf_B t ∧ t 10 start = 0 ∧ (∀ y, y < 14 → t 12 y ≤ 1) ∧ dj_J σ set wo start t ∧
  (∀ z, z < 14 → t 12 z = 1 → ∀ e y, e < σ 0 0 → e ≠ wo → sp_e σ set z e y → t 10 y ≤ t 10 z + σ 3 e) ∧
  (∀ z y, z < 14 → y < 14 → t 12 z = 1 → t 12 y = 0 → t 10 z ≤ t 10 y)
/-- inside the edges' loop from x: the edges below e are gone over -/
def dj_R (σ : cb_S) (set wo start : Nat) (t : cb_S) (x e : Nat) (t2 : cb_S) : Prop :=
  cb_G σ t2 ∧ sf_B t2 ∧ t2 10 start = 0 ∧ t2 12 = cb_up t 12 x 1 12 ∧ dj_J σ set wo start t2 ∧
  (∀ z, z < 14 → (t 12 z = 1 ∨ z = x) → t2 10 z = t 10 z) ∧ (∀ y, y < 14 → t2 10 y ≤ t 10 y) ∧
  (∀ y, y < 14 → t 12 y = 0 → t 10 x ≤ t2 10 y) ∧
  (∀ e' y, e' < e → e' ≠ wo → sp_e σ set x e' y → t2 10 y ≤ t 10 x + σ 3 e')
theorem dj_step {σ : cb_S} (ok : cb_OK σ) {set wo start : Nat} {t : cb_S} (hI : dj_I σ set wo start t) {x : Nat} (hx : x < 14) (hx0 : t 12 x = 0) (hmin : ∀ y, y < 14 → t 12 y = 0 → t 10 x ≤ t 10 y) :
    ∀ e, e ≤ σ 0 0 → dj_R σ set wo start t x e (sf_r (cb_up t 12 x 1) x set wo e) := by
  obtain ⟨g, hB, h0, hd, hJ, hE, hM⟩ := hI
  intro e
  induction e with
  | zero =>
    intro _
    show dj_R σ set wo start t x 0 (cb_up t 12 x 1)
    have k10 : cb_up t 12 x 1 10 = t 10 := cb_up_k _ (by decide)
    have k11 : cb_up t 12 x 1 11 = t 11 := cb_up_k _ (by decide)
    refine ⟨g.tr (cb_G.up (by decide)), sf_B_up hB (by decide) (by decide), by rw [k10]; exact h0, rfl, ?_, ?_, ?_, ?_, fun e' y h => by omega⟩
    · unfold dj_J; rw [k10, k11]; exact hJ
    · intro z _ _; rw [k10]
    · intro y _; rw [k10]; exact Nat.le_refl _
    · intro y hy h1; rw [k10]; exact hmin y hy h1
  | succ e ih =>
    intro he
    have ih := ih (by omega)
    have he' : e < σ 0 0 := by omega
    unfold sf_r
    generalize sf_r (cb_up t 12 x 1) x set wo e = t2 at ih ⊢
    obtain ⟨g2, hB2, h02, hd2, hJ2, hz2, hm2, hu2, he2⟩ := ih
    have hx2 : t2 10 x = t 10 x := hz2 x hx (Or.inr rfl)
    have o4 := (ok.2 e he').2.2.2.1
    by_cases hwo : e = wo
    · rw [if_pos hwo]
      refine ⟨g2, hB2, h02, hd2, hJ2, hz2, hm2, hu2, fun e' y h1 h2 h3 => ?_⟩
      by_cases q : e' = e
      · exact absurd (q.trans hwo) h2
      · exact he2 e' y (by omega) h2 h3
    · rw [if_neg hwo]
      have hyl : rx_y σ x e set < 14 := rx_y_lt ok he'
      unfold rx_S
      rw [rx_y_G g2, g2 1 (by decide), g2 2 (by decide), g2 3 (by decide)]
      by_cases hin : x % 7 ≠ σ 1 e ∧ x % 7 ≠ σ 2 e
      · rw [if_pos hin]
        refine ⟨g2, hB2, h02, hd2, hJ2, hz2, hm2, hu2, fun e' y h1 h2 h3 => ?_⟩
        by_cases q : e' = e
        · subst q; exact absurd hin h3.1
        · exact he2 e' y (by omega) h2 h3
      · rw [if_neg hin]
        by_cases hlt : t2 10 x + σ 3 e < t2 10 (rx_y σ x e set)
        · rw [if_pos hlt]
          generalize hy0 : rx_y σ x e set = y0 at hlt hyl ⊢
          have hBy := hB2 y0 hyl
          have hnd : ∀ z, z < 14 → (t 12 z = 1 ∨ z = x) → z ≠ y0 := by
            intro z hz h q
            subst q
            rcases h with h | h
            · have h1 := hz2 z hz (Or.inl h)
              have h2 := hM z x hz hx h hx0
              omega
            · subst h; omega
          have a10 : ∀ y, y ≠ y0 → cb_up (cb_up t2 10 y0 (t2 10 x + σ 3 e)) 11 y0 (t2 11 x ^^^ 2 ^ e) 10 y = t2 10 y := by
            intro y h; rw [cb_up_i _ _ h, cb_up_i _ _ h]
          have b10 : cb_up (cb_up t2 10 y0 (t2 10 x + σ 3 e)) 11 y0 (t2 11 x ^^^ 2 ^ e) 10 y0 = t2 10 x + σ 3 e := by
            rw [cb_up_k _ (by decide), cb_up_s]
          have a11 : ∀ y, y ≠ y0 → cb_up (cb_up t2 10 y0 (t2 10 x + σ 3 e)) 11 y0 (t2 11 x ^^^ 2 ^ e) 11 y = t2 11 y := by
            intro y h; rw [cb_up_i _ _ h, cb_up_i _ _ h]
          have b11 : cb_up (cb_up t2 10 y0 (t2 10 x + σ 3 e)) 11 y0 (t2 11 x ^^^ 2 ^ e) 11 y0 = t2 11 x ^^^ 2 ^ e := by rw [cb_up_s]
          have hs0 : start ≠ y0 := fun q => by rw [← q, h02] at hlt; omega
          refine ⟨g2.tr ((cb_G.up (by decide)).tr (cb_G.up (by decide))), ?_, ?_, ?_, ?_, ?_, ?_, ?_, ?_⟩
          · have := rx_S_B (g2.ok ok) hB2 (x := x) (e := e) (set := set) hx (by rw [g2 0 (by decide)]; exact he')
            unfold rx_S at this
            rw [rx_y_G g2, g2 1 (by decide), g2 2 (by decide), g2 3 (by decide), if_neg hin, hy0, if_pos hlt] at this
            exact this
          · rw [a10 _ hs0]; exact h02
          · rw [cb_up_k _ (by decide), cb_up_k _ (by decide)]; exact hd2
          · intro y hy hyl2
            by_cases hyy : y = y0
            · subst hyy
              obtain ⟨es, w1, w2, w3⟩ := hJ2 x hx (by omega)
              refine ⟨e :: es, ⟨x, w1, he', hwo, hin, hy0.symm⟩, ?_, ?_⟩
              · rw [b10, ← w2]; rfl
              · rw [b11, ← w3]; rfl
            · rw [a10 y hyy] at hyl2
              rw [a10 y hyy, a11 y hyy]
              exact hJ2 y hy hyl2
          · intro z hz h
            rw [a10 z (hnd z hz h)]; exact hz2 z hz h
          · intro y hy
            by_cases hyy : y = y0
            · subst hyy; rw [b10]; have := hm2 y hy; omega
            · rw [a10 y hyy]; exact hm2 y hy
          · intro y hy h1
            by_cases hyy : y = y0
            · subst hyy; rw [b10]; omega
            · rw [a10 y hyy]; exact hu2 y hy h1
          · intro e' y h1 h2 h3
            by_cases q : e' = e
            · subst q
              have : y = y0 := by rw [h3.2, hy0]
              subst this
              rw [b10, hx2]; exact Nat.le_refl _
            · have h4 := he2 e' y (by omega) h2 h3
              by_cases hyy : y = y0
              · subst hyy; rw [b10]; omega
              · rw [a10 y hyy]; exact h4
        · rw [if_neg hlt]
          refine ⟨g2, hB2, h02, hd2, hJ2, hz2, hm2, hu2, fun e' y h1 h2 h3 => ?_⟩
          by_cases q : e' = e
          · subst q; rw [h3.2]; omega
          · exact he2 e' y (by omega) h2 h3
theorem dj_next {σ : cb_S} (ok : cb_OK σ) {set wo start : Nat} {t : cb_S} (hI : dj_I σ set wo start t) {x : Nat} (hx : x < 14) (hx0 : t 12 x = 0) (hmin : ∀ y, y < 14 → t 12 y = 0 → t 10 x ≤ t 10 y) :
    dj_I σ set wo start (sf_1 t x set wo) ∧ sf_1 t x set wo 12 = cb_up t 12 x 1 12 := by
  have hR := dj_step ok hI hx hx0 hmin (σ 0 0) (Nat.le_refl _)
  obtain ⟨g, hB, h0, hd, hJ, hE, hM⟩ := hI
  unfold sf_1
  rw [g 0 (by decide)]
  generalize sf_r (cb_up t 12 x 1) x set wo (σ 0 0) = t2 at hR ⊢
  obtain ⟨g2, hB2, h02, hd2, hJ2, hz2, hm2, hu2, he2⟩ := hR
  have hdx : t2 12 x = 1 := by rw [hd2, cb_up_s]
  have hdn : ∀ z, z ≠ x → t2 12 z = t 12 z := fun z h => by rw [hd2, cb_up_i _ _ h]
  refine ⟨⟨g2, hB2, h02, fun y hy => ?_, hJ2, ?_, ?_⟩, hd2⟩
  · by_cases q : y = x
    · rw [q, hdx]; exact Nat.le_refl 1
    · rw [hdn y q]; exact hd y hy
  · intro z hz h1 e y he hwo hs
    by_cases q : z = x
    · subst q
      rw [hz2 z hz (Or.inr rfl)]
      exact he2 e y he hwo hs
    · rw [hdn z q] at h1
      have h2 := hE z hz h1 e y he hwo hs
      have hy : y < 14 := by rw [hs.2]; exact rx_y_lt ok he
      have h3 := hm2 y hy
      rw [hz2 z hz (Or.inl h1)]
      omega
  · intro z y hz hy h1 h2
    have hyx : y ≠ x := fun q => by rw [q, hdx] at h2; omega
    rw [hdn y hyx] at h2
    have h3 := hu2 y hy h2
    by_cases q : z = x
    · subst q; rw [hz2 z hz (Or.inr rfl)]; exact h3
    · rw [hdn z q] at h1
      rw [hz2 z hz (Or.inl h1)]
      have := hM z x hz hx h1 hx0
      omega
/-- the search's end -/
def dj_F (σ : cb_S) (set wo start : Nat) (t : cb_S) : Prop := dj_I σ set wo start t ∧ ∀ y, y < 14 → t 12 y = 1 ∨ 1000000 ≤ t 10 y
theorem dj_loop {σ : cb_S} (ok : cb_OK σ) {set wo start : Nat} : ∀ (k : Nat) (t : cb_S) (x : Nat), dj_I σ set wo start t → cn (fun y => decide (t 12 y = 1)) 14 + k = 14 →
    ((x = 4294967295 ∧ ∀ y, y < 14 → t 12 y = 0 → 1000000 ≤ t 10 y) ∨ (x < 14 ∧ t 12 x = 0 ∧ ∀ y, y < 14 → t 12 y = 0 → t 10 x ≤ t 10 y)) → dj_F σ set wo start (sf_l set wo k t x) := by
  intro k
  induction k with
  | zero =>
    intro t x hI hc _
    refine ⟨hI, fun y hy => Or.inl ?_⟩
    have := cn_full (by omega : cn (fun y => decide (t 12 y = 1)) 14 = 14) y hy
    show t 12 y = 1
    simpa using this
  | succ k ih =>
    intro t x hI hc hx
    unfold sf_l
    rcases hx with ⟨h1, h2⟩ | ⟨h1, h2, h3⟩
    · rw [if_pos h1]
      refine ⟨hI, fun y hy => ?_⟩
      have h4 := hI.2.2.2.1 y hy
      by_cases q : t 12 y = 0
      · exact Or.inr (h2 y hy q)
      · exact Or.inl (by omega)
    · rw [if_neg (by omega)]
      obtain ⟨hI2, hd2⟩ := dj_next ok hI h1 h2 h3
      refine ih _ _ hI2 ?_ ?_
      · have h5 : cn (fun y => decide (sf_1 t x set wo 12 y = 1)) 14 = cn (fun y => decide (t 12 y = 1)) 14 + 1 := by
          apply cn_add h1
          · simp [h2]
          · rw [hd2, cb_up_s]; rfl
          · intro y hy; rw [hd2, cb_up_i _ _ hy]
        omega
      · rcases ne_spec (sf_1 t x set wo 10) (sf_1 t x set wo 12) 14 (by decide) with ⟨q1, q2⟩ | ⟨q1, q2, q3, q4⟩
        · exact Or.inl ⟨q1, q2⟩
        · exact Or.inr ⟨q1, q2, q4⟩
theorem dj_all {σ : cb_S} (ok : cb_OK σ) {set wo start : Nat} (hs : start < 14) : dj_F σ set wo start (sf_S σ start set wo) := by
  have hz : ∀ y, y < 14 → cb_up (sf_i σ 14) 10 start 0 12 y = 0 := fun y hy => by rw [cb_up_k _ (by decide)]; exact (sf_i_v σ 14 y hy).2.2
  refine dj_loop ok 14 _ _ ⟨sf_0_G σ start, sf_0_B σ start, by rw [cb_up_s], fun y hy => by rw [hz y hy]; exact Nat.zero_le 1, ?_, ?_, ?_⟩ ?_ (Or.inr ⟨hs, hz start hs, fun y _ _ => by rw [cb_up_s]; exact Nat.zero_le _⟩)
  · intro y hy h1
    by_cases q : y = start
    · subst q
      refine ⟨[], rfl, ?_, ?_⟩
      · rw [cb_up_s]; rfl
      · rw [cb_up_k _ (by decide), (sf_i_v σ 14 y hy).2.1]; rfl
    · rw [cb_up_i _ _ q, (sf_i_v σ 14 y hy).1] at h1; omega
  · intro z hz2 h1; rw [hz z hz2] at h1; omega
  · intro z y hz2 _ h1; rw [hz z hz2] at h1; omega
  · rw [cn_none (fun y hy => by rw [hz y hy]; rfl)]
/-- D1: a distance is a walk's weight -/
theorem dj_1 {σ : cb_S} (ok : cb_OK σ) {set wo start : Nat} (hs : start < 14) {y : Nat} (hy : y < 14) (h : sf_S σ start set wo 10 y < 1000000) : ∃ es, wk σ set wo start es y ∧ wl (σ 3) es = sf_S σ start set wo 10 y ∧ wx es = sf_S σ start set wo 11 y :=
  (dj_all ok hs).1.2.2.2.2.1 y hy h
/-- D2: no walk is lighter -/
theorem dj_2 {σ : cb_S} (ok : cb_OK σ) {set wo start : Nat} (hs : start < 14) : ∀ (es : List Nat) (y : Nat), wk σ set wo start es y → sf_S σ start set wo 10 y ≤ wl (σ 3) es := by
  obtain ⟨⟨g, hB, h0, hd, hJ, hE, hM⟩, hF⟩ := dj_all ok (set := set) (wo := wo) hs
  generalize sf_S σ start set wo = t at g hB h0 hd hJ hE hM hF ⊢
  intro es
  induction es with
  | nil => intro y h; rw [show y = start from h, h0]; exact Nat.zero_le _
  | cons e es ih =>
    intro y h
    obtain ⟨z, w1, he, hwo, hs2⟩ := h
    have hz := wk_lt ok hs es z w1
    have h1 := ih z w1
    show t 10 y ≤ wl _ es + σ 3 e
    rcases hF z hz with q | q
    · have := hE z hz q e y he hwo hs2; omega
    · have hy : y < 14 := by rw [hs2.2]; exact rx_y_lt ok he
      have := (hB y hy).1; omega
end
section
/-! the lightest closed set that meets a witness oddly -/
theorem odd_trail {σ : cb_S} (ok : cb_OK σ) (set : Nat) : ∀ (N C : Nat), wt_f (σ 3) C (σ 0 0) ≤ N → gc (σ 1) (σ 2) (σ 0 0) C → ip set C = true → ∃ v es, v < 7 ∧ wk σ set 4294967295 v es (v + 7) ∧ wl (σ 3) es ≤ wt_f (σ 3) C (σ 0 0) := by
  intro N
  induction N with
  | zero =>
    intro C hN hC hi
    obtain ⟨e, he, h1⟩ := xs_true hi
    have h2 : C.testBit e = true := by cases h : C.testBit e <;> simp [h] at h1 ⊢
    have he2 := tb_of hC.1 h2
    have h4 := wt_less (w := σ 3) he2 h2
    have := (ok.2 e he2).2.2.2.1
    omega
  | succ N ih =>
    intro C hN hC hi
    obtain ⟨e, he, h1⟩ := xs_true hi
    have h2 : C.testBit e = true := by cases h : C.testBit e <;> simp [h] at h1 ⊢
    have he2 := tb_of hC.1 h2
    have h4 := wt_less (w := σ 3) he2 h2
    obtain ⟨o1, o2, o3, o4, -⟩ := ok.2 e he2
    have hc12 := ok.1
    have hk1 : ∀ k, (C ^^^ 2 ^ e).testBit k = true → C.testBit k = true ∧ k ≠ e := by
      intro k hk
      rw [Nat.testBit_xor, tb_pow] at hk
      by_cases hke : e = k
      · subst hke; rw [h2] at hk; simp at hk
      · simp [hke] at hk; exact ⟨hk, fun q => hke q.symm⟩
    obtain ⟨es, e1, e2, e3⟩ := trail ok set 4294967295 (a := σ 1 e) _ (C ^^^ 2 ^ e) (σ 2 e) (Nat.le_refl _) o2 (Nat.xor_lt_two_pow hC.1 (Nat.pow_lt_pow_right (by decide) he2)) (fun k hk => by have := tb_of hC.1 (hk1 k hk).1; omega) (fun x => by
      rw [gb_xor, hC.2, gb_bit he2]; simp)
    have hne : (wx es).testBit e = false := by
      cases h : (wx es).testBit e with
      | false => rfl
      | true => exact absurd rfl (hk1 e (e3 e h)).2
    have hw : wk σ set 4294967295 (σ 1 e) (e :: es) (dv (σ 1 e) (ip set (wx es ^^^ 2 ^ e))) := by
      refine ⟨_, e1, he2, by omega, ?_⟩
      rw [ip_xr, ip_br he]
      exact sp_dv ok he2 _ (Or.inr ⟨rfl, rfl⟩)
    have hsub : ∀ k, (wx es ^^^ 2 ^ e).testBit k = true → C.testBit k = true := by
      intro k hk
      rw [Nat.testBit_xor, tb_pow] at hk
      by_cases hke : e = k
      · subst hke; exact h2
      · simp [hke] at hk
        exact (hk1 k (e3 k hk)).1
    have hwl : wl (σ 3) (e :: es) = wt_f (σ 3) (wx es ^^^ 2 ^ e) (σ 0 0) := by
      show wl _ es + σ 3 e = _
      rw [wt_more he2 hne, e2]
    have hsp := wt_split (w := σ 3) (S := C) (T := wx es ^^^ 2 ^ e) (n := σ 0 0) (fun k _ hk => hsub k hk)
    cases hp : ip set (wx es ^^^ 2 ^ e) with
    | true =>
      rw [hp] at hw
      exact ⟨σ 1 e, e :: es, o1, hw, by omega⟩
    | false =>
      have hcl : gc (σ 1) (σ 2) (σ 0 0) (C ^^^ (wx es ^^^ 2 ^ e)) := by
        obtain ⟨b, -, -, q1, -, q2, -⟩ := wk_sound ok o1 _ _ hw
        refine ⟨Nat.xor_lt_two_pow hC.1 q2, fun x => ?_⟩
        have hgb : ∀ x, gb (σ 1) (σ 2) (σ 0 0) (wx es ^^^ 2 ^ e) x = false := by
          intro x
          obtain ⟨b', hb', hy', q1', -, -, -⟩ := wk_sound ok o1 _ _ e1
          have hbe : b' = σ 2 e := by
            unfold dv at hy'
            cases hq : ip set (wx es) <;> rw [hq] at hy' <;> simp at hy' <;> omega
          rw [gb_xor, q1', gb_bit he2, hbe]
          simp
        rw [gb_xor, hC.2, hgb]; rfl
      have hi2 : ip set (C ^^^ (wx es ^^^ 2 ^ e)) = true := by rw [ip_xr, hi, hp]; rfl
      have hpos : σ 3 e ≤ wt_f (σ 3) (wx es ^^^ 2 ^ e) (σ 0 0) := by rw [wt_more he2 hne]; omega
      obtain ⟨v, es2, v1, v2, v3⟩ := ih _ (by omega) hcl hi2
      exact ⟨v, es2, v1, v2, by omega⟩
/-- behind the first v starts: what is held is closed and odd, and no heavier start was taken -/
theorem li_inv {σ : cb_S} (ok : cb_OK σ) (set : Nat) : ∀ v, v ≤ 7 →
    (li_f σ set v 13 0 < 1000000 → gc (σ 1) (σ 2) (σ 0 0) (li_f σ set v 14 0) ∧ ip set (li_f σ set v 14 0) = true ∧ wt_f (σ 3) (li_f σ set v 14 0) (σ 0 0) ≤ li_f σ set v 13 0) ∧
    (∀ v' es, v' < v → wk σ set 4294967295 v' es (v' + 7) → li_f σ set v 13 0 ≤ wl (σ 3) es) := by
  intro v
  induction v with
  | zero =>
    intro _
    refine ⟨fun h => ?_, fun v' es h => by omega⟩
    unfold li_f at h
    rw [cb_up_k _ (by decide), cb_up_s] at h
    omega
  | succ v ih =>
    intro hv
    obtain ⟨i1, i2⟩ := ih (by omega)
    have gv := li_f_G σ set v
    have okv := gv.ok ok
    have hB := li_f_B ok set v (by omega)
    -- walks over the same graph
    have hwk : ∀ es y, wk σ set 4294967295 v es y ↔ wk (li_f σ set v) set 4294967295 v es y := by
      intro es
      induction es with
      | nil => intro y; exact Iff.rfl
      | cons e es ihe =>
        intro y
        constructor
        · rintro ⟨z, w1, w2, w3, w4⟩
          refine ⟨z, (ihe z).mp w1, by rw [gv 0 (by decide)]; exact w2, w3, ?_⟩
          unfold sp_e at w4 ⊢
          rw [rx_y_G gv, gv 1 (by decide), gv 2 (by decide)]; exact w4
        · rintro ⟨z, w1, w2, w3, w4⟩
          refine ⟨z, (ihe z).mpr w1, by rw [gv 0 (by decide)] at w2; exact w2, w3, ?_⟩
          unfold sp_e at w4 ⊢
          rw [rx_y_G gv, gv 1 (by decide), gv 2 (by decide)] at w4; exact w4
    have h13 : sf_S (li_f σ set v) v set 4294967295 13 = li_f σ set v 13 := sf_S_k _ _ _ _ (by decide) (by decide) (by decide)
    have h14 : sf_S (li_f σ set v) v set 4294967295 14 = li_f σ set v 14 := sf_S_k _ _ _ _ (by decide) (by decide) (by decide)
    have d1 := dj_1 okv (set := set) (wo := 4294967295) (by omega : v < 14) (y := v + 7) (by omega)
    have d2 := dj_2 okv (set := set) (wo := 4294967295) (by omega : v < 14)
    rw [gv 3 (by decide)] at d1 d2
    unfold li_f li_1
    generalize sf_S (li_f σ set v) v set 4294967295 = t at h13 h14 d1 d2 ⊢
    rw [h13]
    by_cases hlt : t 10 (v + 7) < li_f σ set v 13 0
    · rw [if_pos hlt, cb_up_s, cb_up_k _ (by decide), cb_up_s]
      refine ⟨fun h => ?_, fun v' es h1 h2 => ?_⟩
      · obtain ⟨es, w1, w2, w3⟩ := d1 h
        obtain ⟨b, b1, b2, b3, b4, b5, -⟩ := wk_sound ok (by omega : v < 7) es _ ((hwk es _).mpr w1)
        have hpar : ip set (wx es) = true ∧ b = v := by
          unfold dv at b2
          cases hq : ip set (wx es) <;> rw [hq] at b2 <;> simp at b2
          · omega
          · exact ⟨rfl, by omega⟩
        rw [← w3, ← w2]
        refine ⟨⟨b5, fun x => ?_⟩, hpar.1, b4⟩
        rw [b3, hpar.2]; simp
      · by_cases hvv : v' = v
        · subst hvv; exact d2 es _ ((hwk es _).mp h2)
        · have := i2 v' es (by omega) h2; omega
    · rw [if_neg hlt, h13, h14]
      refine ⟨i1, fun v' es h1 h2 => ?_⟩
      by_cases hvv : v' = v
      · subst hvv; have := d2 es _ ((hwk es _).mp h2); omega
      · exact i2 v' es (by omega) h2
theorem li_main {σ : cb_S} (ok : cb_OK σ) (set : Nat) {C0 : Nat} (h0 : gc (σ 1) (σ 2) (σ 0 0) C0) (hi0 : ip set C0 = true) :
    gc (σ 1) (σ 2) (σ 0 0) (li_S σ set 14 0) ∧ ip set (li_S σ set 14 0) = true ∧ wt_f (σ 3) (li_S σ set 14 0) (σ 0 0) = li_S σ set 13 0 ∧ ∀ C, gc (σ 1) (σ 2) (σ 0 0) C → ip set C = true → li_S σ set 13 0 ≤ wt_f (σ 3) C (σ 0 0) := by
  obtain ⟨l1, l2⟩ := li_inv ok set 7 (Nat.le_refl _)
  have hmin : ∀ C, gc (σ 1) (σ 2) (σ 0 0) C → ip set C = true → li_S σ set 13 0 ≤ wt_f (σ 3) C (σ 0 0) := by
    intro C hC hi
    obtain ⟨v, es, v1, v2, v3⟩ := odd_trail ok set _ C (Nat.le_refl _) hC hi
    have := l2 v es v1 v2
    exact Nat.le_trans this v3
  have hlt : li_f σ set 7 13 0 < 1000000 := by
    have h1 := hmin C0 h0 hi0
    have h2 := wt_1200 ok C0
    unfold li_S at h1
    omega
  obtain ⟨q1, q2, q3⟩ := l1 hlt
  exact ⟨q1, q2, Nat.le_antisymm q3 (hmin _ q1 q2), hmin⟩
end
section
/-! through and bridges -/
theorem mh_spec (cw : Nat → Nat) (e : Nat) : ∀ n, (mh_f cw e n = 4294967291 ∧ ∀ x, 1 ≤ x → x ≤ n → x.testBit e = true → ¬ cw x < 2147483648) ∨
    (mh_f cw e n < 2147483648 ∧ (∃ x, 1 ≤ x ∧ x ≤ n ∧ x.testBit e = true ∧ cw x = mh_f cw e n) ∧ ∀ x, 1 ≤ x → x ≤ n → x.testBit e = true → cw x < 2147483648 → mh_f cw e n ≤ cw x) := by
  intro n
  induction n with
  | zero => exact Or.inl ⟨rfl, fun x h1 h2 => by omega⟩
  | succ n ih =>
    have hb : ((n + 1) >>> e) &&& 1 ≠ 0 ↔ (n + 1).testBit e = true := by
      rw [Ne, tb_0]; cases (n + 1).testBit e <;> simp
    unfold mh_f
    by_cases hc : ((n + 1) >>> e) &&& 1 ≠ 0 ∧ cw (n + 1) < 2147483648 ∧ (2147483648 ≤ mh_f cw e n ∨ cw (n + 1) < mh_f cw e n)
    · rw [if_pos hc]
      refine Or.inr ⟨hc.2.1, ⟨n + 1, by omega, by omega, hb.mp hc.1, rfl⟩, fun x h1 h2 h3 h4 => ?_⟩
      by_cases hx : x = n + 1
      · subst hx; exact Nat.le_refl _
      · rcases ih with ⟨i1, i2⟩ | ⟨i1, i2, i3⟩
        · exact absurd h4 (i2 x h1 (by omega) h3)
        · have := i3 x h1 (by omega) h3 h4
          omega
    · rw [if_neg hc]
      rcases ih with ⟨i1, i2⟩ | ⟨i1, ⟨y, y1, y2, y3, y4⟩, i3⟩
      · refine Or.inl ⟨i1, fun x h1 h2 h3 h4 => ?_⟩
        by_cases hx : x = n + 1
        · subst hx; exact hc ⟨hb.mpr h3, h4, Or.inl (by omega)⟩
        · exact i2 x h1 (by omega) h3 h4
      · refine Or.inr ⟨i1, ⟨y, y1, by omega, y3, y4⟩, fun x h1 h2 h3 h4 => ?_⟩
        by_cases hx : x = n + 1
        · subst hx
          rcases Nat.lt_or_ge (cw (n + 1)) (mh_f cw e n) with q | q
          · exact absurd ⟨hb.mpr h3, h4, Or.inr q⟩ hc
          · exact q
        · exact i3 x h1 (by omega) h3 h4
/-- the search without e between e's ends is the lightest closed set through e -/
theorem th_main {σ : cb_S} (ok : cb_OK σ) {e : Nat} (he : e < σ 0 0) :
    (∀ C, gc (σ 1) (σ 2) (σ 0 0) C → C.testBit e = true → sf_S σ (σ 1 e) 0 e 10 (σ 2 e) + σ 3 e ≤ wt_f (σ 3) C (σ 0 0)) ∧
    (sf_S σ (σ 1 e) 0 e 10 (σ 2 e) < 1000000 → ∃ C, gc (σ 1) (σ 2) (σ 0 0) C ∧ C.testBit e = true ∧ wt_f (σ 3) C (σ 0 0) ≤ sf_S σ (σ 1 e) 0 e 10 (σ 2 e) + σ 3 e) := by
  obtain ⟨o1, o2, o3, o4, -⟩ := ok.2 e he
  have h12 := ok.1
  constructor
  · intro C hC hb
    have hk1 : ∀ k, (C ^^^ 2 ^ e).testBit k = true → C.testBit k = true ∧ k ≠ e := by
      intro k hk
      rw [Nat.testBit_xor, tb_pow] at hk
      by_cases hke : e = k
      · subst hke; rw [hb] at hk; simp at hk
      · simp [hke] at hk; exact ⟨hk, fun q => hke q.symm⟩
    obtain ⟨es, e1, e2, e3⟩ := trail ok 0 e (a := σ 1 e) _ (C ^^^ 2 ^ e) (σ 2 e) (Nat.le_refl _) o2 (Nat.xor_lt_two_pow hC.1 (Nat.pow_lt_pow_right (by decide) he)) (fun k hk => (hk1 k hk).2) (fun x => by
      rw [gb_xor, hC.2, gb_bit he]; simp)
    rw [ip_0l] at e1
    have h1 := dj_2 ok (by omega : σ 1 e < 14) es _ e1
    have h2 := wt_mono (w := σ 3) (S := wx es) (T := C ^^^ 2 ^ e) (n := σ 0 0) (fun k _ hk => e3 k hk)
    have h3 := wt_less (w := σ 3) he hb
    have h4 : sf_S σ (σ 1 e) 0 e 10 (σ 2 e) ≤ wl (σ 3) es := h1
    omega
  · intro hlt
    obtain ⟨es, w1, w2, w3⟩ := dj_1 ok (by omega : σ 1 e < 14) (by omega : σ 2 e < 14) hlt
    obtain ⟨b, b1, b2, b3, b4, b5, b6⟩ := wk_sound ok o1 es _ w1
    have hbe : b = σ 2 e := by
      rw [ip_0l] at b2
      exact b2.symm
    have hne := b6 (by omega)
    refine ⟨wx es ^^^ 2 ^ e, ⟨Nat.xor_lt_two_pow b5 (Nat.pow_lt_pow_right (by decide) he), fun x => ?_⟩, ?_, ?_⟩
    · rw [gb_xor, b3, gb_bit he, hbe]; simp
    · rw [Nat.testBit_xor, hne, tb_pow]; simp
    · rw [wt_more he hne]; omega
theorem tb_pos {x e : Nat} (h : x.testBit e = true) : 1 ≤ x := by
  rcases Nat.eq_zero_or_pos x with q | q
  · rw [q, Nat.zero_testBit] at h; cases h
  · exact q
theorem th_same {σ τ : cb_S} (h : cb_E σ τ) {e : Nat} (he : e < σ 0 0) : th_v (sf_S σ (σ 1 e) 0 e) e = mh_f (τ 5) e 4095 := by
  have ok := h.1
  obtain ⟨o1, o2, o3, o4, -⟩ := ok.2 e he
  obtain ⟨t1, t2⟩ := th_main ok he
  have hB := (sf_S_B ok 0 e (by omega : σ 1 e < 14) (σ 2 e) (by omega)).1
  unfold th_v
  rw [sf_S_G σ _ _ _ 2 (by decide), sf_S_G σ _ _ _ 3 (by decide)]
  rcases mh_spec (τ 5) e 4095 with ⟨m1, m2⟩ | ⟨m1, ⟨y, y1, y2, y3, y4⟩, m3⟩
  · by_cases hf : 1000000 ≤ sf_S σ (σ 1 e) 0 e 10 (σ 2 e)
    · rw [if_pos hf, m1]
    · obtain ⟨C, c1, c2, c3⟩ := t2 (by omega)
      have hC := gc_4096 ok c1
      exact absurd ((E_cwlt h hC).mpr c1) (m2 C (tb_pos c2) (by omega) c2)
  · have hy : y < 4096 := by omega
    have hyc : gc (σ 1) (σ 2) (σ 0 0) y := (E_cwlt h hy).mp (by omega)
    have hyw := (E_cw h hy).1 hyc
    have h1 := t1 y hyc y3
    have h2 := wt_1200 ok y
    rw [if_neg (by omega)]
    obtain ⟨C, c1, c2, c3⟩ := t2 (by omega)
    have hC := gc_4096 ok c1
    have hcw := (E_cw h hC).1 c1
    have h3 := m3 C (tb_pos c2) (by omega) c2 ((E_cwlt h hC).mpr c1)
    omega
theorem eq_through {σ τ : cb_S} (h : cb_E σ τ) (e : Nat) : (th_p σ e).2 = mh_r τ e := by
  unfold th_p mh_r
  rw [h.2.2.1]
  by_cases he : e < σ 0 0
  · rw [if_neg (by omega), if_neg (by omega)]
    exact th_same h he
  · rw [if_pos he, if_pos he]
theorem eq_bridges {σ τ : cb_S} (h : cb_E σ τ) : (bg_f σ (σ 0 0)).2 = mb_f τ (τ 3 0) := by
  have key : ∀ n, n ≤ σ 0 0 → (bg_f σ n).2 = mb_f τ n := by
    intro n
    induction n with
    | zero => intro _; rfl
    | succ n ih =>
      intro hn
      have ih := ih (by omega)
      have hE := h.g (bg_f_G σ n)
      have g := bg_f_G σ n
      have he : n < (bg_f σ n).1 0 0 := by rw [g 0 (by decide)]; omega
      have hs := th_same hE he
      have hm : mh_r τ n = mh_f (τ 5) n 4095 := by unfold mh_r; rw [h.2.2.1, if_neg (by omega)]
      have hB := sf_S_B hE.1 0 n (by have := (hE.1.2 n he).1; omega : (bg_f σ n).1 1 n < 14) ((bg_f σ n).1 2 n) (by have := (hE.1.2 n he).2.1; omega)
      show (if 1000000 ≤ sf_S (bg_f σ n).1 ((bg_f σ n).1 1 n) 0 n 10 (sf_S (bg_f σ n).1 ((bg_f σ n).1 1 n) 0 n 2 n) then (bg_f σ n).2 + 1 else (bg_f σ n).2) = (if mh_r τ n = 4294967291 then mb_f τ n + 1 else mb_f τ n)
      rw [hm, ← hs, ih]
      unfold th_v
      have e3 := (hE.1.2 n he).2.2.2.2
      rw [sf_S_G (bg_f σ n).1 _ _ _ 2 (by decide), sf_S_G (bg_f σ n).1 _ _ _ 3 (by decide)]
      by_cases hf : 1000000 ≤ sf_S (bg_f σ n).1 ((bg_f σ n).1 1 n) 0 n 10 ((bg_f σ n).1 2 n)
      · rw [if_pos hf, if_pos hf, if_pos rfl]
      · rw [if_neg hf, if_neg hf, if_neg (by omega)]
  rw [h.2.2.1]
  exact key _ (Nat.le_refl _)
end
section
/-! spans over GF(2) of c j with q j, j < k; counting them; good sorted bases -/
def sn (c : Nat → Nat) (q : Nat → Bool) : Nat → Nat → Bool
  | 0, x => decide (x = 0)
  | k + 1, x => sn c q k x || (q k && sn c q k (x ^^^ c k))
theorem sn_s (c : Nat → Nat) (q : Nat → Bool) (k x : Nat) : sn c q (k + 1) x = true ↔ sn c q k x = true ∨ (q k = true ∧ sn c q k (x ^^^ c k) = true) := by
  show (sn c q k x || (q k && sn c q k (x ^^^ c k))) = true ↔ _
  simp
theorem sn_zero (c : Nat → Nat) (q : Nat → Bool) (k : Nat) : sn c q k 0 = true := by
  induction k with
  | zero => rfl
  | succ k ih => exact (sn_s c q k 0).mpr (Or.inl ih)
theorem sn_xor {c : Nat → Nat} {q : Nat → Bool} {k : Nat} : ∀ {x y : Nat}, sn c q k x = true → sn c q k y = true → sn c q k (x ^^^ y) = true := by
  induction k with
  | zero =>
    intro x y hx hy
    have h1 : x = 0 := by simpa [sn] using hx
    have h2 : y = 0 := by simpa [sn] using hy
    rw [h1, h2]; rfl
  | succ k ih =>
    intro x y hx hy
    rw [sn_s] at hx hy ⊢
    rcases hx with hx | ⟨h1, hx⟩
    · rcases hy with hy | ⟨h2, hy⟩
      · exact Or.inl (ih hx hy)
      · refine Or.inr ⟨h2, ?_⟩
        rw [Nat.xor_assoc]; exact ih hx hy
    · rcases hy with hy | ⟨h2, hy⟩
      · refine Or.inr ⟨h1, ?_⟩
        rw [Nat.xor_assoc, Nat.xor_comm y, ← Nat.xor_assoc]; exact ih hx hy
      · refine Or.inl ?_
        have h3 := ih hx hy
        rw [Nat.xor_assoc, ← Nat.xor_assoc (c k), Nat.xor_comm (c k) y, xx] at h3
        exact h3
theorem sn_gen {c : Nat → Nat} {q : Nat → Bool} {k j : Nat} (hj : j < k) (hq : q j = true) : sn c q k (c j) = true := by
  induction k with
  | zero => omega
  | succ k ih =>
    rw [sn_s]
    by_cases h : j = k
    · subst h; exact Or.inr ⟨hq, by rw [Nat.xor_self]; exact sn_zero c q j⟩
    · exact Or.inl (ih (by omega))
theorem sn_min {c : Nat → Nat} {q : Nat → Bool} {P : Nat → Prop} (h0 : P 0) (hx : ∀ x y, P x → P y → P (x ^^^ y)) : ∀ k, (∀ j, j < k → q j = true → P (c j)) → ∀ x, sn c q k x = true → P x := by
  intro k
  induction k with
  | zero =>
    intro _ x h
    have h1 : x = 0 := by simpa [sn] using h
    rw [h1]; exact h0
  | succ k ih =>
    intro hg x h
    have ih := ih (fun j hj => hg j (by omega))
    rw [sn_s] at h
    rcases h with h | ⟨h1, h⟩
    · exact ih x h
    · have h2 := hx _ _ (ih _ h) (hg k (by omega) h1)
      rw [xx] at h2
      exact h2
theorem sn_mono {c : Nat → Nat} {q q' : Nat → Bool} {k k' : Nat} (hk : k ≤ k') (hq : ∀ j, j < k → q j = true → q' j = true) {x : Nat} (h : sn c q k x = true) : sn c q' k' x = true :=
  sn_min (P := fun x => sn c q' k' x = true) (sn_zero c q' k') (fun _ _ => sn_xor) k (fun j hj h1 => sn_gen (by omega) (hq j hj h1)) x h
/-! counting -/
theorem cn_mono {p q : Nat → Bool} {n : Nat} (h : ∀ x, x < n → p x = true → q x = true) : cn p n ≤ cn q n := by
  induction n with
  | zero => exact Nat.le_refl 0
  | succ n ih =>
    have h1 := ih (fun x hx => h x (by omega))
    have h2 := h n (by omega)
    unfold cn
    cases hp : p n with
    | false => simp; omega
    | true => rw [h2 hp]; simp; omega
theorem cn_split (p : Nat → Bool) (a b : Nat) : cn p (a + b) = cn p a + cn (fun x => p (a + x)) b := by
  induction b with
  | zero => rfl
  | succ b ih =>
    show cn p (a + b) + (if p (a + b) then 1 else 0) = cn p a + (cn (fun x => p (a + x)) b + (if p (a + b) then 1 else 0))
    rw [ih]; omega
theorem cn_or {p q : Nat → Bool} {n : Nat} (h : ∀ x, x < n → p x = true → q x = true → False) : cn (fun x => p x || q x) n = cn p n + cn q n := by
  induction n with
  | zero => rfl
  | succ n ih =>
    have h1 := ih (fun x hx => h x (by omega))
    have h2 := h n (by omega)
    show cn (fun x => p x || q x) n + (if (p n || q n) then 1 else 0) = (cn p n + (if p n then 1 else 0)) + (cn q n + (if q n then 1 else 0))
    cases hp : p n <;> cases hq : q n <;> simp <;> first | omega | exact (h2 hp hq).elim
theorem cn_all {p : Nat → Bool} {n : Nat} (h : ∀ x, x < n → p x = true) : cn p n = n := by
  induction n with
  | zero => rfl
  | succ n ih => unfold cn; rw [ih (fun x hx => h x (by omega)), h n (by omega)]; rfl
theorem xor_top {x m : Nat} (h : x < 2 ^ m) : x ^^^ 2 ^ m = 2 ^ m + x := by
  apply tb_ext
  intro k
  rw [Nat.testBit_xor, tb_pow]
  rcases Nat.lt_trichotomy k m with q | q | q
  · rw [Nat.testBit_two_pow_add_gt q]
    have : ¬ m = k := by omega
    simp [this]
  · subst q
    rw [Nat.testBit_two_pow_add_eq, tb_lt h (Nat.le_refl _)]
    simp
  · have h1 : 2 ^ m + x < 2 ^ (m + 1) := by rw [Nat.pow_succ]; omega
    rw [tb_lt h1 (by omega), tb_lt h (by omega)]
    have : ¬ m = k := by omega
    simp [this]
theorem cn_xor : ∀ (m : Nat) (p : Nat → Bool) (g : Nat), g < 2 ^ m → cn (fun x => p (x ^^^ g)) (2 ^ m) = cn p (2 ^ m) := by
  intro m
  induction m with
  | zero =>
    intro p g hg
    have : g = 0 := by simpa using hg
    subst this
    simp [Nat.xor_zero]
  | succ m ih =>
    intro p g hg
    have h2 : 2 ^ (m + 1) = 2 ^ m + 2 ^ m := by rw [Nat.pow_succ]; omega
    rw [h2, cn_split, cn_split]
    rcases Nat.lt_or_ge g (2 ^ m) with q | q
    · rw [ih p g q]
      congr 1
      rw [← ih (fun x => p (2 ^ m + x)) g q]
      apply cn_congr
      intro x hx
      have h3 : x ^^^ g < 2 ^ m := Nat.xor_lt_two_pow hx q
      rw [← xor_top hx, ← xor_top h3, Nat.xor_assoc, Nat.xor_comm (2 ^ m) g, ← Nat.xor_assoc]
    · obtain ⟨g', hg', rfl⟩ : ∃ g', g' < 2 ^ m ∧ g = g' ^^^ 2 ^ m := by
        refine ⟨g - 2 ^ m, by omega, ?_⟩
        rw [xor_top (by omega)]; omega
      rw [Nat.add_comm]
      congr 1
      · rw [← ih p g' hg']
        apply cn_congr
        intro x hx
        rw [← xor_top hx, Nat.xor_assoc, Nat.xor_comm g', ← Nat.xor_assoc (2 ^ m), Nat.xor_self, Nat.zero_xor]
      · rw [← ih (fun x => p (2 ^ m + x)) g' hg']
        apply cn_congr
        intro x hx
        have h3 : x ^^^ g' < 2 ^ m := Nat.xor_lt_two_pow hx hg'
        rw [← xor_top h3, Nat.xor_assoc]
/-- an independent family spans a power of two -/
theorem sn_card {c : Nat → Nat} {q : Nat → Bool} : ∀ k, (∀ j, j < k → q j = true → c j < 4096) → (∀ j, j < k → q j = true → sn c q j (c j) = false) → cn (sn c q k) 4096 = 2 ^ cn q k := by
  intro k
  induction k with
  | zero =>
    intro _ _
    have h1 : cn (sn c q 0) (1 + 4095) = cn (sn c q 0) 1 + cn (fun x => sn c q 0 (1 + x)) 4095 := cn_split _ _ _
    rw [show (4096 : Nat) = 1 + 4095 by decide, h1, cn_none (p := fun x => sn c q 0 (1 + x)) (fun x _ => by simp [sn])]
    rfl
  | succ k ih =>
    intro hc hi
    have ih := ih (fun j hj => hc j (by omega)) (fun j hj => hi j (by omega))
    show cn (fun x => sn c q k x || (q k && sn c q k (x ^^^ c k))) 4096 = 2 ^ (cn q k + (if q k then 1 else 0))
    cases hq : q k with
    | false =>
      rw [← show cn (sn c q k) 4096 = cn (fun x => sn c q k x || (false && sn c q k (x ^^^ c k))) 4096 from cn_congr (fun x _ => by simp), ih]
      simp
    | true =>
      have h1 : cn (fun x => sn c q k x || (true && sn c q k (x ^^^ c k))) 4096 = cn (sn c q k) 4096 + cn (fun x => sn c q k (x ^^^ c k)) 4096 := by
        rw [← cn_or (p := sn c q k) (q := fun x => sn c q k (x ^^^ c k))]
        · apply cn_congr
          intro x _
          simp
        · intro x _ a b
          have h2 := sn_xor a b
          rw [← Nat.xor_assoc, Nat.xor_self, Nat.zero_xor] at h2
          rw [hi k (by omega) hq] at h2
          cases h2
      rw [h1, show (4096 : Nat) = 2 ^ 12 by decide, cn_xor 12 (sn c q k) (c k) (hc k (by omega) hq), show (2 ^ 12 : Nat) = 4096 by decide, ih]
      rw [if_pos rfl, Nat.pow_succ]
      omega
theorem pow_inj {a b : Nat} (h : 2 ^ a = 2 ^ b) : a = b := by
  rcases Nat.lt_trichotomy a b with q | q | q
  · have := Nat.pow_lt_pow_right (by decide : 1 < 2) q; omega
  · exact q
  · have := Nat.pow_lt_pow_right (by decide : 1 < 2) q; omega
/-- sorted: the places below a threshold are a beginning -/
theorem cn_sorted {d : Nat → Nat} (t : Nat) : ∀ r, (∀ i j, i ≤ j → j < r → d i ≤ d j) → ∀ i, i < r → (d i ≤ t ↔ i < cn (fun j => decide (d j ≤ t)) r) := by
  intro r
  induction r with
  | zero => intro _ i hi; omega
  | succ r ih =>
    intro hs i hi
    by_cases hr : d r ≤ t
    · have h1 : cn (fun j => decide (d j ≤ t)) (r + 1) = r + 1 := cn_all (fun x hx => by
        have := hs x r (by omega) (by omega)
        simp; omega)
      rw [h1]
      have := hs i r (by omega) (by omega)
      exact ⟨fun _ => hi, fun _ => by omega⟩
    · have h1 : cn (fun j => decide (d j ≤ t)) (r + 1) = cn (fun j => decide (d j ≤ t)) r := by
        show cn _ r + (if decide (d r ≤ t) = true then 1 else 0) = _
        rw [if_neg (by simpa using hr)]; rfl
      rw [h1]
      by_cases hir : i = r
      · subst hir
        have := cn_le (fun j => decide (d j ≤ t)) i
        exact ⟨fun q => absurd q hr, fun q => by omega⟩
      · exact ih (fun a b h1 h2 => hs a b h1 (by omega)) i (by omega)
/-- a good sorted basis of the closed sets of σ's graph -/
def GB (σ : cb_S) (r : Nat) (c d : Nat → Nat) : Prop :=
  (∀ i, i < r → gc (σ 1) (σ 2) (σ 0 0) (c i) ∧ wt_f (σ 3) (c i) (σ 0 0) = d i) ∧ (∀ i j, i ≤ j → j < r → d i ≤ d j) ∧
  (∀ C, gc (σ 1) (σ 2) (σ 0 0) C → sn c (fun j => decide (d j ≤ wt_f (σ 3) C (σ 0 0))) r C = true) ∧ (∀ i, i < r → sn c (fun _ => true) i (c i) = false)
theorem GB_card {σ : cb_S} (ok : cb_OK σ) {r : Nat} {c d : Nat → Nat} (h : GB σ r c d) (q : Nat → Bool) : cn (sn c q r) 4096 = 2 ^ cn q r := by
  apply sn_card
  · intro j hj _; exact gc_4096 ok (h.1 j hj).1
  · intro j hj _
    cases hs : sn c q j (c j) with
    | false => rfl
    | true =>
      have := sn_mono (q' := fun _ => true) (Nat.le_refl j) (fun _ _ _ => rfl) hs
      rw [h.2.2.2 j hj] at this
      cases this
theorem GB_sub {σ : cb_S} {r r' : Nat} {c d c' d' : Nat → Nat} (h : GB σ r c d) (h' : GB σ r' c' d') (t : Nat) {x : Nat} (hx : sn c (fun j => decide (d j ≤ t)) r x = true) : sn c' (fun j => decide (d' j ≤ t)) r' x = true := by
  refine sn_min (P := fun x => sn c' (fun j => decide (d' j ≤ t)) r' x = true) (sn_zero _ _ _) (fun _ _ => sn_xor) r (fun j hj h1 => ?_) x hx
  have h1 : d j ≤ t := by simpa using h1
  refine sn_mono (Nat.le_refl _) (fun i _ h2 => ?_) (h'.2.2.1 (c j) (h.1 j hj).1)
  have h2 : d' i ≤ wt_f (σ 3) (c j) (σ 0 0) := by simpa using h2
  rw [(h.1 j hj).2] at h2
  simp; omega
theorem GB_unique {σ : cb_S} (ok : cb_OK σ) {r r' : Nat} {c d c' d' : Nat → Nat} (h : GB σ r c d) (h' : GB σ r' c' d') : r = r' ∧ ∀ i, i < r → d i = d' i := by
  have key : ∀ t, cn (fun j => decide (d j ≤ t)) r = cn (fun j => decide (d' j ≤ t)) r' := by
    intro t
    apply pow_inj
    rw [← GB_card ok h, ← GB_card ok h']
    apply cn_congr
    intro x _
    cases h1 : sn c (fun j => decide (d j ≤ t)) r x with
    | true => exact (GB_sub h h' t h1).symm
    | false =>
      cases h2 : sn c' (fun j => decide (d' j ≤ t)) r' x with
      | false => rfl
      | true => rw [GB_sub h' h t h2] at h1; cases h1
  have hr : r = r' := by
    have h1 := key 1200
    rw [cn_all (fun x hx => by have := wt_1200 ok (c x); rw [(h.1 x hx).2] at this; simpa using this), cn_all (fun x hx => by have := wt_1200 ok (c' x); rw [(h'.1 x hx).2] at this; simpa using this)] at h1
    exact h1
  subst hr
  refine ⟨rfl, fun i hi => ?_⟩
  have e1 : ∀ t, d i ≤ t ↔ d' i ≤ t := fun t => by rw [cn_sorted t r h.2.1 i hi, cn_sorted t r h'.2.1 i hi, key t]
  have := (e1 (d i)).mp (Nat.le_refl _)
  have := (e1 (d' i)).mpr (Nat.le_refl _)
  omega
theorem GB_all {σ : cb_S} {r : Nat} {c d : Nat → Nat} (h : GB σ r c d) (x : Nat) : sn c (fun _ => true) r x = true ↔ gc (σ 1) (σ 2) (σ 0 0) x := by
  constructor
  · intro hx
    exact sn_min (P := fun x => gc (σ 1) (σ 2) (σ 0 0) x) (gc_zero _ _ _) (fun _ _ => gc_xor) r (fun j hj _ => (h.1 j hj).1) x hx
  · intro hx
    exact sn_mono (Nat.le_refl _) (fun _ _ _ => rfl) (h.2.2.1 x hx)
/-- the level of a set by a basis -/
def LV (r : Nat) (c d : Nat → Nat) (mask v : Nat) : Prop := (mask = 0 ∧ v = 0) ∨ (mask ≠ 0 ∧ ∃ i, i < r ∧ v = d i ∧ sn c (fun _ => true) (i + 1) mask = true ∧ sn c (fun _ => true) i mask = false)
theorem LV_le {σ : cb_S} {r r' : Nat} {c d c' d' : Nat → Nat} (h : GB σ r c d) (h' : GB σ r' c' d') {mask i i' : Nat} (hi : i < r) (hi' : i' < r') (h1 : sn c (fun _ => true) i mask = false) (h2 : sn c' (fun _ => true) (i' + 1) mask = true) : d i ≤ d' i' := by
  rcases Nat.lt_or_ge (d' i') (d i) with q | q
  · exfalso
    have h3 : sn c' (fun j => decide (d' j ≤ d' i')) r' mask = true := sn_mono (k := i' + 1) (by omega) (fun j hj _ => by have := h'.2.1 j i' (by omega) hi'; simpa using this) h2
    have h4 := GB_sub h' h (d' i') h3
    have h5 : sn c (fun _ => true) i mask = true := by
      refine sn_min (P := fun x => sn c (fun _ => true) i x = true) (sn_zero _ _ _) (fun _ _ => sn_xor) r (fun j hj hq => ?_) mask h4
      have hq : d j ≤ d' i' := by simpa using hq
      have hji : j < i := by
        rcases Nat.lt_or_ge j i with z | z
        · exact z
        · have := h.2.1 i j z hj; omega
      exact sn_gen hji rfl
    rw [h1] at h5; cases h5
  · exact q
theorem LV_unique {σ : cb_S} {r r' : Nat} {c d c' d' : Nat → Nat} (h : GB σ r c d) (h' : GB σ r' c' d') {mask v v' : Nat} (hv : LV r c d mask v) (hv' : LV r' c' d' mask v') : v = v' := by
  rcases hv with ⟨a1, a2⟩ | ⟨a1, i, i1, i2, i3, i4⟩
  · rcases hv' with ⟨b1, b2⟩ | ⟨b1, -⟩
    · rw [a2, b2]
    · exact absurd a1 b1
  · rcases hv' with ⟨b1, b2⟩ | ⟨b1, j, j1, j2, j3, j4⟩
    · exact absurd b1 a1
    · have h1 := LV_le h h' i1 j1 i4 j3
      have h2 := LV_le h' h j1 i1 j4 i3
      omega
end
section
/-! the model's greedy basis -/
def gr (τ : cb_S) : Nat → cb_S
  | 0 => fo_S τ
  | k + 1 => if lt_r (gr τ k) = 4294967295 then gr τ k else tk_S (gr τ k) (lt_r (gr τ k))
theorem gr_k (τ : cb_S) {k : Nat} (h : k ≠ 4) (n : Nat) : gr τ n k = τ k := by
  induction n with
  | zero => exact fo_S_k τ h
  | succ n ih =>
    unfold gr
    split
    · exact ih
    · rw [tk_S_k _ _ h, ih]
/-- take: the old sums and their sums with the taken -/
theorem tk_f_4 (τ : cb_S) {t : Nat} (ht : t < 4096) (hz : mo_Z τ) : ∀ n, n ≤ 4096 → ∀ x, x < 4096 → (tk_f τ t n 4 x ≠ 0 ↔ τ 4 x ≠ 0 ∨ (τ 4 (x ^^^ t) ≠ 0 ∧ x ^^^ t < n)) := by
  intro n
  induction n with
  | zero => intro _ x _; exact ⟨fun q => Or.inl q, fun q => q.elim id (fun z => by omega)⟩
  | succ n ih =>
    intro hn x hx
    have ih := ih (by omega)
    have hnt : n ^^^ t < 4096 := xor_12 (by omega) ht
    unfold tk_f
    by_cases hc : tk_f τ t n 4 n ≠ 0 ∧ tk_f τ t n 4 (n ^^^ t) = 0
    · rw [if_pos hc]
      have h1 : τ 4 n ≠ 0 := by
        rcases (ih n (by omega)).mp hc.1 with q | ⟨q1, q2⟩
        · exact q
        · have := (ih (n ^^^ t) hnt).mpr (Or.inl q1)
          exact absurd hc.2 this
      by_cases hxn : x = n ^^^ t
      · subst hxn
        rw [cb_up_s, xx]
        exact ⟨fun _ => Or.inr ⟨h1, by omega⟩, fun _ => by decide⟩
      · rw [cb_up_i _ _ hxn, ih x hx]
        have hne : x ^^^ t ≠ n := fun q => hxn (by rw [← q, xx])
        constructor
        · rintro (q | ⟨q1, q2⟩)
          · exact Or.inl q
          · exact Or.inr ⟨q1, by omega⟩
        · rintro (q | ⟨q1, q2⟩)
          · exact Or.inl q
          · exact Or.inr ⟨q1, by omega⟩
    · rw [if_neg hc, ih x hx]
      constructor
      · rintro (q | ⟨q1, q2⟩)
        · exact Or.inl q
        · exact Or.inr ⟨q1, by omega⟩
      · rintro (q | ⟨q1, q2⟩)
        · exact Or.inl q
        · by_cases hne : x ^^^ t = n
          · -- x = n ^^^ t: then it was there already
            have hxe : x = n ^^^ t := by rw [← hne, xx]
            have h1 : tk_f τ t n 4 n ≠ 0 := (ih n (by omega)).mpr (Or.inl (hne ▸ q1))
            have h2 : tk_f τ t n 4 (n ^^^ t) ≠ 0 := fun z => hc ⟨h1, z⟩
            rw [← hxe] at h2
            exact (ih x hx).mp h2
          · exact Or.inr ⟨q1, by omega⟩
theorem tk_S_4 (τ : cb_S) {t : Nat} (ht : t < 4096) (hz : mo_Z τ) {x : Nat} (hx : x < 4096) : tk_S τ t 4 x ≠ 0 ↔ τ 4 x ≠ 0 ∨ τ 4 (x ^^^ t) ≠ 0 := by
  have h := tk_f_4 τ ht hz 4096 (Nat.le_refl _) x hx
  have h2 := xor_12 hx ht
  unfold tk_S
  rw [h]
  constructor
  · rintro (q | ⟨q1, q2⟩)
    · exact Or.inl q
    · exact Or.inr q1
  · rintro (q | q)
    · exact Or.inl q
    · exact Or.inr ⟨q, h2⟩
theorem gr_Z (τ : cb_S) (n : Nat) : mo_Z (gr τ n) := by
  induction n with
  | zero => exact fo_S_Z τ
  | succ n ih =>
    unfold gr
    split
    · exact ih
    · exact tk_S_Z ih _
def gr_c (τ : cb_S) (k : Nat) : Nat := lt_r (gr τ k)
def gr_d (τ : cb_S) (k : Nat) : Nat := τ 5 (lt_r (gr τ k))
/-- the sums are the span of what was taken -/
theorem gr_sn (τ : cb_S) : ∀ n, (∀ k, k < n → gr_c τ k ≠ 4294967295) → ∀ x, x < 4096 → (gr τ n 4 x ≠ 0 ↔ sn (gr_c τ) (fun _ => true) n x = true) := by
  intro n
  induction n with
  | zero =>
    intro _ x hx
    show fo_S τ 4 x ≠ 0 ↔ decide (x = 0) = true
    rw [fo_S_4 τ x hx]
    by_cases h : x = 0 <;> simp [h]
  | succ n ih =>
    intro hl x hx
    have ih := ih (fun k hk => hl k (by omega))
    have hn := hl n (by omega)
    have hlt : gr_c τ n < 4096 := by
      rcases lt_r_lt (gr τ n) with q | q
      · exact absurd q hn
      · exact q
    rw [sn_s, ← ih x hx, ← ih (x ^^^ gr_c τ n) (xor_12 hx hlt)]
    have e1 : gr τ (n + 1) = tk_S (gr τ n) (gr_c τ n) := by
      show (if lt_r (gr τ n) = 4294967295 then gr τ n else tk_S (gr τ n) (lt_r (gr τ n))) = _
      exact if_neg hn
    rw [e1, tk_S_4 (gr τ n) hlt (gr_Z τ n) hx]
    simp
theorem gr_stop (τ : cb_S) : ∀ n, ∃ m, m ≤ n ∧ (∀ k, k < m → gr_c τ k ≠ 4294967295) ∧ (m = n ∨ gr_c τ m = 4294967295) := by
  intro n
  induction n with
  | zero => exact ⟨0, Nat.le_refl _, fun k h => by omega, Or.inl rfl⟩
  | succ n ih =>
    obtain ⟨m, m1, m2, m3⟩ := ih
    rcases m3 with q | q
    · subst q
      by_cases h : gr_c τ m = 4294967295
      · exact ⟨m, by omega, m2, Or.inr h⟩
      · refine ⟨m + 1, Nat.le_refl _, fun k hk => ?_, Or.inl rfl⟩
        by_cases hk2 : k = m
        · rw [hk2]; exact h
        · exact m2 k (by omega)
    · exact ⟨m, by omega, m2, Or.inr q⟩
/-- what lightest gives at a step -/
theorem gr_step {σ τ : cb_S} (h : cb_E σ τ) (k : Nat) : (gr_c τ k = 4294967295 ∧ ∀ C, gc (σ 1) (σ 2) (σ 0 0) C → gr τ k 4 C ≠ 0) ∨
    (gr_c τ k < 4096 ∧ gc (σ 1) (σ 2) (σ 0 0) (gr_c τ k) ∧ wt_f (σ 3) (gr_c τ k) (σ 0 0) = gr_d τ k ∧ gr τ k 4 (gr_c τ k) = 0 ∧ ∀ C, gc (σ 1) (σ 2) (σ 0 0) C → gr τ k 4 C = 0 → gr_d τ k ≤ wt_f (σ 3) C (σ 0 0)) := by
  have h5 : gr τ k 5 = τ 5 := gr_k τ (by decide) k
  have hs := lt_f_spec (gr τ k 5) (gr τ k 4) 4096 (Nat.le_refl _)
  rw [h5] at hs
  have he : lt_f (τ 5) (gr τ k 4) 4096 = gr_c τ k := by unfold gr_c lt_r; rw [h5]
  rw [he] at hs
  rcases hs with ⟨q1, q2⟩ | ⟨q1, q2, q3, q4⟩
  · refine Or.inl ⟨q1, fun C hC hz => ?_⟩
    have hC4 := gc_4096 h.1 hC
    exact q2 C hC4 ⟨(E_cwlt h hC4).mpr hC, hz⟩
  · have hg := (E_cwlt h q1).mp q2
    refine Or.inr ⟨q1, hg, ((E_cw h q1).1 hg).symm, q3, fun C hC hz => ?_⟩
    have hC4 := gc_4096 h.1 hC
    have := q4 C hC4 ((E_cwlt h hC4).mpr hC) hz
    rw [(E_cw h hC4).1 hC] at this
    exact this
theorem gr_GB {σ τ : cb_S} (h : cb_E σ τ) : ∃ m, m ≤ 12 ∧ (∀ k, k < m → gr_c τ k ≠ 4294967295) ∧ (m = 12 ∨ gr_c τ m = 4294967295) ∧ GB σ m (gr_c τ) (gr_d τ) := by
  obtain ⟨m, m1, m2, m3⟩ := gr_stop τ 12
  have step : ∀ k, k < m → gr_c τ k < 4096 ∧ gc (σ 1) (σ 2) (σ 0 0) (gr_c τ k) ∧ wt_f (σ 3) (gr_c τ k) (σ 0 0) = gr_d τ k ∧ gr τ k 4 (gr_c τ k) = 0 ∧ ∀ C, gc (σ 1) (σ 2) (σ 0 0) C → gr τ k 4 C = 0 → gr_d τ k ≤ wt_f (σ 3) C (σ 0 0) := by
    intro k hk
    rcases gr_step h k with q | q
    · exact absurd q.1 (m2 k hk)
    · exact q
  have span : ∀ k, k ≤ m → ∀ x, x < 4096 → (gr τ k 4 x ≠ 0 ↔ sn (gr_c τ) (fun _ => true) k x = true) := fun k hk => gr_sn τ k (fun j hj => m2 j (by omega))
  have indep : ∀ i, i < m → sn (gr_c τ) (fun _ => true) i (gr_c τ i) = false := by
    intro i hi
    obtain ⟨s1, -, -, s4, -⟩ := step i hi
    cases hq : sn (gr_c τ) (fun _ => true) i (gr_c τ i) with
    | false => rfl
    | true => exact absurd s4 ((span i (by omega) _ s1).mpr hq)
  have sorted : ∀ i j, i ≤ j → j < m → gr_d τ i ≤ gr_d τ j := by
    intro i j hij hj
    obtain ⟨s1, s2, s3, s4, -⟩ := step j hj
    obtain ⟨-, -, -, -, t5⟩ := step i (by omega)
    rw [← s3]
    refine t5 _ s2 ?_
    apply Classical.byContradiction
    intro hne
    have h1 := (span i (by omega) _ s1).mp hne
    have h2 := sn_mono (k' := j) hij (fun _ _ _ => rfl) h1 (q' := fun _ => true)
    rw [indep j hj] at h2; cases h2
  refine ⟨m, m1, m2, m3, fun i hi => ⟨(step i hi).2.1, (step i hi).2.2.1⟩, sorted, fun C hC => ?_, indep⟩
  have hC4 := gc_4096 h.1 hC
  -- all at the end
  have hend : sn (gr_c τ) (fun _ => true) m C = true := by
    rw [← span m (Nat.le_refl _) C hC4]
    rcases m3 with q | q
    · have h1 : cn (sn (gr_c τ) (fun _ => true) m) 4096 = 2 ^ cn (fun _ => true) m := sn_card m (fun j hj _ => (step j hj).1) (fun j hj _ => indep j hj)
      rw [cn_all (fun _ _ => rfl), q] at h1
      have h2 := cn_full (by rw [h1]) C hC4
      rw [← q] at h2
      exact (span m (Nat.le_refl _) C hC4).mpr h2
    · rcases gr_step h m with z | z
      · exact z.2 C hC
      · omega
  -- the beginning below the weight
  have hpre := cn_sorted (wt_f (σ 3) C (σ 0 0)) m sorted
  have hle := cn_le (fun j => decide (gr_d τ j ≤ wt_f (σ 3) C (σ 0 0))) m
  generalize hk : cn (fun j => decide (gr_d τ j ≤ wt_f (σ 3) C (σ 0 0))) m = k at hpre hle
  have hin : sn (gr_c τ) (fun _ => true) k C = true := by
    by_cases hkm : k = m
    · rw [hkm]; exact hend
    · rw [← span k hle C hC4]
      intro hz
      have h1 := (step k (by omega)).2.2.2.2 C hC hz
      have h2 := (hpre k (by omega)).mp h1
      omega
  refine sn_mono hle (fun j hj _ => ?_) hin
  have := (hpre j (by omega)).mpr hj
  simpa using this
/-! the model's answers by the greedy basis -/
def sd (d : Nat → Nat) : Nat → Nat
  | 0 => 0
  | n + 1 => sd d n + d n
theorem sd_congr {d d' : Nat → Nat} {n : Nat} (h : ∀ i, i < n → d i = d' i) : sd d n = sd d' n := by
  induction n with
  | zero => rfl
  | succ n ih => unfold sd; rw [ih (fun i hi => h i (by omega)), h n (by omega)]
theorem mt_dead : ∀ (k : Nat) (t : cb_S) (sum : Nat), lt_r t = 4294967295 → (mt_f k t sum).2 = sum := by
  intro k
  induction k with
  | zero => intro t sum _; rfl
  | succ k ih => intro t sum h; unfold mt_f; rw [if_pos h]; exact ih t sum h
theorem mt_gr {τ : cb_S} {m : Nat} (hm : m ≤ 12) (h1 : ∀ k, k < m → gr_c τ k ≠ 4294967295) (h2 : m = 12 ∨ gr_c τ m = 4294967295) : ∀ (k j : Nat), j + k = 12 → j ≤ m → (mt_f k (gr τ j) (sd (gr_d τ) j)).2 = sd (gr_d τ) m := by
  intro k
  induction k with
  | zero =>
    intro j hj hjm
    rw [show m = j by omega]; rfl
  | succ k ih =>
    intro j hj hjm
    by_cases hjm2 : j = m
    · subst hjm2
      rcases h2 with q | q
      · omega
      · exact mt_dead _ _ _ q
    · have hl : lt_r (gr τ j) ≠ 4294967295 := h1 j (by omega)
      unfold mt_f
      rw [if_neg hl]
      have e1 : tk_S (gr τ j) (lt_r (gr τ j)) = gr τ (j + 1) := by
        show _ = (if lt_r (gr τ j) = 4294967295 then gr τ j else tk_S (gr τ j) (lt_r (gr τ j)))
        rw [if_neg hl]
      have e2 : sd (gr_d τ) j + gr τ j 5 (lt_r (gr τ j)) = sd (gr_d τ) (j + 1) := by
        show _ = sd (gr_d τ) j + gr_d τ j
        rw [gr_k τ (by decide)]; rfl
      rw [e1, e2]
      exact ih (j + 1) (by omega) (by omega)
theorem mp_gr {τ : cb_S} {m : Nat} (hm : m ≤ 12) (h1 : ∀ k, k < m → gr_c τ k ≠ 4294967295) (h2 : m = 12 ∨ gr_c τ m = 4294967295) (i : Nat) : ∀ (f k : Nat), k + f = 12 → k ≤ m → (mp_f i f k (gr τ k)).2 = if k ≤ i ∧ i < m then gr_d τ i else 4294967291 := by
  intro f
  induction f with
  | zero =>
    intro k hk hkm
    rw [if_neg (by omega)]; rfl
  | succ f ih =>
    intro k hk hkm
    unfold mp_f
    by_cases hkm2 : k = m
    · subst hkm2
      have q : lt_r (gr τ k) = 4294967295 := by
        rcases h2 with q | q
        · omega
        · exact q
      rw [if_pos q, if_neg (by omega)]
    · have hl : lt_r (gr τ k) ≠ 4294967295 := h1 k (by omega)
      rw [if_neg hl]
      by_cases hki : k = i
      · rw [if_pos hki, if_pos (by omega)]
        rw [gr_k τ (by decide), hki]; rfl
      · rw [if_neg hki]
        have e1 : tk_S (gr τ k) (lt_r (gr τ k)) = gr τ (k + 1) := by
          show _ = (if lt_r (gr τ k) = 4294967295 then gr τ k else tk_S (gr τ k) (lt_r (gr τ k)))
          rw [if_neg hl]
        rw [e1, ih (k + 1) (by omega) (by omega)]
        by_cases hc : k ≤ i ∧ i < m
        · rw [if_pos hc, if_pos (by omega)]
        · rw [if_neg hc, if_neg (by omega)]
theorem ml_gr {σ τ : cb_S} (hE : cb_E σ τ) {m : Nat} (hm : m ≤ 12) (h1 : ∀ k, k < m → gr_c τ k ≠ 4294967295) (h2 : m = 12 ∨ gr_c τ m = 4294967295) (hG : GB σ m (gr_c τ) (gr_d τ)) {mask : Nat} (hc : gc (σ 1) (σ 2) (σ 0 0) mask) :
    ∀ (f k last : Nat), k + f = 12 → k ≤ m → (k = 0 → last = 0) → (0 < k → last = gr_d τ (k - 1) ∧ sn (gr_c τ) (fun _ => true) (k - 1) mask = false) → LV m (gr_c τ) (gr_d τ) mask (ml_f mask f (gr τ k) last).2 := by
  have hC4 := gc_4096 hE.1 hc
  have hall := (GB_all hG mask).mpr hc
  have out : ∀ k last, k ≤ m → (k = 0 → last = 0) → (0 < k → last = gr_d τ (k - 1) ∧ sn (gr_c τ) (fun _ => true) (k - 1) mask = false) → sn (gr_c τ) (fun _ => true) k mask = true → LV m (gr_c τ) (gr_d τ) mask last := by
    intro k last hkm g0 g1 hs
    rcases Nat.eq_zero_or_pos k with q | q
    · subst q
      have h3 : mask = 0 := by simpa [sn] using hs
      exact Or.inl ⟨h3, g0 rfl⟩
    · obtain ⟨g2, g3⟩ := g1 q
      refine Or.inr ⟨fun z => ?_, k - 1, by omega, g2, ?_, g3⟩
      · rw [z, sn_zero] at g3; cases g3
      · rw [show k - 1 + 1 = k by omega]; exact hs
  intro f
  induction f with
  | zero =>
    intro k last hk hkm g0 g1
    have : k = m := by omega
    exact out k last hkm g0 g1 (by rw [this]; exact hall)
  | succ f ih =>
    intro k last hk hkm g0 g1
    have hsp := gr_sn τ k (fun j hj => h1 j (by omega)) mask hC4
    unfold ml_f
    by_cases hs : gr τ k 4 mask ≠ 0
    · rw [if_pos hs]
      exact out k last hkm g0 g1 (hsp.mp hs)
    · rw [if_neg hs]
      have hns : sn (gr_c τ) (fun _ => true) k mask = false := by
        cases hq : sn (gr_c τ) (fun _ => true) k mask with
        | false => rfl
        | true => exact absurd (hsp.mpr hq) hs
      have hkm2 : k < m := by
        rcases Nat.lt_or_ge k m with q | q
        · exact q
        · rw [show k = m by omega, hall] at hns; cases hns
      have hl : lt_r (gr τ k) ≠ 4294967295 := h1 k hkm2
      have e1 : tk_S (gr τ k) (lt_r (gr τ k)) = gr τ (k + 1) := by
        show _ = (if lt_r (gr τ k) = 4294967295 then gr τ k else tk_S (gr τ k) (lt_r (gr τ k)))
        rw [if_neg hl]
      rw [e1]
      refine ih (k + 1) _ (by omega) (by omega) (fun q => by omega) (fun _ => ⟨?_, hns⟩)
      rw [gr_k τ (by decide)]; rfl
/-- the model's rank counts the closed sets -/
theorem rk_cn (cw : Nat → Nat) (n : Nat) : cn (fun x => decide (cw x < 2147483648)) (n + 1) = (if cw 0 < 2147483648 then 1 else 0) + rk_n cw n := by
  induction n with
  | zero =>
    show 0 + (if decide (cw 0 < 2147483648) = true then 1 else 0) = _
    by_cases h : cw 0 < 2147483648 <;> simp [h, rk_n]
  | succ n ih =>
    show cn _ (n + 1) + (if decide (cw (n + 1) < 2147483648) = true then 1 else 0) = _ + (if cw (n + 1) < 2147483648 then rk_n cw n + 1 else rk_n cw n)
    rw [ih]
    by_cases h : cw (n + 1) < 2147483648
    · simp only [h, decide_true, if_true]; omega
    · simp only [h, decide_false, if_false]; simp
theorem rk_l_eq {n r : Nat} (h : n + 1 = 2 ^ r) : ∀ k j, j ≤ r → r ≤ j + k → rk_l n k j = r := by
  intro k
  induction k with
  | zero => intro j h1 h2; show j = r; omega
  | succ k ih =>
    intro j h1 h2
    unfold rk_l
    by_cases hj : j = r
    · subst hj; rw [if_neg (by omega)]
    · have := Nat.pow_lt_pow_right (by decide : 1 < 2) (by omega : j < r)
      rw [if_pos (by omega)]
      exact ih (j + 1) (by omega) (by omega)
theorem rk_GB {σ τ : cb_S} (h : cb_E σ τ) {r : Nat} {c d : Nat → Nat} (hr : r ≤ 12) (hG : GB σ r c d) : rk_r τ = r := by
  have h1 : cn (fun x => decide (τ 5 x < 2147483648)) 4096 = 2 ^ r := by
    have h2 := GB_card h.1 hG (fun _ => true)
    rw [cn_all (fun _ _ => rfl)] at h2
    rw [← h2]
    apply cn_congr
    intro x hx
    cases hs : sn c (fun _ => true) r x with
    | true => have := (E_cwlt h hx).mpr ((GB_all hG x).mp hs); simpa using this
    | false =>
      have : ¬ τ 5 x < 2147483648 := fun q => by rw [(GB_all hG x).mpr ((E_cwlt h hx).mp q)] at hs; cases hs
      simpa using this
  have h3 := rk_cn (τ 5) 4095
  rw [h1, if_pos ((E_cwlt h (by decide)).mpr (gc_zero _ _ _))] at h3
  unfold rk_r
  exact rk_l_eq (by omega) 12 0 (Nat.zero_le _) (by omega)
end
section
/-! startWitnesses: the forest's invariants -/
theorem cut {u v : Nat → Nat} {n C : Nat} (hu : ∀ e, e < n → u e < 7 ∧ v e < 7) (hC : ∀ x, gb u v n C x = false) (f : Nat → Bool) : xs_f (fun e => C.testBit e && (f (u e) ^^ f (v e))) n = false := by
  have pt : ∀ a, a < 7 → f a = xs_f (fun x => decide (a = x) && f x) 7 := by
    intro a ha
    rw [xs_single ha]
    · simp
    · intro x _ hx
      have : ¬ a = x := fun q => hx q.symm
      simp [this]
  have h1 : xs_f (fun e => C.testBit e && (f (u e) ^^ f (v e))) n = xs_f (fun e => xs_f (fun x => f x && (C.testBit e && (decide (u e = x) ^^ decide (v e = x)))) 7) n := by
    apply xs_congr
    intro e he
    rw [pt (u e) (hu e he).1, pt (v e) (hu e he).2, ← xs_xor, ← xs_and]
    apply xs_congr
    intro x _
    cases f x <;> cases C.testBit e <;> cases decide (u e = x) <;> cases decide (v e = x) <;> rfl
  rw [h1, xs_swap]
  apply xs_false
  intro x _
  rw [xs_and]
  have : xs_f (fun e => C.testBit e && (decide (u e = x) ^^ decide (v e = x))) n = false := hC x
  rw [this]
  simp
theorem lt_less {C e : Nat} (h : C < 2 ^ (e + 1)) (hb : C.testBit e = false) : C < 2 ^ e := by
  apply tb_lt_of
  intro k hk
  by_cases hke : k = e
  · rw [hke]; exact hb
  · exact tb_lt h (by omega)
theorem pw_s (e : Nat) : 2 ^ e < 2 ^ (e + 1) := Nat.pow_lt_pow_right (by decide) (by omega)
def fo_I (σ s : cb_S) (e : Nat) : Prop :=
  (∀ x y, x < 7 → y < 7 → s 4 x = s 4 y → ∃ P, P < 2 ^ e ∧ (∀ z, gb (σ 1) (σ 2) (σ 0 0) P z = (decide (x = z) ^^ decide (y = z))) ∧ ∀ j, j < s 5 0 → ip (s 6 j) P = false) ∧
  (∀ e', e' < e → s 4 (σ 1 e') = s 4 (σ 2 e')) ∧
  (∀ C, C < 2 ^ e → (∀ x, gb (σ 1) (σ 2) (σ 0 0) C x = false) → (∀ j, j < s 5 0 → ip (s 6 j) C = false) → C = 0) ∧
  (∃ Φ : Nat → Nat, ∀ j, j < s 5 0 → Φ j < 2 ^ e ∧ (∀ x, gb (σ 1) (σ 2) (σ 0 0) (Φ j) x = false) ∧ ip (s 6 j) (Φ j) = true ∧ ∀ i, i < j → ip (s 6 i) (Φ j) = false) ∧
  (∀ j, j < s 5 0 → s 6 j < 2 ^ e)
theorem fo_1 {σ s : cb_S} (ok : cb_OK σ) (g : cb_G σ s) {e : Nat} (he : e < σ 0 0) (h : fo_I σ s e) : fo_I σ (sw_1 s e) (e + 1) := by
  obtain ⟨s1, s2, s3, ⟨Φ, s4⟩, s5⟩ := h
  obtain ⟨o1, o2, o3, -, -⟩ := ok.2 e he
  have h12 : e < 12 := by have := ok.1; omega
  have hps := pw_s e
  have s5b : ∀ j, j < s 5 0 → (s 6 j).testBit e = false := fun j hj => tb_lt (s5 j hj) (Nat.le_refl _)
  have hpe : 2 ^ e < 2 ^ (e + 1) := hps
  unfold sw_1
  rw [g 1 (by decide), g 2 (by decide)]
  by_cases hc : s 4 (σ 1 e) = s 4 (σ 2 e)
  · rw [if_pos hc]
    have e4 : ∀ x, cb_up (cb_up s 6 (s 5 0) (2 ^ e)) 5 0 (s 5 0 + 1) 4 x = s 4 x := fun x => by rw [cb_up_k _ (by decide), cb_up_k _ (by decide)]
    have e5 : cb_up (cb_up s 6 (s 5 0) (2 ^ e)) 5 0 (s 5 0 + 1) 5 0 = s 5 0 + 1 := by rw [cb_up_s]
    have e6a : cb_up (cb_up s 6 (s 5 0) (2 ^ e)) 5 0 (s 5 0 + 1) 6 (s 5 0) = 2 ^ e := by rw [cb_up_k _ (by decide), cb_up_s]
    have e6b : ∀ j, j ≠ s 5 0 → cb_up (cb_up s 6 (s 5 0) (2 ^ e)) 5 0 (s 5 0 + 1) 6 j = s 6 j := fun j hj => by rw [cb_up_k _ (by decide), cb_up_i _ _ hj]
    generalize cb_up (cb_up s 6 (s 5 0) (2 ^ e)) 5 0 (s 5 0 + 1) = s' at e4 e5 e6a e6b ⊢
    obtain ⟨P0, p1, p2, p3⟩ := s1 (σ 1 e) (σ 2 e) o1 o2 hc
    refine ⟨?_, ?_, ?_, ⟨fun j => if j = s 5 0 then P0 ^^^ 2 ^ e else Φ j, ?_⟩, ?_⟩
    · intro x y hx hy hxy
      rw [e4, e4] at hxy
      obtain ⟨P, q1, q2, q3⟩ := s1 x y hx hy hxy
      refine ⟨P, by omega, q2, fun j hj => ?_⟩
      rw [e5] at hj
      by_cases hjr : j = s 5 0
      · rw [hjr, e6a, ip_bl h12]; exact tb_lt q1 (Nat.le_refl _)
      · rw [e6b j hjr]; exact q3 j (by omega)
    · intro e' he'
      rw [e4, e4]
      by_cases hee : e' = e
      · rw [hee]; exact hc
      · exact s2 e' (by omega)
    · intro C hC hgb hip
      have h1 := hip (s 5 0) (by omega)
      rw [e6a, ip_bl h12] at h1
      refine s3 C (lt_less hC h1) hgb (fun j hj => ?_)
      have h2 := hip j (by omega)
      rw [e6b j (by omega)] at h2
      exact h2
    · intro j hj
      rw [e5] at hj
      dsimp only
      by_cases hjr : j = s 5 0
      · subst hjr
        rw [if_pos rfl]
        refine ⟨Nat.xor_lt_two_pow (by omega) hpe, fun x => ?_, ?_, fun i hi => ?_⟩
        · rw [gb_xor, p2, gb_bit he]; simp
        · rw [e6a, ip_bl h12, Nat.testBit_xor, tb_lt p1 (Nat.le_refl _), tb_pow]; simp
        · rw [e6b i (by omega), ip_xr, p3 i hi, ip_br h12, s5b i hi]; rfl
      · rw [if_neg hjr, e6b j hjr]
        obtain ⟨q1, q2, q3, q4⟩ := s4 j (by omega)
        refine ⟨by omega, q2, q3, fun i hi => ?_⟩
        rw [e6b i (by omega)]; exact q4 i hi
    · intro j hj
      rw [e5] at hj
      by_cases hjr : j = s 5 0
      · rw [hjr, e6a]; exact hpe
      · rw [e6b j hjr]; have := s5 j (by omega); omega
  · rw [if_neg hc]
    have e4 : ∀ x, x < 7 → sw_m s (s 4 (σ 1 e)) (s 4 (σ 2 e)) 7 4 x = if s 4 x = s 4 (σ 2 e) then s 4 (σ 1 e) else s 4 x := by
      intro x hx
      rw [sw_m_4]
      by_cases q : s 4 x = s 4 (σ 2 e)
      · rw [if_pos ⟨hx, q⟩, if_pos q]
      · rw [if_neg (fun z => q z.2), if_neg q]
    have e5 : sw_m s (s 4 (σ 1 e)) (s 4 (σ 2 e)) 7 5 = s 5 := sw_m_k _ _ _ (by decide) _
    have e6 : sw_m s (s 4 (σ 1 e)) (s 4 (σ 2 e)) 7 6 = s 6 := sw_m_k _ _ _ (by decide) _
    generalize sw_m s (s 4 (σ 1 e)) (s 4 (σ 2 e)) 7 = s' at e4 e5 e6 ⊢
    unfold fo_I
    rw [e5, e6]
    refine ⟨?_, ?_, ?_, ⟨Φ, ?_⟩, ?_⟩
    · intro x y hx hy hxy
      rw [e4 x hx, e4 y hy] at hxy
      by_cases qx : s 4 x = s 4 (σ 2 e)
      · by_cases qy : s 4 y = s 4 (σ 2 e)
        · obtain ⟨P, q1, q2, q3⟩ := s1 x y hx hy (qx.trans qy.symm)
          exact ⟨P, by omega, q2, q3⟩
        · rw [if_pos qx, if_neg qy] at hxy
          obtain ⟨P1, a1, a2, a3⟩ := s1 x (σ 2 e) hx o2 qx
          obtain ⟨P2, b1, b2, b3⟩ := s1 (σ 1 e) y o1 hy hxy
          refine ⟨P1 ^^^ P2 ^^^ 2 ^ e, Nat.xor_lt_two_pow (Nat.xor_lt_two_pow (by omega) (by omega)) hpe, fun z => ?_, fun j hj => ?_⟩
          · rw [gb_xor, gb_xor, a2, b2, gb_bit he]
            cases decide (x = z) <;> cases decide (y = z) <;> cases decide (σ 1 e = z) <;> cases decide (σ 2 e = z) <;> rfl
          · rw [ip_xr, ip_xr, a3 j hj, b3 j hj, ip_br h12, s5b j hj]; rfl
      · by_cases qy : s 4 y = s 4 (σ 2 e)
        · rw [if_neg qx, if_pos qy] at hxy
          obtain ⟨P1, a1, a2, a3⟩ := s1 x (σ 1 e) hx o1 hxy
          obtain ⟨P2, b1, b2, b3⟩ := s1 (σ 2 e) y o2 hy qy.symm
          refine ⟨P1 ^^^ P2 ^^^ 2 ^ e, Nat.xor_lt_two_pow (Nat.xor_lt_two_pow (by omega) (by omega)) hpe, fun z => ?_, fun j hj => ?_⟩
          · rw [gb_xor, gb_xor, a2, b2, gb_bit he]
            cases decide (x = z) <;> cases decide (y = z) <;> cases decide (σ 1 e = z) <;> cases decide (σ 2 e = z) <;> rfl
          · rw [ip_xr, ip_xr, a3 j hj, b3 j hj, ip_br h12, s5b j hj]; rfl
        · rw [if_neg qx, if_neg qy] at hxy
          obtain ⟨P, q1, q2, q3⟩ := s1 x y hx hy hxy
          exact ⟨P, by omega, q2, q3⟩
    · intro e' he'
      obtain ⟨w1, w2, -⟩ := ok.2 e' (by omega)
      rw [e4 _ w1, e4 _ w2]
      by_cases hee : e' = e
      · subst hee; rw [if_neg hc, if_pos rfl]
      · rw [s2 e' (by omega)]
    · intro C hC hgb hip
      have hcut := cut (fun e' he' => ⟨(ok.2 e' he').1, (ok.2 e' he').2.1⟩) hgb (fun z => decide (s 4 z = s 4 (σ 1 e)))
      rw [xs_single he] at hcut
      · have hcs : ¬ s 4 (σ 2 e) = s 4 (σ 1 e) := fun q => hc q.symm
        simp [hcs] at hcut
        exact s3 C (lt_less hC hcut) hgb hip
      · intro e' he' hne
        rcases Nat.lt_or_ge e' e with q | q
        · rw [s2 e' q]; simp
        · rw [tb_lt hC (by omega)]; simp
    · intro j hj
      obtain ⟨q1, q2, q3, q4⟩ := s4 j hj
      exact ⟨by omega, q2, q3, q4⟩
    · intro j hj
      have := s5 j hj; omega
theorem fo_e {σ : cb_S} (ok : cb_OK σ) : ∀ e, e ≤ σ 0 0 → fo_I σ (sw_e σ e) e := by
  intro e
  induction e with
  | zero =>
    intro _
    show fo_I σ (sw_g σ 7) 0
    refine ⟨?_, fun e' h => by omega, ?_, ⟨fun _ => 0, fun j hj => by rw [sw_g_5] at hj; omega⟩, fun j hj => by rw [sw_g_5] at hj; omega⟩
    · intro x y hx hy hxy
      rw [sw_g_4 σ 7 x hx, sw_g_4 σ 7 y hy] at hxy
      subst hxy
      exact ⟨0, Nat.two_pow_pos _, fun z => by rw [gb_zero]; simp, fun j hj => by rw [sw_g_5] at hj; omega⟩
    · intro C hC _ _
      simpa using hC
  | succ e ih =>
    intro he
    exact fo_1 ok (sw_e_G σ e) (by omega) (ih (by omega))
/-- the witnesses at the start: they tell closed sets apart, and each is met oddly by a closed set that meets none before it -/
theorem fo_S_main {σ : cb_S} (ok : cb_OK σ) : (∀ C, gc (σ 1) (σ 2) (σ 0 0) C → (∀ j, j < sw_S σ 5 0 → ip (sw_S σ 6 j) C = false) → C = 0) ∧
    ∃ Φ : Nat → Nat, ∀ j, j < sw_S σ 5 0 → gc (σ 1) (σ 2) (σ 0 0) (Φ j) ∧ ip (sw_S σ 6 j) (Φ j) = true ∧ ∀ i, i < j → ip (sw_S σ 6 i) (Φ j) = false := by
  obtain ⟨-, -, s3, ⟨Φ, s4⟩, -⟩ := fo_e ok (σ 0 0) (Nat.le_refl _)
  exact ⟨fun C hC h => s3 C hC.1 hC.2 h, Φ, fun j hj => by
    obtain ⟨q1, q2, q3, q4⟩ := s4 j hj
    exact ⟨⟨q1, q2⟩, q3, q4⟩⟩
end
section
/-! solve: the witnesses' method gives a good sorted basis -/
theorem om_xs (b n : Nat) : om_f b n = (xs_f (fun e => b.testBit e) n).toNat := by
  induction n with
  | zero => rfl
  | succ n ih =>
    unfold om_f xs_f
    rw [ih, tb_and]
    cases xs_f (fun e => b.testBit e) n <;> cases b.testBit n <;> rfl
theorem om_ip (x y : Nat) : om_r x y = 1 ↔ ip x y = true := by
  unfold om_r
  rw [om_xs]
  have h : xs_f (fun e => (x &&& y).testBit e) 12 = ip x y := xs_congr (fun e _ => Nat.testBit_and x y e)
  rw [h]
  cases ip x y <;> simp
def dp_I (σ s : cb_S) (i : Nat) (Cs : Nat → Nat) : Prop :=
  (∀ j, j < i → gc (σ 1) (σ 2) (σ 0 0) (Cs j) ∧ ip (s 6 j) (Cs j) = true ∧ ∀ C, gc (σ 1) (σ 2) (σ 0 0) C → ip (s 6 j) C = true → wt_f (σ 3) (Cs j) (σ 0 0) ≤ wt_f (σ 3) C (σ 0 0)) ∧
  (∀ j k, j < i → j < k → k < s 5 0 → ip (s 6 k) (Cs j) = false) ∧
  (∀ j, j < i → ∃ k, k < i ∧ s 8 k = Cs j ∧ s 9 k = wt_f (σ 3) (Cs j) (σ 0 0)) ∧
  (∀ k, k < i → ∃ j, j < i ∧ s 8 k = Cs j ∧ s 9 k = wt_f (σ 3) (Cs j) (σ 0 0)) ∧
  (∀ a b, a ≤ b → b < i → s 9 a ≤ s 9 b) ∧
  (∀ k, k < i → ∃ F, ip F (s 8 k) = true ∧ ∀ j, j < i → j ≠ k → ip F (s 8 j) = false) ∧
  (∀ C, gc (σ 1) (σ 2) (σ 0 0) C → (∀ j, j < s 5 0 → ip (s 6 j) C = false) → C = 0) ∧
  (∃ Φ : Nat → Nat, ∀ j, j < s 5 0 → gc (σ 1) (σ 2) (σ 0 0) (Φ j) ∧ ip (s 6 j) (Φ j) = true ∧ ∀ i', i' < j → ip (s 6 i') (Φ j) = false)
theorem dp_1 {σ s : cb_S} (g : cb_G σ s) {i : Nat} (hB : so_B s i) (hi : i < s 5 0) {Cs : Nat → Nat} (h : dp_I σ s i Cs) : ∃ Cs', dp_I σ (so_1 s i) (i + 1) Cs' := by
  obtain ⟨ha, hb, hc1, hc2, hd, he, hf, ⟨Φ, hg⟩⟩ := h
  obtain ⟨oks, -, -, h7, -, -⟩ := hB
  have hli := li_main oks (s 6 i) (C0 := Φ i) (by rw [g 0 (by decide), g 1 (by decide), g 2 (by decide)]; exact (hg i hi).1) (hg i hi).2.1
  rw [g 0 (by decide), g 1 (by decide), g 2 (by decide), g 3 (by decide)] at hli
  obtain ⟨l1, l2, l3, l4⟩ := hli
  -- the state behind
  have n5 : so_1 s i 5 = s 5 := so_1_k s i (by omega)
  have n6 : ∀ k, k < s 5 0 → so_1 s i 6 k = if i < k ∧ ip (s 6 k) (li_S s (s 6 i) 14 0) = true then s 6 k ^^^ s 6 i else s 6 k := by
    intro k hk
    unfold so_1
    rw [so_j_6, ac_S_k _ _ _ (by decide) (by decide) (by decide), ac_S_k _ _ _ (by decide) (by decide) (by decide), li_S_k _ _ (by decide) (by decide) (by decide) (by decide) (by decide)]
    by_cases q : i < k ∧ ip (s 6 k) (li_S s (s 6 i) 14 0) = true
    · rw [if_pos q, if_pos ⟨q.1, by omega, (om_ip _ _).mpr q.2⟩]
    · rw [if_neg q, if_neg (fun z => q ⟨z.1, (om_ip _ _).mp z.2.2⟩)]
  obtain ⟨p, p1, p2, p3, p4, p5⟩ := ac_S_spec (li_S s (s 6 i)) (li_S s (s 6 i) 14 0) (li_S s (s 6 i) 13 0)
  have m8 : li_S s (s 6 i) 8 = s 8 := li_S_k _ _ (by decide) (by decide) (by decide) (by decide) (by decide)
  have m9 : li_S s (s 6 i) 9 = s 9 := li_S_k _ _ (by decide) (by decide) (by decide) (by decide) (by decide)
  have m7 : li_S s (s 6 i) 7 = s 7 := li_S_k _ _ (by decide) (by decide) (by decide) (by decide) (by decide)
  rw [m7, h7] at p1 p2 p3 p4
  rw [m8] at p2
  rw [m9] at p3 p4 p5
  have n8 : ∀ k, so_1 s i 8 k = if k = p then li_S s (s 6 i) 14 0 else if p < k ∧ k ≤ i then s 8 (k - 1) else s 8 k := by
    intro k; unfold so_1; rw [so_j_k _ _ (by decide)]; exact p2 k
  have n9 : ∀ k, so_1 s i 9 k = if k = p then li_S s (s 6 i) 13 0 else if p < k ∧ k ≤ i then s 9 (k - 1) else s 9 k := by
    intro k; unfold so_1; rw [so_j_k _ _ (by decide)]; exact p3 k
  generalize hBs : li_S s (s 6 i) 14 0 = Bs at l1 l2 l3 l4 n6 n8
  generalize hBw : li_S s (s 6 i) 13 0 = Bw at l3 l4 n9 p4 p5
  generalize so_1 s i = s' at n5 n6 n8 n9 ⊢
  have n6le : ∀ k, k ≤ i → s' 6 k = s 6 k := fun k hk => by rw [n6 k (by omega), if_neg (by omega)]
  have n8p : s' 8 p = Bs := by rw [n8, if_pos rfl]
  have n9p : s' 9 p = Bw := by rw [n9, if_pos rfl]
  have n8lo : ∀ k, k < p → s' 8 k = s 8 k := fun k hk => by rw [n8, if_neg (by omega), if_neg (by omega)]
  have n9lo : ∀ k, k < p → s' 9 k = s 9 k := fun k hk => by rw [n9, if_neg (by omega), if_neg (by omega)]
  have n8hi : ∀ k, p < k → k ≤ i → s' 8 k = s 8 (k - 1) := fun k h1 h2 => by rw [n8, if_neg (by omega), if_pos ⟨h1, h2⟩]
  have n9hi : ∀ k, p < k → k ≤ i → s' 9 k = s 9 (k - 1) := fun k h1 h2 => by rw [n9, if_neg (by omega), if_pos ⟨h1, h2⟩]
  -- a place other than p, as an old place
  have old : ∀ k, k < i + 1 → k ≠ p → ∃ k0, k0 < i ∧ s' 8 k = s 8 k0 ∧ s' 9 k = s 9 k0 ∧ (k0 = if k < p then k else k - 1) := by
    intro k hk hkp
    rcases Nat.lt_or_ge k p with q | q
    · exact ⟨k, by omega, n8lo k q, n9lo k q, by rw [if_pos q]⟩
    · exact ⟨k - 1, by omega, n8hi k (by omega) (by omega), n9hi k (by omega) (by omega), by rw [if_neg (by omega)]⟩
  have hwb : wt_f (σ 3) Bs (σ 0 0) = Bw := l3
  refine ⟨fun j => if j = i then Bs else Cs j, ?_, ?_, ?_, ?_, ?_, ?_, ?_, Φ, ?_⟩
  · intro j hj
    dsimp only
    by_cases hji : j = i
    · subst hji
      rw [if_pos rfl, n6le j (Nat.le_refl _), hwb]
      exact ⟨l1, l2, l4⟩
    · rw [if_neg hji, n6le j (by omega)]
      exact ha j (by omega)
  · intro j k hj hjk hk
    rw [n5] at hk
    dsimp only
    by_cases hji : j = i
    · subst hji
      rw [if_pos rfl, n6 k hk]
      cases hq : ip (s 6 k) Bs with
      | true => rw [if_pos ⟨hjk, rfl⟩, ip_xl, hq, l2]; rfl
      | false => rw [if_neg (fun z => by cases z.2)]; exact hq
    · rw [if_neg hji]
      have h1 := hb j k (by omega) hjk hk
      rw [n6 k hk]
      by_cases q : i < k ∧ ip (s 6 k) Bs = true
      · rw [if_pos q, ip_xl, h1, hb j i (by omega) (by omega) hi]; rfl
      · rw [if_neg q]; exact h1
  · intro j hj
    dsimp only
    by_cases hji : j = i
    · subst hji
      rw [if_pos rfl, hwb]
      exact ⟨p, by omega, n8p, n9p⟩
    · rw [if_neg hji]
      obtain ⟨k, k1, k2, k3⟩ := hc1 j (by omega)
      rcases Nat.lt_or_ge k p with q | q
      · exact ⟨k, by omega, by rw [n8lo k q]; exact k2, by rw [n9lo k q]; exact k3⟩
      · refine ⟨k + 1, by omega, ?_, ?_⟩
        · rw [n8hi (k + 1) (by omega) (by omega), Nat.add_sub_cancel]; exact k2
        · rw [n9hi (k + 1) (by omega) (by omega), Nat.add_sub_cancel]; exact k3
  · intro k hk
    by_cases hkp : k = p
    · refine ⟨i, by omega, ?_⟩
      dsimp only
      rw [if_pos rfl, hwb, hkp]
      exact ⟨n8p, n9p⟩
    · obtain ⟨k0, q1, q2, q3, -⟩ := old k hk hkp
      obtain ⟨j, j1, j2, j3⟩ := hc2 k0 q1
      refine ⟨j, by omega, ?_⟩
      dsimp only
      rw [if_neg (by omega), q2, q3]
      exact ⟨j2, j3⟩
  · intro a b hab hbi
    rcases Nat.lt_trichotomy b p with qb | qb | qb
    · rw [n9lo a (by omega), n9lo b qb]; exact hd a b hab (by omega)
    · subst qb
      rw [n9p]
      by_cases hap : a = b
      · rw [hap, n9p]; exact Nat.le_refl _
      · rw [n9lo a (by omega)]
        have h1 := p5 (by omega)
        have h2 := hd a (b - 1) (by omega) (by omega)
        omega
    · rw [n9hi b qb (by omega)]
      have h1 := p4 (b - 1) (by omega) (by omega)
      rcases Nat.lt_trichotomy a p with qa | qa | qa
      · rw [n9lo a qa]; exact hd a (b - 1) (by omega) (by omega)
      · subst qa; rw [n9p]; omega
      · rw [n9hi a qa (by omega)]; exact hd (a - 1) (b - 1) (by omega) (by omega)
  · -- dual functionals
    have horth : ∀ k0, k0 < i → ip (s 6 i) (s 8 k0) = false := by
      intro k0 hk0
      obtain ⟨j, j1, j2, -⟩ := hc2 k0 hk0
      rw [j2]; exact hb j i j1 j1 hi
    intro k hk
    by_cases hkp : k = p
    · refine ⟨s 6 i, by rw [hkp, n8p]; exact l2, fun j hj hjk => ?_⟩
      obtain ⟨j0, q1, q2, -, -⟩ := old j hj (by omega)
      rw [q2]; exact horth j0 q1
    · obtain ⟨k0, q1, q2, -, q4⟩ := old k hk hkp
      obtain ⟨F, f1, f2⟩ := he k0 q1
      refine ⟨if ip F Bs = true then F ^^^ s 6 i else F, ?_, fun j hj hjk => ?_⟩
      · rw [q2]
        by_cases hq : ip F Bs = true
        · rw [if_pos hq, ip_xl, f1, horth k0 q1]; rfl
        · rw [if_neg hq]; exact f1
      · by_cases hjp : j = p
        · rw [hjp, n8p]
          by_cases hq : ip F Bs = true
          · rw [if_pos hq, ip_xl, hq, l2]; rfl
          · rw [if_neg hq]; simpa using hq
        · obtain ⟨j0, r1, r2, -, r4⟩ := old j hj hjp
          rw [r2]
          have hne : j0 ≠ k0 := by
            intro z
            rw [q4, r4] at z
            by_cases z1 : j < p
            · rw [if_pos z1] at z
              by_cases z2 : k < p
              · rw [if_pos z2] at z; omega
              · rw [if_neg z2] at z; omega
            · rw [if_neg z1] at z
              by_cases z2 : k < p
              · rw [if_pos z2] at z; omega
              · rw [if_neg z2] at z; omega
          have h1 := f2 j0 r1 hne
          by_cases hq : ip F Bs = true
          · rw [if_pos hq, ip_xl, h1, horth j0 r1]; rfl
          · rw [if_neg hq]; exact h1
  · intro C hC hz
    refine hf C hC (fun j hj => ?_)
    have hii := hz i (by rw [n5]; exact hi)
    rw [n6le i (Nat.le_refl _)] at hii
    have h1 := hz j (by rw [n5]; exact hj)
    rw [n6 j hj] at h1
    by_cases q : i < j ∧ ip (s 6 j) Bs = true
    · rw [if_pos q, ip_xl, hii] at h1
      simpa using h1
    · rw [if_neg q] at h1; exact h1
  · intro j hj
    rw [n5] at hj
    obtain ⟨g1, g2, g3⟩ := hg j hj
    refine ⟨g1, ?_, fun i' hi' => ?_⟩
    · rw [n6 j hj]
      by_cases q : i < j ∧ ip (s 6 j) Bs = true
      · rw [if_pos q, ip_xl, g2, g3 i q.1]; rfl
      · rw [if_neg q]; exact g2
    · rw [n6 i' (by omega)]
      by_cases q : i < i' ∧ ip (s 6 i') Bs = true
      · rw [if_pos q, ip_xl, g3 i' hi', g3 i (by omega)]; rfl
      · rw [if_neg q]; exact g3 i' hi'
theorem dp_i {σ : cb_S} (ok : cb_OK σ) : ∀ i, i ≤ sw_S σ 5 0 → ∃ Cs, dp_I σ (so_i (sw_S σ) i) i Cs := by
  intro i
  induction i with
  | zero =>
    intro _
    obtain ⟨f1, f2⟩ := fo_S_main ok
    refine ⟨fun _ => 0, fun j hj => by omega, fun j k hj => by omega, fun j hj => by omega, fun k hk => by omega, fun a b _ hb => by omega, fun k hk => by omega, ?_, ?_⟩
    · show ∀ C, gc (σ 1) (σ 2) (σ 0 0) C → (∀ j, j < cb_up (sw_S σ) 7 0 0 5 0 → ip (cb_up (sw_S σ) 7 0 0 6 j) C = false) → C = 0
      rw [cb_up_k _ (by decide), cb_up_k _ (by decide)]; exact f1
    · show ∃ Φ : Nat → Nat, ∀ j, j < cb_up (sw_S σ) 7 0 0 5 0 → gc (σ 1) (σ 2) (σ 0 0) (Φ j) ∧ ip (cb_up (sw_S σ) 7 0 0 6 j) (Φ j) = true ∧ ∀ i', i' < j → ip (cb_up (sw_S σ) 7 0 0 6 i') (Φ j) = false
      rw [cb_up_k _ (by decide), cb_up_k _ (by decide)]; exact f2
  | succ i ih =>
    intro hi
    obtain ⟨Cs, h⟩ := ih (by omega)
    have hB := so_i_B ok i (by omega)
    have e5 : so_i (sw_S σ) i 5 0 = sw_S σ 5 0 := by rw [so_i_k _ (by omega)]
    exact dp_1 ((sw_S_G σ).tr (fun k hk => so_i_k _ (by omega) i)) hB (by omega) h
theorem so_GB {σ : cb_S} (ok : cb_OK σ) : GB σ (sw_S σ 5 0) (so_S σ 8) (so_S σ 9) := by
  obtain ⟨Cs, ha, hb, hc1, hc2, hd, he, hf, -⟩ := dp_i ok (sw_S σ 5 0) (Nat.le_refl _)
  have e5 : so_i (sw_S σ) (sw_S σ 5 0) 5 0 = sw_S σ 5 0 := by rw [so_i_k _ (by omega)]
  rw [e5] at hb hf
  show GB σ (sw_S σ 5 0) (so_i (sw_S σ) (sw_S σ 5 0) 8) (so_i (sw_S σ) (sw_S σ 5 0) 9)
  generalize so_i (sw_S σ) (sw_S σ 5 0) = s at ha hb hc1 hc2 hd he hf ⊢
  generalize sw_S σ 5 0 = r at ha hb hc1 hc2 hd he hf ⊢
  refine ⟨fun k hk => ?_, hd, fun C hC => ?_, fun k hk => ?_⟩
  · obtain ⟨j, j1, j2, j3⟩ := hc2 k hk
    rw [j2, j3]; exact ⟨(ha j j1).1, rfl⟩
  · have key : ∀ k, k ≤ r → ∃ D, gc (σ 1) (σ 2) (σ 0 0) D ∧ sn (s 8) (fun j => decide (s 9 j ≤ wt_f (σ 3) C (σ 0 0))) r (C ^^^ D) = true ∧ (∀ i, i < r → r - k ≤ i → ip (s 6 i) D = false) ∧ (∀ i, i < r → wt_f (σ 3) C (σ 0 0) < wt_f (σ 3) (Cs i) (σ 0 0) → ip (s 6 i) D = false) := by
      intro k
      induction k with
      | zero =>
        intro _
        refine ⟨C, hC, by rw [Nat.xor_self]; exact sn_zero _ _ _, fun i h1 h2 => by omega, fun i h1 h2 => ?_⟩
        cases hq : ip (s 6 i) C with
        | false => rfl
        | true => have := (ha i h1).2.2 C hC hq; omega
      | succ k ih =>
        intro hk
        obtain ⟨D, d1, d2, d3, d4⟩ := ih (by omega)
        have hi0 : r - (k + 1) < r := by omega
        cases hq : ip (s 6 (r - (k + 1))) D with
        | false =>
          refine ⟨D, d1, d2, fun i h1 h2 => ?_, d4⟩
          by_cases hii : i = r - (k + 1)
          · rw [hii]; exact hq
          · exact d3 i h1 (by omega)
        | true =>
          have hJ : wt_f (σ 3) (Cs (r - (k + 1))) (σ 0 0) ≤ wt_f (σ 3) C (σ 0 0) := by
            rcases Nat.lt_or_ge (wt_f (σ 3) C (σ 0 0)) (wt_f (σ 3) (Cs (r - (k + 1))) (σ 0 0)) with z | z
            · rw [d4 _ hi0 z] at hq; cases hq
            · exact z
          obtain ⟨a1, a2, a3⟩ := ha _ hi0
          refine ⟨D ^^^ Cs (r - (k + 1)), gc_xor d1 a1, ?_, fun i h1 h2 => ?_, fun i h1 h2 => ?_⟩
          · rw [← Nat.xor_assoc]
            refine sn_xor d2 ?_
            obtain ⟨k', k1, k2, k3⟩ := hc1 _ hi0
            rw [← k2]
            refine sn_gen k1 ?_
            rw [k3]; simpa using hJ
          · by_cases hii : i = r - (k + 1)
            · rw [hii, ip_xr, hq, a2]; rfl
            · rw [ip_xr, d3 i h1 (by omega), hb _ i hi0 (by omega) h1]; rfl
          · rw [ip_xr, d4 i h1 h2]
            cases hz : ip (s 6 i) (Cs (r - (k + 1))) with
            | false => rfl
            | true => have := (ha i h1).2.2 _ a1 hz; omega
    obtain ⟨D, d1, d2, d3, -⟩ := key r (Nat.le_refl _)
    have hD := hf D d1 (fun j hj => d3 j hj (by omega))
    rw [hD, Nat.xor_zero] at d2
    exact d2
  · obtain ⟨F, f1, f2⟩ := he k hk
    cases hq : sn (s 8) (fun _ => true) k (s 8 k) with
    | false => rfl
    | true =>
      have := sn_min (P := fun x => ip F x = false) (ip_0r F) (fun x y hx hy => by rw [ip_xr, hx, hy]; rfl) k (fun j hj _ => f2 j (by omega) (by omega)) _ hq
      rw [f1] at this; cases this
end
section
/-! elimination: reduce and highest decide the span -/
/-- a family of pivots: the one at e has e as its highest bit, or is 0 -/
def pv_ok (pv : Nat → Nat) : Prop := ∀ e, e < 12 → pv e = 0 ∨ (pv e < 2 ^ (e + 1) ∧ (pv e).testBit e = true)
theorem pv_lt {pv : Nat → Nat} (h : pv_ok pv) {e k : Nat} (he : e < 12) (hk : e < k) : (pv e).testBit k = false := by
  rcases h e he with q | q
  · rw [q, Nat.zero_testBit]
  · exact tb_lt q.1 (by omega)
theorem rd_spec {pv : Nat → Nat} (h : pv_ok pv) : ∀ k, k ≤ 12 → ∀ s, (∀ e, k ≤ e → (rd_f pv k s).testBit e = s.testBit e) ∧ (∀ e, e < k → pv e ≠ 0 → (rd_f pv k s).testBit e = false) ∧ sn pv (fun _ => true) k (s ^^^ rd_f pv k s) = true := by
  intro k
  induction k with
  | zero => intro _ s; exact ⟨fun _ _ => rfl, fun e he => by omega, by rw [show rd_f pv 0 s = s from rfl, Nat.xor_self]; exact sn_zero _ _ _⟩
  | succ k ih =>
    intro hk s
    unfold rd_f
    by_cases hc : (s >>> k) &&& 1 = 1 ∧ pv k ≠ 0
    · rw [if_pos hc]
      obtain ⟨i1, i2, i3⟩ := ih (by omega) (s ^^^ pv k)
      have hsb : s.testBit k = true := (tb_1 _ _).mp hc.1
      have hpb : (pv k).testBit k = true := by
        rcases h k (by omega) with q | q
        · exact absurd q hc.2
        · exact q.2
      refine ⟨fun e he => ?_, fun e he hp => ?_, ?_⟩
      · rw [i1 e (by omega), Nat.testBit_xor, pv_lt h (by omega) (by omega)]; simp
      · by_cases hek : e = k
        · subst hek; rw [i1 e (Nat.le_refl _), Nat.testBit_xor, hsb, hpb]; rfl
        · exact i2 e (by omega) hp
      · rw [sn_s]
        refine Or.inr ⟨rfl, ?_⟩
        rw [Nat.xor_assoc, Nat.xor_comm _ (pv k), ← Nat.xor_assoc]
        exact i3
    · rw [if_neg hc]
      obtain ⟨i1, i2, i3⟩ := ih (by omega) s
      refine ⟨fun e he => i1 e (by omega), fun e he hp => ?_, ?_⟩
      · by_cases hek : e = k
        · subst hek
          rw [i1 e (Nat.le_refl _)]
          cases hb : s.testBit e with
          | false => rfl
          | true => exact absurd ⟨(tb_1 _ _).mpr hb, hp⟩ hc
        · exact i2 e (by omega) hp
      · rw [sn_s]; exact Or.inl i3
/-- in the span, and no bit at a pivot: nothing -/
theorem pv_zero {pv : Nat → Nat} (h : pv_ok pv) : ∀ k, k ≤ 12 → ∀ x, sn pv (fun _ => true) k x = true → x < 2 ^ k ∧ ((∀ e, e < k → pv e ≠ 0 → x.testBit e = false) → x = 0) := by
  intro k
  induction k with
  | zero =>
    intro _ x hx
    have h1 : x = 0 := by simpa [sn] using hx
    subst h1
    exact ⟨by decide, fun _ => rfl⟩
  | succ k ih =>
    intro hk x hx
    have hps := pw_s k
    rw [sn_s] at hx
    rcases hx with hx | ⟨-, hx⟩
    · obtain ⟨i1, i2⟩ := ih (by omega) x hx
      exact ⟨by omega, fun hz => i2 (fun e he => hz e (by omega))⟩
    · obtain ⟨i1, i2⟩ := ih (by omega) _ hx
      have hpl : pv k < 2 ^ (k + 1) := by
        rcases h k (by omega) with q | q
        · rw [q]; exact Nat.two_pow_pos _
        · exact q.1
      have hxl : x < 2 ^ (k + 1) := by
        have := Nat.xor_lt_two_pow (n := k + 1) (by omega : x ^^^ pv k < 2 ^ (k + 1)) hpl
        rw [xx] at this
        exact this
      refine ⟨hxl, fun hz => ?_⟩
      by_cases hp : pv k = 0
      · rw [hp, Nat.xor_zero] at hx i1 i2
        exact i2 (fun e he => hz e (by omega))
      · exfalso
        have h1 := hz k (by omega) hp
        have h2 : (x ^^^ pv k).testBit k = false := tb_lt i1 (Nat.le_refl _)
        rw [Nat.testBit_xor, h1] at h2
        rcases h k (by omega) with q | q
        · exact hp q
        · rw [q.2] at h2; cases h2
theorem rd_zero {pv : Nat → Nat} (h : pv_ok pv) (x : Nat) : rd_f pv 12 x = 0 ↔ sn pv (fun _ => true) 12 x = true := by
  obtain ⟨r1, r2, r3⟩ := rd_spec h 12 (Nat.le_refl _) x
  constructor
  · intro q; rw [q, Nat.xor_zero] at r3; exact r3
  · intro q
    have h1 := sn_xor q r3
    rw [← Nat.xor_assoc, Nat.xor_self, Nat.zero_xor] at h1
    exact (pv_zero h 12 (Nat.le_refl _) _ h1).2 r2
theorem hi_spec (s : Nat) : ∀ n, (hi_f s n = 0 → ∀ e, e < n → s.testBit e = false) ∧ (hi_f s n ≠ 0 → s.testBit (hi_f s n - 1) = true ∧ ∀ e, hi_f s n ≤ e → e < n → s.testBit e = false) := by
  intro n
  induction n with
  | zero => exact ⟨fun _ e he => by omega, fun q => absurd rfl q⟩
  | succ n ih =>
    unfold hi_f
    by_cases hc : (s >>> n) &&& 1 = 0
    · rw [if_pos hc]
      have hb := (tb_0 _ _).mp hc
      refine ⟨fun q e he => ?_, fun q => ⟨(ih.2 q).1, fun e h1 h2 => ?_⟩⟩
      · by_cases hen : e = n
        · rw [hen]; exact hb
        · exact ih.1 q e (by omega)
      · by_cases hen : e = n
        · rw [hen]; exact hb
        · exact (ih.2 q).2 e h1 (by omega)
    · rw [if_neg hc]
      refine ⟨fun q => by omega, fun _ => ⟨?_, fun e h1 h2 => by omega⟩⟩
      rw [Nat.add_sub_cancel]
      cases hb : s.testBit n with
      | true => rfl
      | false => exact absurd ((tb_0 _ _).mpr hb) hc
/-- the pivots span what was taken in -/
def pv_I (s : cb_S) (i : Nat) : Prop := pv_ok (s 15) ∧ ∀ x, sn (s 15) (fun _ => true) 12 x = true ↔ sn (s 8) (fun _ => true) i x = true
theorem pv_step {s : cb_S} (hB : le_B s) {i : Nat} (hi : i < s 7 0) (h : pv_I s i) : pv_I (le_1 s i) (i + 1) := by
  obtain ⟨hok, hsp⟩ := h
  obtain ⟨r1, r2, r3⟩ := rd_spec hok 12 (Nat.le_refl _) (s 8 i)
  have hlt := rd_lt hB.2.2 12 (Nat.le_refl _) _ (hB.2.1 i hi).2
  have e8 : le_1 s i 8 = s 8 := le_1_k s i (by decide)
  have hsp3 : sn (s 8) (fun _ => true) i (s 8 i ^^^ rd_f (s 15) 12 (s 8 i)) = true := (hsp _).mp r3
  obtain ⟨hz, hnz⟩ := hi_spec (rd_f (s 15) 12 (s 8 i)) 12
  have hle := hi_le (rd_f (s 15) 12 (s 8 i)) 12
  unfold pv_I
  rw [e8]
  unfold le_1
  generalize rd_f (s 15) 12 (s 8 i) = t at r1 r2 r3 hlt hsp3 hz hnz hle ⊢
  by_cases hc : hi_f t 12 = 0
  · rw [if_pos hc]
    have ht : t = 0 := tb_zero (n := 12) hlt (hz hc)
    rw [ht, Nat.xor_zero] at hsp3
    refine ⟨hok, fun x => ?_⟩
    rw [hsp x, sn_s]
    constructor
    · exact Or.inl
    · rintro (q | ⟨-, q⟩)
      · exact q
      · have := sn_xor q hsp3; rw [xx] at this; exact this
  · rw [if_neg hc]
    obtain ⟨hb, hup⟩ := hnz hc
    generalize htop : hi_f t 12 - 1 = top at hb
    have htop12 : top < 12 := by omega
    have hp0 : s 15 top = 0 := by
      apply Classical.byContradiction
      intro q
      rw [r2 top htop12 q] at hb; cases hb
    have htl : t < 2 ^ (top + 1) := by
      apply tb_lt_of
      intro k hk
      rcases Nat.lt_or_ge k 12 with q | q
      · exact hup k (by omega) q
      · exact tb_lt (n := 12) hlt q
    have a15 : ∀ e, e ≠ top → cb_up s 15 top t 15 e = s 15 e := fun e he => cb_up_i _ _ he
    have b15 : cb_up s 15 top t 15 top = t := cb_up_s _ _ _ _
    have hok' : pv_ok (cb_up s 15 top t 15) := by
      intro e he
      by_cases q : e = top
      · rw [q, b15]; exact Or.inr ⟨htl, hb⟩
      · rw [a15 e q]; exact hok e he
    refine ⟨hok', fun x => ?_⟩
    constructor
    · intro hx
      refine sn_min (P := fun x => sn (s 8) (fun _ => true) (i + 1) x = true) (sn_zero _ _ _) (fun _ _ => sn_xor) 12 (fun e he _ => ?_) x hx
      by_cases q : e = top
      · rw [q, b15, sn_s]
        refine Or.inr ⟨rfl, ?_⟩
        rw [Nat.xor_comm]; exact hsp3
      · rw [a15 e q, sn_s]
        exact Or.inl ((hsp _).mp (sn_gen he rfl))
    · have hold : ∀ y, sn (s 15) (fun _ => true) 12 y = true → sn (cb_up s 15 top t 15) (fun _ => true) 12 y = true := by
        intro y hy
        refine sn_min (P := fun x => sn (cb_up s 15 top t 15) (fun _ => true) 12 x = true) (sn_zero _ _ _) (fun _ _ => sn_xor) 12 (fun e he _ => ?_) y hy
        by_cases q : e = top
        · rw [q, hp0]; exact sn_zero _ _ _
        · rw [← a15 e q]; exact sn_gen he rfl
      have ht : sn (cb_up s 15 top t 15) (fun _ => true) 12 t = true := by
        have := sn_gen (c := cb_up s 15 top t 15) (q := fun _ => true) htop12 rfl
        rw [b15] at this; exact this
      intro hx
      refine sn_min (P := fun x => sn (cb_up s 15 top t 15) (fun _ => true) 12 x = true) (sn_zero _ _ _) (fun _ _ => sn_xor) (i + 1) (fun j hj _ => ?_) x hx
      by_cases q : j = i
      · rw [q]
        have := sn_xor (hold _ r3) ht
        rw [xx] at this
        exact this
      · exact hold _ ((hsp _).mpr (sn_gen (by omega) rfl))
theorem le_LV {σ : cb_S} {r : Nat} {mask : Nat} (hm : mask ≠ 0) (c d : Nat → Nat) (hin : sn c (fun _ => true) r mask = true) : ∀ (f i : Nat) (s : cb_S), i + f = r → s 7 0 = r → s 8 = c → s 9 = d → le_B s → pv_I s i → sn c (fun _ => true) i mask = false → LV r c d mask (le_f mask f i s).2 := by
  intro f
  induction f with
  | zero =>
    intro i s hi h7 h8 h9 hB hI hn
    rw [show i = r by omega, hin] at hn; cases hn
  | succ f ih =>
    intro i s hi h7 h8 h9 hB hI hn
    have hI1 := pv_step hB (by omega) hI
    have hB1 := le_1_B hB (i := i) (by omega)
    have e8 : le_1 s i 8 = c := by rw [le_1_k s i (by decide)]; exact h8
    have e9 : le_1 s i 9 = d := by rw [le_1_k s i (by decide)]; exact h9
    have e7 : le_1 s i 7 0 = r := by rw [le_1_k s i (by decide)]; exact h7
    have hq := (rd_zero hI1.1 mask).trans (hI1.2 mask)
    rw [e8] at hq
    unfold le_f
    by_cases hz : rd_f (le_1 s i 15) 12 mask = 0
    · rw [if_pos hz]
      exact Or.inr ⟨hm, i, by omega, by rw [h9], hq.mp hz, hn⟩
    · rw [if_neg hz]
      refine ih (i + 1) _ (by omega) e7 e8 e9 hB1 hI1 ?_
      cases hs : sn c (fun _ => true) (i + 1) mask with
      | false => rfl
      | true => exact absurd (hq.mpr hs) hz
end
section
/-! the answers are equal -/
theorem eq_rank {σ τ : cb_S} (h : cb_E σ τ) : sw_S σ 5 0 = rk_r τ := (rk_GB h (sw_S_6 h.1).1 (so_GB h.1)).symm
theorem to_sd (s : cb_S) (n : Nat) : to_f s n = sd (s 9) n := by
  induction n with
  | zero => rfl
  | succ n ih => unfold to_f sd; rw [ih]
theorem eq_total {σ τ : cb_S} (h : cb_E σ τ) : to_f (so_S σ) (so_S σ 7 0) = (mt_p τ).2 := by
  obtain ⟨m, m1, m2, m3, m4⟩ := gr_GB h
  obtain ⟨u1, u2⟩ := GB_unique h.1 (so_GB h.1) m4
  have h7 := (so_S_B h.1).2.2.2.1
  have h1 := mt_gr m1 m2 m3 12 0 rfl (Nat.zero_le _)
  rw [to_sd, h7, u1, sd_congr (fun i hi => u2 i (by omega)), ← h1]
  rfl
theorem eq_part {σ τ : cb_S} (h : cb_E σ τ) (i : Nat) : pa_r (so_S σ) i = (mp_p τ i).2 := by
  obtain ⟨m, m1, m2, m3, m4⟩ := gr_GB h
  obtain ⟨u1, u2⟩ := GB_unique h.1 (so_GB h.1) m4
  have h7 := (so_S_B h.1).2.2.2.1
  have h1 := mp_gr m1 m2 m3 i 12 0 rfl (Nat.zero_le _)
  have h2 : (mp_p τ i).2 = (mp_f i 12 0 (gr τ 0)).2 := rfl
  rw [h2, h1]
  unfold pa_r
  rw [h7]
  by_cases hi : i < sw_S σ 5 0
  · rw [if_pos hi, if_pos (by omega)]; exact u2 i hi
  · rw [if_neg hi, if_neg (by omega)]
theorem eq_level {σ τ : cb_S} (h : cb_E σ τ) (mask : Nat) : (le_p σ mask).2 = (ml_p τ mask).2 := by
  obtain ⟨m, m1, m2, m3, m4⟩ := gr_GB h
  have hG := so_GB h.1
  have hcl := eq_closed h mask
  obtain ⟨k1, k2⟩ := cl_r_iff h.1 mask
  unfold le_p ml_p
  rw [hcl] at k1 k2 ⊢
  by_cases hg : gc (σ 1) (σ 2) (σ 0 0) mask
  · have hne : ¬ mc_r τ mask = 0 := by rw [k1 hg]; decide
    rw [if_neg hne, if_neg hne]
    have hM : LV m (gr_c τ) (gr_d τ) mask (ml_f mask 12 (fo_S τ) 0).2 := ml_gr h m1 m2 m3 m4 hg 12 0 0 rfl (Nat.zero_le _) (fun _ => rfl) (fun q => by omega)
    by_cases hm : mask = 0
    · rw [if_pos hm]
      rcases hM with ⟨-, q⟩ | ⟨q, -⟩
      · exact q.symm
      · exact absurd hm q
    · rw [if_neg hm]
      have h7 := (so_S_B h.1).2.2.2.1
      have z7 : le_z (so_S σ) 12 7 0 = sw_S σ 5 0 := by rw [le_z_k _ (by decide)]; exact h7
      have z8 : le_z (so_S σ) 12 8 = so_S σ 8 := le_z_k _ (by decide) _
      have z9 : le_z (so_S σ) 12 9 = so_S σ 9 := le_z_k _ (by decide) _
      have hI : pv_I (le_z (so_S σ) 12) 0 := by
        refine ⟨fun e he => Or.inl (le_z_15 _ _ e he), fun x => ?_⟩
        constructor
        · intro hx
          exact sn_min (P := fun x => sn (le_z (so_S σ) 12 8) (fun _ => true) 0 x = true) (sn_zero _ _ _) (fun _ _ => sn_xor) 12 (fun e he _ => by rw [le_z_15 _ _ e he]; exact sn_zero _ _ _) x hx
        · intro hx
          have : x = 0 := by simpa [sn] using hx
          rw [this]; exact sn_zero _ _ _
      have hX : LV (sw_S σ 5 0) (so_S σ 8) (so_S σ 9) mask (le_f mask (sw_S σ 5 0) 0 (le_z (so_S σ) 12)).2 := le_LV (σ := σ) hm _ _ ((GB_all hG mask).mpr hg) _ 0 _ (by omega) z7 z8 z9 (le_0_B h.1) hI (by simp [sn, hm])
      rw [z7]
      exact LV_unique hG m4 hX hM
  · have he : mc_r τ mask = 0 := k2 hg
    rw [if_pos he, if_pos he]
end
section
def lw_P (b : Addr) (xs : List Int32) (args : Array Value) (s : State) : Prop := args = #[.ref b] ∧ s.IntsAt b xs ∧ xs.length ≤ 256 ∧ (Jvm.Cond.and given_1 narrow_1).before args s = true
def lw_Q (_ : Array Value) (s : State) (o : Outcome) (t : State) : Prop := o = .returned (some (.int 1)) ∧ Framed s o t [] 600000 7290000
def lw_Z (below : List Frame) (a : Array Value) (s : State) : State → Prop := fun t => ∃ o, t.status = .running ∧ Ended t below o ∧ lw_Q a s o t
/-- the law's own end, with 1 on the stack, nothing written that was there before, its room as the claim has it -/
theorem lw_ret {p : Program} {l : Launch} {e : Env} {s : State} {m : MethodId} {below : List Frame} {meth : Method} {c : Code} {b : Nat} (hx : p.tables.exec = Jvm.exec) (hb : c.code = code) (hr : meth.sig.returnType = ret) (hlocks : meth.locks = false) {pc : Nat} {H : Heap} {ls : Array Slot} (hdg : decode code pc = .ok (.ireturn, 1)) : W p l e room_1 s m #[Value.ref b] below meth c H [] 600000 7290000 (lw_Z below #[Value.ref b] s) (F0 m pc ls [.int 1]) := by
  intro T hT X
  obtain ⟨fs, hret, hrun, hended, hW, hframe⟩ := X.leave (v := some (.int 1)) (hlocks := hlocks) (fun h => by rw [hr] at h; cases h)
  have hmeth' : T.vm.method? m = some meth := X.method'
  refine ⟨T.setFrames fs, ?_, .returned (some (.int 1)), hrun, hended, rfl, ⟨_, rfl⟩, hW, hframe⟩
  jvm_step X.here [X.here.top, hx, hb, hdg, hmeth', hr, ret, narrow_b1]
  (try refine ⟨rfl, ?_⟩); (try refine ⟨rfl, ?_⟩)
  first | (intro acts; rw [hret _ acts rfl rfl rfl]) | rw [hret _ _ rfl rfl rfl]
  exact Steps.refl _
/-- what holds at the law's entry: the machine, the code, the tables' words (any of lw_tbl by 'hts w (by decide +kernel)'), the script of L ints xs at the cell b, what the Statement gives of the start (any of its parts by flat_of_before) -/
def lw_At (p : Program) (s : State) (m : MethodId) (meth : Method) (c : Code) (b L : Nat) (xs : Nat → Int32) : Prop :=
  p.tables.exec = Jvm.exec ∧ c.code = code ∧ meth.sig.returnType = ret ∧ c.maxLocals = 4 ∧ s.vm.findClass R_law = some m.cls ∧ (∀ w ∈ lw_tbl, w.before #[Value.ref b] s = true) ∧ va_X b L xs s s.heap ∧ b < s.heap.size ∧ meth.locks = false ∧ (Jvm.Cond.and given_1 narrow_1).before #[Value.ref b] s = true
end
section
/-! the law: its loop and its start -/
def cb_W2 (D : va_G) (cI cZ : ClassId) (hx : Nat) (ax : Nat → Nat) (hm : Nat) (am : Nat → Nat) (s : State) (σ τ : cb_S) (H : Heap) (locs : List Loc) : Prop :=
  va_K D vwCl (cb_T cI cZ) s ∧ va_P D vwCl (cb_WX hx ax cI cZ σ ++ cb_WM hm am cI cZ τ) H ∧ va_D (fun q => s.heap.size ≤ q) (cb_WX hx ax cI cZ σ ++ cb_WM hm am cI cZ τ) ∧ va_S (fun q => s.heap.size ≤ q) s.heap H locs
section CBLaw
variable {p : Program} {l : Launch} {e : Env} {R : Room} {s : State} {m : MethodId} {args : Array Value} {below : List Frame} {meth : Method} {c : Code} {H : Heap} {locs : List Loc} {cells slots : Nat} {Q : State → Prop}
variable {cc : ByteArray} {pc : Nat} {ls : Array Slot} {rest : List Value} {nL : Nat} {own : String} {D : va_G} {cI cZ : ClassId} {hx hm : Nat} {ax am : Nat → Nat} {σ σ' τ τ' : cb_S}
theorem law_ld (C : CallFix p m c cc nL s args lw_all own) {b L : Nat} {xs : Nat → Int32} {ks : Nat → Nat} (hX : va_X b L xs s s.heap) (hbl : b < s.heap.size) (hks : ∀ j, xs j = nI (ks j)) (hL : L ≤ 256) (hw : cb_W2 D cI cZ hx ax hm am s σ τ H locs) (hd : decode cc pc = .ok (.iaload, 1)) {i : Nat} (hi : i < L)
    (kk : W p l e R s m args below meth c H locs cells slots Q (F0 m (pc + 1) ls (.int (nI (ks i)) :: rest))) : W p l e R s m args below meth c H locs cells slots Q (F0 m pc ls (.int (nI i) :: .ref b :: rest)) := by
  refine va_sld C.1 C.2.1 hX hbl (Nat.not_le.mpr hbl) hw.2.2.2 (i := nI i) (vp_in_nI hi (by omega)) hd ?_
  rw [nI_clamp (by omega), hks]
  exact kk
theorem law_callX (C : CallFix p m c cc nL s args lw_all own) (hw : cb_W2 D cI cZ hx ax hm am s σ τ H locs) {y : MethodName} {b : ByteArray} {nl fr lo n index k : Nat} {rt : Option FieldType} {as st0 : List Value}
    (hM : cb_C l y b nl rt fr lo D cI cZ (cb_WX hx ax cI cZ) (.ref hx :: as) σ (some k) σ') (cw : CallW R s args own RX0 index y b nl rt (ws_ y b nl rt) (cb_R fr lo) 0 0 n)
    (hn : as.length = n) (hsize : ls.size = nL) (hst : st0 = as.reverse ++ .ref hx :: rest) (hroom : (rest.map fun v => v.category).sum ≤ 8) (hcs : cells ≤ R.cells ∧ slots ≤ R.slots) (hd : decode cc pc = .ok (.invokevirtual index, 3))
    (kk : ∀ (H : Heap) (locs : List Loc), cb_W2 D cI cZ hx ax hm am s σ' τ H locs → W p l e R s m args below meth c H locs cells slots Q (F0 m (pc + 3) ls (.int (nI k) :: rest))) : W p l e R s m args below meth c H locs cells slots Q (F0 m pc ls st0) := by
  subst hst
  obtain ⟨hK, hP, hD, hS⟩ := hw
  have hPc := hP.sub (ws' := cb_WX hx ax cI cZ σ) [0, 1, 2, 3, 4, 5, 6, 7, 8, 9, 10, 11] rfl
  have hDc := hD.sub (ws' := cb_WX hx ax cI cZ σ) [0, 1, 2, 3, 4, 5, 6, 7, 8, 9, 10, 11] (by decide) rfl
  have hFc := va_free (wc := cb_WX hx ax cI cZ σ) hD hS (fun q h => h) [0, 1, 2, 3, 4, 5, 6, 7, 8, 9, 10, 11] rfl
  have hr := va_runV (g := F0 m pc ls (as.reverse ++ .ref hx :: rest)) (p := p) (e := e) (below := below) (meth := meth) (locs := locs) (cells := cells) (slots := slots) C (hM H.size) cw ⟨cb_blind _ _, va_recv hK hPc (ci := 0) (q0 := 0) rfl rfl, fun U hU hW => ⟨rfl, by rw [hU], by rw [hU]; exact hPc, va_K.moved hW.alike hK, hDc.weaken (fun _ _ _ _ => trivial)⟩⟩ rfl hn hsize rfl (lv_room hroom) hd hcs
  intro T hT X
  obtain ⟨v, st₀, t, T', L, h0, X', hL, e1, e2, ⟨⟨hv, hP1, hK1, hD1⟩, hz, hk⟩, st⟩ := hr T hT X
  cases hv
  rw [h0] at hz hk
  obtain ⟨hPj, hDj⟩ := va_join (wr := cb_WM hm am cI cZ τ) (w1 := cb_WX hx ax cI cZ σ') (H1 := t.heap) hP hD [0, 1, 2, 3, 4, 5, 6, 7, 8, 9, 10, 11] [12, 13, 14, 15, 16, 17] rfl rfl (by decide) (by decide) hk hFc hP1 hD1
  have hP2 := hPj.sub (ws' := cb_WX hx ax cI cZ σ' ++ cb_WM hm am cI cZ τ) [6, 7, 8, 9, 10, 11, 12, 13, 14, 15, 16, 17, 0, 1, 2, 3, 4, 5] rfl
  have hD2 := hDj.sub (ws' := cb_WX hx ax cI cZ σ' ++ cb_WM hm am cI cZ τ) [6, 7, 8, 9, 10, 11, 12, 13, 14, 15, 16, 17, 0, 1, 2, 3, 4, 5] (by decide) rfl
  obtain ⟨t2, a1, b1⟩ := kk T'.heap (locs ++ L) ⟨hK, by rw [e1]; exact hP2, hD2, ⟨Nat.le_trans hS.1 (by rw [e1]; exact hz), fun q h1 h2 => by rw [e1, hk q (Nat.lt_of_lt_of_le h1 hS.1) (fun z => h2 (hFc q z))]; exact hS.2.1 q h1 h2, fun q hq => by
      rcases List.mem_append.mp hq with h | h
      · exact hS.2.2 q h
      · exact hFc _ (hL q h)⟩⟩ T' rfl X'
  exact ⟨t2, st t2 a1, b1⟩
theorem law_callM (C : CallFix p m c cc nL s args lw_all own) (hw : cb_W2 D cI cZ hx ax hm am s σ τ H locs) {y : MethodName} {b : ByteArray} {nl fr lo n index k : Nat} {rt : Option FieldType} {as st0 : List Value}
    (hM : cb_C l y b nl rt fr lo D cI cZ (cb_WM hm am cI cZ) (.ref hm :: as) τ (some k) τ') (cw : CallW R s args own RX1 index y b nl rt (ws_ y b nl rt) (cb_R fr lo) 0 0 n)
    (hn : as.length = n) (hsize : ls.size = nL) (hst : st0 = as.reverse ++ .ref hm :: rest) (hroom : (rest.map fun v => v.category).sum ≤ 8) (hcs : cells ≤ R.cells ∧ slots ≤ R.slots) (hd : decode cc pc = .ok (.invokevirtual index, 3))
    (kk : ∀ (H : Heap) (locs : List Loc), cb_W2 D cI cZ hx ax hm am s σ τ' H locs → W p l e R s m args below meth c H locs cells slots Q (F0 m (pc + 3) ls (.int (nI k) :: rest))) : W p l e R s m args below meth c H locs cells slots Q (F0 m pc ls st0) := by
  subst hst
  obtain ⟨hK, hP, hD, hS⟩ := hw
  have hPc := hP.sub (ws' := cb_WM hm am cI cZ τ) [12, 13, 14, 15, 16, 17] rfl
  have hDc := hD.sub (ws' := cb_WM hm am cI cZ τ) [12, 13, 14, 15, 16, 17] (by decide) rfl
  have hFc := va_free (wc := cb_WM hm am cI cZ τ) hD hS (fun q h => h) [12, 13, 14, 15, 16, 17] rfl
  have hr := va_runV (g := F0 m pc ls (as.reverse ++ .ref hm :: rest)) (p := p) (e := e) (below := below) (meth := meth) (locs := locs) (cells := cells) (slots := slots) C (hM H.size) cw ⟨cb_blind _ _, va_recv hK hPc (ci := 1) (q0 := 0) rfl rfl, fun U hU hW => ⟨rfl, by rw [hU], by rw [hU]; exact hPc, va_K.moved hW.alike hK, hDc.weaken (fun _ _ _ _ => trivial)⟩⟩ rfl hn hsize rfl (lv_room hroom) hd hcs
  intro T hT X
  obtain ⟨v, st₀, t, T', L, h0, X', hL, e1, e2, ⟨⟨hv, hP1, hK1, hD1⟩, hz, hk⟩, st⟩ := hr T hT X
  cases hv
  rw [h0] at hz hk
  obtain ⟨hPj, hDj⟩ := va_join (wr := cb_WX hx ax cI cZ σ) (w1 := cb_WM hm am cI cZ τ') (H1 := t.heap) hP hD [12, 13, 14, 15, 16, 17] [0, 1, 2, 3, 4, 5, 6, 7, 8, 9, 10, 11] rfl rfl (by decide) (by decide) hk hFc hP1 hD1
  obtain ⟨t2, a1, b1⟩ := kk T'.heap (locs ++ L) ⟨hK, by rw [e1]; exact hPj, hDj, ⟨Nat.le_trans hS.1 (by rw [e1]; exact hz), fun q h1 h2 => by rw [e1, hk q (Nat.lt_of_lt_of_le h1 hS.1) (fun z => h2 (hFc q z))]; exact hS.2.1 q h1 h2, fun q hq => by
      rcases List.mem_append.mp hq with h | h
      · exact hS.2.2 q h
      · exact hFc _ (hL q h)⟩⟩ T' rfl X'
  exact ⟨t2, st t2 a1, b1⟩
/-- two equal answers -/
theorem law_same (C : CallFix p m c cc nL s args lw_all own) {a b : Nat} {off : Int} (tgt : Nat) (hd : decode cc pc = .ok (.if_icmp .eq off, 3)) (ht : (pc : Int) + off = (tgt : Int)) (h : a = b) (kk : W p l e R s m args below meth c H locs cells slots Q (F0 m tgt ls rest)) : W p l e R s m args below meth c H locs cells slots Q (F0 m pc ls (.int (nI b) :: .int (nI a) :: rest)) :=
  lv_icmp_eq C.1 C.2.1 hd ht (fun _ => kk) (fun q => absurd (by rw [h]) q)
end CBLaw
theorem law_loop {p : Program} {l : Launch} {e : Env} {s : State} {m : MethodId} {below : List Frame} {meth : Method} {c : Code} {b L : Nat} {xs : Nat → Int32} {ks : Nat → Nat} {D : va_G} {cI cZ : ClassId} {hx hm : Nat} {ax am : Nat → Nat}
    (C : CallFix p m c cL_law 4 s #[Value.ref b] lw_all R_law) (hr : meth.sig.returnType = ret) (hlocks : meth.locks = false) (hX : va_X b L xs s s.heap) (hbl : b < s.heap.size) (hks : ∀ j, xs j = nI (ks j)) (hkl : ∀ j, ks j < 4294967296) (hL : L ≤ 256) :
    ∀ (n i : Nat), i ≤ L → L + 1 ≤ i + n → ∀ (σ τ : cb_S), cb_E σ τ → ∀ (H : Heap) (locs : List Loc) (ls : Array Slot), cb_W2 D cI cZ hx ax hm am s σ τ H locs → cb_L ls 4 [some (.ref b), some (.ref hx), some (.ref hm), some (.int (nI i))] → W p l e room_1 s m #[Value.ref b] below meth c H locs 18 8383 (lw_Z below #[Value.ref b] s) (F0 m 18 ls []) := by
  intro n
  induction n with
  | zero => intro i h1 h2; exact absurd h2 (by omega)
  | succ n ih =>
    intro i hi hin σ τ hE H locs ls hw hl
    have ok := hE.1
    have okm := hE.2.1
    have hc := ok.1
    have hcm := okm.1
    have hWm := hE.w
    have hcs : 18 ≤ room_1.cells ∧ 8383 ≤ room_1.slots := ⟨by decide, by decide⟩
    have END : ∀ (ls : Array Slot), W p l e room_1 s m #[Value.ref b] below meth c H locs 18 8383 (lw_Z below #[Value.ref b] s) (F0 m 314 ls []) := by
      intro ls
      refine cb_iconst C 1 dL_law_314 rfl ?_
      refine va_forget (fun q hq => hw.2.2.2.2.2 q hq) ?_
      refine W.widen (k := 600000) (n := 7290000) (by decide) (by decide) ?_
      exact lw_ret C.1 C.2.1 hr hlocks dL_law_315
    have NEXT : i + 4 ≤ L → ∀ (σ' τ' : cb_S), cb_E σ' τ' → ∀ (H : Heap) (locs : List Loc) (ls : Array Slot), cb_W2 D cI cZ hx ax hm am s σ' τ' H locs → cb_L ls 4 [some (.ref b), some (.ref hx), some (.ref hm), some (.int (nI i))] → W p l e room_1 s m #[Value.ref b] below meth c H locs 18 8383 (lw_Z below #[Value.ref b] s) (F0 m 308 ls []) := by
      intro h4 σ' τ' hE' H locs ls hw hl
      refine cb_iinc C hl dL_law_308 rfl (nI_add _ 4) (by decide) (fun ls (hl : cb_L ls 4 [_, _, _, _]) => ?_)
      refine cb_goto C 18 dL_law_311 (by decide) ?_
      exact ih (i + 4) h4 (by omega) σ' τ' hE' H locs ls hw hl
    refine cb_iload_n C hl dL_law_18 rfl ?_
    refine cb_aload_n C hl dL_law_19 rfl ?_
    refine va_slen C.1 C.2.1 hX hbl (Nat.not_le.mpr hbl) hw.2.2.2 dL_law_20 ?_
    refine cb_iconst C 4 dL_law_21 rfl ?_
    by_cases h4 : 4 ≤ L
    · refine cb_isub C (a := L) (b := 4) dL_law_22 h4 ?_
      refine cb_icmp_gt C 314 dL_law_23 (by decide) (by omega) (by omega) (fun h5 => ?_) (fun h5 => ?_)
      · exact END ls
      have hi4 : i + 4 ≤ L := by omega
      refine cb_aload_n C hl dL_law_26 rfl ?_
      refine cb_iload_n C hl dL_law_27 rfl ?_
      refine law_ld C hX hbl hks hL hw dL_law_28 (by omega) ?_
      refine cb_bipush C 15 dL_law_29 rfl ?_
      refine cb_iand C dL_law_31 ?_
      have hm16 : ks i &&& 15 < 16 := Nat.lt_of_le_of_lt Nat.and_le_right (by decide)
      generalize hq : ks i &&& 15 = q at hm16 ⊢
      by_cases h9 : 9 < q
      · refine lv_tableOut C.1 C.2.1 dL_law_32 (Or.inr (by rw [nI_toInt (by omega)]; omega)) (tgt := 308) (by decide) ?_
        exact NEXT hi4 σ τ hE H locs ls hw hl
      · rcases (show q = 0 ∨ q = 1 ∨ q = 2 ∨ q = 3 ∨ q = 4 ∨ q = 5 ∨ q = 6 ∨ q = 7 ∨ q = 8 ∨ q = 9 by omega) with rfl | rfl | rfl | rfl | rfl | rfl | rfl | rfl | rfl | rfl
        · refine lv_tableIn C.1 C.2.1 dL_law_32 (by decide +kernel) (by decide +kernel) (off := 56) (by decide +kernel) (tgt := 88) (by decide) ?_
          refine cb_aload_n C hl dL_law_88 rfl ?_
          refine cb_aload_n C hl dL_law_89 rfl ?_
          refine cb_iload_n C hl dL_law_90 rfl ?_
          refine cb_iconst C 1 dL_law_91 rfl ?_
          refine cb_iadd C dL_law_92 ?_
          refine law_ld C hX hbl hks hL hw dL_law_93 (by omega) ?_
          refine cb_aload_n C hl dL_law_94 rfl ?_
          refine cb_iload_n C hl dL_law_95 rfl ?_
          refine cb_iconst C 2 dL_law_96 rfl ?_
          refine cb_iadd C dL_law_97 ?_
          refine law_ld C hX hbl hks hL hw dL_law_98 (by omega) ?_
          refine cb_aload_n C hl dL_law_99 rfl ?_
          refine cb_iload_n C hl dL_law_100 rfl ?_
          refine cb_iconst C 3 dL_law_101 rfl ?_
          refine cb_iadd C dL_law_102 ?_
          refine law_ld C hX hbl hks hL hw dL_law_103 (by omega) ?_
          refine law_callX C hw (met_edge l D cI cZ hx ax σ hc (hkl _) (hkl _) (hkl _)) (cwL_X0_edge C.2.2.2.2 ⟨by decide, by decide⟩) rfl hl.1 rfl (Nat.le_of_ble_eq_true rfl) hcs dL_law_104 (fun H locs hw => ?_)
          refine cb_aload_n C hl dL_law_107 rfl ?_
          refine cb_aload_n C hl dL_law_108 rfl ?_
          refine cb_iload_n C hl dL_law_109 rfl ?_
          refine cb_iconst C 1 dL_law_110 rfl ?_
          refine cb_iadd C dL_law_111 ?_
          refine law_ld C hX hbl hks hL hw dL_law_112 (by omega) ?_
          refine cb_aload_n C hl dL_law_113 rfl ?_
          refine cb_iload_n C hl dL_law_114 rfl ?_
          refine cb_iconst C 2 dL_law_115 rfl ?_
          refine cb_iadd C dL_law_116 ?_
          refine law_ld C hX hbl hks hL hw dL_law_117 (by omega) ?_
          refine cb_aload_n C hl dL_law_118 rfl ?_
          refine cb_iload_n C hl dL_law_119 rfl ?_
          refine cb_iconst C 3 dL_law_120 rfl ?_
          refine cb_iadd C dL_law_121 ?_
          refine law_ld C hX hbl hks hL hw dL_law_122 (by omega) ?_
          refine law_callM C hw (mm_edge l D cI cZ hm am τ okm (hkl _) (hkl _) (hkl _)) (cwL_X1_edge C.2.2.2.2 ⟨by decide, by decide⟩) rfl hl.1 rfl (Nat.le_of_ble_eq_true rfl) hcs dL_law_123 (fun H locs hw => ?_)
          have hq2 := eq_edge hE (ks (i + 1)) (ks (i + 2)) (ks (i + 3))
          refine law_same C 308 dL_law_126 (by decide) hq2.1 ?_
          exact NEXT hi4 _ _ hq2.2 H locs ls hw hl
        · refine lv_tableIn C.1 C.2.1 dL_law_32 (by decide +kernel) (by decide +kernel) (off := 99) (by decide +kernel) (tgt := 131) (by decide) ?_
          refine cb_aload_n C hl dL_law_131 rfl ?_
          refine cb_aload_n C hl dL_law_132 rfl ?_
          refine cb_iload_n C hl dL_law_133 rfl ?_
          refine cb_iconst C 1 dL_law_134 rfl ?_
          refine cb_iadd C dL_law_135 ?_
          refine law_ld C hX hbl hks hL hw dL_law_136 (by omega) ?_
          refine cb_aload_n C hl dL_law_137 rfl ?_
          refine cb_iload_n C hl dL_law_138 rfl ?_
          refine cb_iconst C 2 dL_law_139 rfl ?_
          refine cb_iadd C dL_law_140 ?_
          refine law_ld C hX hbl hks hL hw dL_law_141 (by omega) ?_
          refine law_callX C hw (met_reweigh l D cI cZ hx ax σ hc (hkl _) (hkl _)) (cwL_X0_reweigh C.2.2.2.2 ⟨by decide, by decide⟩) rfl hl.1 rfl (Nat.le_of_ble_eq_true rfl) hcs dL_law_142 (fun H locs hw => ?_)
          refine cb_aload_n C hl dL_law_145 rfl ?_
          refine cb_aload_n C hl dL_law_146 rfl ?_
          refine cb_iload_n C hl dL_law_147 rfl ?_
          refine cb_iconst C 1 dL_law_148 rfl ?_
          refine cb_iadd C dL_law_149 ?_
          refine law_ld C hX hbl hks hL hw dL_law_150 (by omega) ?_
          refine cb_aload_n C hl dL_law_151 rfl ?_
          refine cb_iload_n C hl dL_law_152 rfl ?_
          refine cb_iconst C 2 dL_law_153 rfl ?_
          refine cb_iadd C dL_law_154 ?_
          refine law_ld C hX hbl hks hL hw dL_law_155 (by omega) ?_
          refine law_callM C hw (mm_reweigh l D cI cZ hm am τ okm (hkl _) (hkl _)) (cwL_X1_reweigh C.2.2.2.2 ⟨by decide, by decide⟩) rfl hl.1 rfl (Nat.le_of_ble_eq_true rfl) hcs dL_law_156 (fun H locs hw => ?_)
          have hq2 := eq_reweigh hE (ks (i + 1)) (ks (i + 2))
          refine law_same C 308 dL_law_159 (by decide) hq2.1 ?_
          exact NEXT hi4 _ _ hq2.2 H locs ls hw hl
        · refine lv_tableIn C.1 C.2.1 dL_law_32 (by decide +kernel) (by decide +kernel) (off := 132) (by decide +kernel) (tgt := 164) (by decide) ?_
          refine cb_aload_n C hl dL_law_164 rfl ?_
          refine law_callX C hw (met_dropLast l D cI cZ hx ax σ hc) (cwL_X0_dropLast C.2.2.2.2 ⟨by decide, by decide⟩) rfl hl.1 rfl (Nat.le_of_ble_eq_true rfl) hcs dL_law_165 (fun H locs hw => ?_)
          refine cb_aload_n C hl dL_law_168 rfl ?_
          refine law_callM C hw (mm_dropLast l D cI cZ hm am τ okm) (cwL_X1_dropLast C.2.2.2.2 ⟨by decide, by decide⟩) rfl hl.1 rfl (Nat.le_of_ble_eq_true rfl) hcs dL_law_169 (fun H locs hw => ?_)
          have hq2 := eq_drop hE
          refine law_same C 308 dL_law_172 (by decide) hq2.1 ?_
          exact NEXT hi4 _ _ hq2.2 H locs ls hw hl
        · refine lv_tableIn C.1 C.2.1 dL_law_32 (by decide +kernel) (by decide +kernel) (off := 145) (by decide +kernel) (tgt := 177) (by decide) ?_
          refine cb_aload_n C hl dL_law_177 rfl ?_
          refine law_callX C hw (met_rank l D cI cZ hx ax σ ok) (cwL_X0_rank C.2.2.2.2 ⟨by decide, by decide⟩) rfl hl.1 rfl (Nat.le_of_ble_eq_true rfl) hcs dL_law_178 (fun H locs hw => ?_)
          refine cb_aload_n C hl dL_law_181 rfl ?_
          refine law_callM C hw (mm_rank l D cI cZ hm am τ hWm) (cwL_X1_rank C.2.2.2.2 ⟨by decide, by decide⟩) rfl hl.1 rfl (Nat.le_of_ble_eq_true rfl) hcs dL_law_182 (fun H locs hw => ?_)
          refine law_same C 308 dL_law_185 (by decide) (eq_rank hE) ?_
          exact NEXT hi4 _ _ (hE.g (sw_S_G σ)) H locs ls hw hl
        · refine lv_tableIn C.1 C.2.1 dL_law_32 (by decide +kernel) (by decide +kernel) (off := 158) (by decide +kernel) (tgt := 190) (by decide) ?_
          refine cb_aload_n C hl dL_law_190 rfl ?_
          refine law_callX C hw (met_total l D cI cZ hx ax σ ok) (cwL_X0_total C.2.2.2.2 ⟨by decide, by decide⟩) rfl hl.1 rfl (Nat.le_of_ble_eq_true rfl) hcs dL_law_191 (fun H locs hw => ?_)
          refine cb_aload_n C hl dL_law_194 rfl ?_
          refine law_callM C hw (mm_total l D cI cZ hm am τ hWm) (cwL_X1_total C.2.2.2.2 ⟨by decide, by decide⟩) rfl hl.1 rfl (Nat.le_of_ble_eq_true rfl) hcs dL_law_195 (fun H locs hw => ?_)
          refine law_same C 308 dL_law_198 (by decide) (eq_total hE) ?_
          exact NEXT hi4 _ _ ((hE.g (so_S_G σ)).m (fun k h => mt_p_k τ h)) H locs ls hw hl
        · refine lv_tableIn C.1 C.2.1 dL_law_32 (by decide +kernel) (by decide +kernel) (off := 171) (by decide +kernel) (tgt := 203) (by decide) ?_
          refine cb_aload_n C hl dL_law_203 rfl ?_
          refine cb_aload_n C hl dL_law_204 rfl ?_
          refine cb_iload_n C hl dL_law_205 rfl ?_
          refine cb_iconst C 1 dL_law_206 rfl ?_
          refine cb_iadd C dL_law_207 ?_
          refine law_ld C hX hbl hks hL hw dL_law_208 (by omega) ?_
          refine law_callX C hw (met_part l D cI cZ hx ax σ ok (hkl _)) (cwL_X0_part C.2.2.2.2 ⟨by decide, by decide⟩) rfl hl.1 rfl (Nat.le_of_ble_eq_true rfl) hcs dL_law_209 (fun H locs hw => ?_)
          refine cb_aload_n C hl dL_law_212 rfl ?_
          refine cb_aload_n C hl dL_law_213 rfl ?_
          refine cb_iload_n C hl dL_law_214 rfl ?_
          refine cb_iconst C 1 dL_law_215 rfl ?_
          refine cb_iadd C dL_law_216 ?_
          refine law_ld C hX hbl hks hL hw dL_law_217 (by omega) ?_
          refine law_callM C hw (mm_part l D cI cZ hm am τ hWm (hkl _)) (cwL_X1_part C.2.2.2.2 ⟨by decide, by decide⟩) rfl hl.1 rfl (Nat.le_of_ble_eq_true rfl) hcs dL_law_218 (fun H locs hw => ?_)
          refine law_same C 308 dL_law_221 (by decide) (eq_part hE _) ?_
          exact NEXT hi4 _ _ ((hE.g (so_S_G σ)).m (fun k h => mp_p_k τ _ h)) H locs ls hw hl
        · refine lv_tableIn C.1 C.2.1 dL_law_32 (by decide +kernel) (by decide +kernel) (off := 194) (by decide +kernel) (tgt := 226) (by decide) ?_
          refine cb_aload_n C hl dL_law_226 rfl ?_
          refine cb_aload_n C hl dL_law_227 rfl ?_
          refine cb_iload_n C hl dL_law_228 rfl ?_
          refine cb_iconst C 1 dL_law_229 rfl ?_
          refine cb_iadd C dL_law_230 ?_
          refine law_ld C hX hbl hks hL hw dL_law_231 (by omega) ?_
          refine law_callX C hw (met_through l D cI cZ hx ax σ ok (hkl _)) (cwL_X0_through C.2.2.2.2 ⟨by decide, by decide⟩) rfl hl.1 rfl (Nat.le_of_ble_eq_true rfl) hcs dL_law_232 (fun H locs hw => ?_)
          refine cb_aload_n C hl dL_law_235 rfl ?_
          refine cb_aload_n C hl dL_law_236 rfl ?_
          refine cb_iload_n C hl dL_law_237 rfl ?_
          refine cb_iconst C 1 dL_law_238 rfl ?_
          refine cb_iadd C dL_law_239 ?_
          refine law_ld C hX hbl hks hL hw dL_law_240 (by omega) ?_
          refine law_callM C hw (mm_through l D cI cZ hm am τ hcm hWm (hkl _)) (cwL_X1_through C.2.2.2.2 ⟨by decide, by decide⟩) rfl hl.1 rfl (Nat.le_of_ble_eq_true rfl) hcs dL_law_241 (fun H locs hw => ?_)
          refine law_same C 308 dL_law_244 (by decide) (eq_through hE _) ?_
          exact NEXT hi4 _ _ (hE.g (th_p_G σ _)) H locs ls hw hl
        · refine lv_tableIn C.1 C.2.1 dL_law_32 (by decide +kernel) (by decide +kernel) (off := 217) (by decide +kernel) (tgt := 249) (by decide) ?_
          refine cb_aload_n C hl dL_law_249 rfl ?_
          refine cb_aload_n C hl dL_law_250 rfl ?_
          refine cb_iload_n C hl dL_law_251 rfl ?_
          refine cb_iconst C 1 dL_law_252 rfl ?_
          refine cb_iadd C dL_law_253 ?_
          refine law_ld C hX hbl hks hL hw dL_law_254 (by omega) ?_
          refine law_callX C hw (met_closed l D cI cZ hx ax σ ok (hkl _)) (cwL_X0_closed C.2.2.2.2 ⟨by decide, by decide⟩) rfl hl.1 rfl (Nat.le_of_ble_eq_true rfl) hcs dL_law_255 (fun H locs hw => ?_)
          refine cb_aload_n C hl dL_law_258 rfl ?_
          refine cb_aload_n C hl dL_law_259 rfl ?_
          refine cb_iload_n C hl dL_law_260 rfl ?_
          refine cb_iconst C 1 dL_law_261 rfl ?_
          refine cb_iadd C dL_law_262 ?_
          refine law_ld C hX hbl hks hL hw dL_law_263 (by omega) ?_
          refine law_callM C hw (mm_closed l D cI cZ hm am τ hWm (hkl _)) (cwL_X1_closed C.2.2.2.2 ⟨by decide, by decide⟩) rfl hl.1 rfl (Nat.le_of_ble_eq_true rfl) hcs dL_law_264 (fun H locs hw => ?_)
          refine law_same C 308 dL_law_267 (by decide) (eq_closed hE _) ?_
          exact NEXT hi4 _ _ hE H locs ls hw hl
        · refine lv_tableIn C.1 C.2.1 dL_law_32 (by decide +kernel) (by decide +kernel) (off := 240) (by decide +kernel) (tgt := 272) (by decide) ?_
          refine cb_aload_n C hl dL_law_272 rfl ?_
          refine cb_aload_n C hl dL_law_273 rfl ?_
          refine cb_iload_n C hl dL_law_274 rfl ?_
          refine cb_iconst C 1 dL_law_275 rfl ?_
          refine cb_iadd C dL_law_276 ?_
          refine law_ld C hX hbl hks hL hw dL_law_277 (by omega) ?_
          refine law_callX C hw (met_level l D cI cZ hx ax σ ok (hkl _)) (cwL_X0_level C.2.2.2.2 ⟨by decide, by decide⟩) rfl hl.1 rfl (Nat.le_of_ble_eq_true rfl) hcs dL_law_278 (fun H locs hw => ?_)
          refine cb_aload_n C hl dL_law_281 rfl ?_
          refine cb_aload_n C hl dL_law_282 rfl ?_
          refine cb_iload_n C hl dL_law_283 rfl ?_
          refine cb_iconst C 1 dL_law_284 rfl ?_
          refine cb_iadd C dL_law_285 ?_
          refine law_ld C hX hbl hks hL hw dL_law_286 (by omega) ?_
          refine law_callM C hw (mm_level l D cI cZ hm am τ hWm (hkl _)) (cwL_X1_level C.2.2.2.2 ⟨by decide, by decide⟩) rfl hl.1 rfl (Nat.le_of_ble_eq_true rfl) hcs dL_law_287 (fun H locs hw => ?_)
          refine law_same C 308 dL_law_290 (by decide) (eq_level hE _) ?_
          exact NEXT hi4 _ _ ((hE.g (le_p_G σ _)).m (fun k h => ml_p_k τ _ h)) H locs ls hw hl
        · refine lv_tableIn C.1 C.2.1 dL_law_32 (by decide +kernel) (by decide +kernel) (off := 263) (by decide +kernel) (tgt := 295) (by decide) ?_
          refine cb_aload_n C hl dL_law_295 rfl ?_
          refine law_callX C hw (met_bridges l D cI cZ hx ax σ ok) (cwL_X0_bridges C.2.2.2.2 ⟨by decide, by decide⟩) rfl hl.1 rfl (Nat.le_of_ble_eq_true rfl) hcs dL_law_296 (fun H locs hw => ?_)
          refine cb_aload_n C hl dL_law_299 rfl ?_
          refine law_callM C hw (mm_bridges l D cI cZ hm am τ hcm hWm) (cwL_X1_bridges C.2.2.2.2 ⟨by decide, by decide⟩) rfl hl.1 rfl (Nat.le_of_ble_eq_true rfl) hcs dL_law_300 (fun H locs hw => ?_)
          refine law_same C 308 dL_law_303 (by decide) (eq_bridges hE) ?_
          exact NEXT hi4 _ _ (hE.g (bg_f_G σ _)) H locs ls hw hl
    · refine lv_isub C.1 C.2.1 dL_law_22 ?_
      refine lv_icmp_gt C.1 C.2.1 dL_law_23 (tgt := 314) (by decide) (fun _ => END ls) (fun q => absurd ?_ q)
      have h5 : (Int32.ofNat L - nI 4).toInt = (L : Int) - 4 := pk_sub_toInt (a := L) (b := 4) (by omega) (by decide)
      rw [Int32.lt_iff_toInt_lt, h5, nI_toInt (by omega)]
      omega
end
section
/-! whole_start: the law from its entry -/
theorem cb_nI_bv (x : Int32) : nI x.toBitVec.toNat = x := by
  apply Int32.toBitVec_inj.1
  show BitVec.ofNat 32 x.toBitVec.toNat = x.toBitVec
  rw [BitVec.ofNat_toNat]
  simp
set_option maxHeartbeats 4000000 in
theorem whole_start {p : Program} {e : Env} {s : State} {m : MethodId} {below : List Frame} {meth : Method} {c : Code} (l : Launch) {b L : Nat} {xs : Nat → Int32} (hL : L ≤ 256) (C0 : lw_At p s m meth c b L xs) : W p l e room_1 s m #[Value.ref b] below meth c s.heap [] 0 0 (lw_Z below #[Value.ref b] s) (entryFrame m ([Value.ref b] : List Value).toArray 4) := by
  obtain ⟨hx, hb, hr, hml, hown, hts0, hX, hbl, hlocks, hgv⟩ := id C0
  have hts : ∀ w ∈ lw_all, w.before #[Value.ref b] s = true := fun w h => hts0 w (lw_all_tbl h)
  have C : CallFix p m c cL_law 4 s #[Value.ref b] lw_all R_law := ⟨hx, hb, hml, hown, hts⟩
  have hA : ∀ q : Nat, s.heap.size ≤ q → (fun q : Nat => s.heap.size ≤ q) q := fun _ h => h
  obtain ⟨c0, iS0, hKn0⟩ := u_known (C := RX0) (T := TX0) (N := 16) (n := 16) hts in_X0 (hts _ q21)
  obtain ⟨c1, iS1, hKn1⟩ := u_known (C := RX1) (T := TX1) (N := 6) (n := 6) hts in_X1 (hts _ q167)
  obtain ⟨dC, dI, hKc⟩ : ∃ (dC : Nat → ClassId) (dI : Nat → Nat → Nat), ∀ (k : Nat) (q : vw_C), vwCl[k]? = some q → u_Kn s q.1 q.2.1 q.2.2 (dC k) (dI k) := by
    refine ⟨fun k => if k = 0 then c0 else c1, fun k => if k = 0 then iS0 else iS1, ?_⟩
    intro k q hq
    match k, hq with
    | 0, hq => cases hq; exact hKn0
    | 1, hq => cases hq; exact hKn1
    | k + 2, hq => simp [vwCl] at hq
  have hS : va_S (fun q : Nat => s.heap.size ≤ q) s.heap s.heap [] := va_S.rf
  have hK : va_K (dC, dI) vwCl [] s := ⟨hKc, fun k q h => by simp at h⟩
  have hP : va_P (dC, dI) vwCl [] s.heap := fun k q h => by simp at h
  have hD : va_D (fun q : Nat => s.heap.size ≤ q) [] := ⟨fun i j p q h => by simp at h, fun k q h => by simp at h⟩
  have hl := (cb_L.entry [.ref b] (n := 4) (fun v hv => by rw [List.mem_singleton.mp hv]; rfl) (Nat.le_of_ble_eq_true rfl) (fun i v h => by have := cb_args [.ref _] (fun v hv => by rw [List.mem_singleton.mp hv]; rfl) 0 i v h; rwa [Nat.zero_add] at this)).wide 3
  rw [lg_entry_eq]
  generalize (lg_sl ([.ref b]) ++ List.replicate (4 - (lg_sl ([.ref b])).length) Slot.unset).toArray = ls at hl ⊢
  have hl : cb_L ls 4 [some (.ref b), none, none, none] := hl
  refine va_new (ci := 0) (fs := cb_fX0) (C := RX0) (T := TX0) (N := 16) hx hb hts in_X0 tyX0 tyX0_ok hown (hts _ q20) (hts _ q21) (hts _ q18) hK hP hD hS hA rfl (fun j hj => by rcases (show j = 0 ∨ j = 1 ∨ j = 2 ∨ j = 3 ∨ j = 4 ∨ j = 5 ∨ j = 6 ∨ j = 7 ∨ j = 8 ∨ j = 9 ∨ j = 10 ∨ j = 11 ∨ j = 12 ∨ j = 13 ∨ j = 14 ∨ j = 15 by omega) with rfl | rfl | rfl | rfl | rfl | rfl | rfl | rfl | rfl | rfl | rfl | rfl | rfl | rfl | rfl | rfl <;> rfl) (Nat.le_of_ble_eq_true rfl) (Nat.le_of_ble_eq_true rfl) dL_law_0 (fun qx H hP hD hS => ?_)
  have hP : va_P (dC, dI) vwCl [(qx, .inr (0, cb_fX0))] H := hP
  have hD : va_D (fun q : Nat => s.heap.size ≤ q) [(qx, .inr (0, cb_fX0))] := hD
  refine W.widen (k := 1) (n := 16) (Nat.le_of_ble_eq_true rfl) (Nat.le_of_ble_eq_true rfl) ?_
  refine cb_dup C dL_law_3 rfl ?_
  have hFc := va_free (wc := [(qx, .inr (0, cb_fX0))]) hD hS hA [0] rfl
  refine va_callv (va_runI (As := []) (rest := [.ref qx]) C (met_initX l (dC, dI) qx H.size) (cwI 0 hts (lw_meth q24) rfl rfl rfl (hts _ q18) (hts _ q22) (hts _ q23) rfl (by decide +kernel) ⟨Nat.le_of_ble_eq_true rfl, Nat.le_of_ble_eq_true rfl⟩) ⟨fun a U g mk q => by obtain ⟨q0, q1, qP, qK, qD⟩ := q; exact ⟨q0, q1, qP, va_K.moved (u := U) (U := U.calling g mk a) (Vm.Alike.refl U.vm) qK, qD⟩, fun U hU hW => ⟨rfl, by rw [hU], by rw [hU]; exact hP, va_K.moved hW.alike hK, hD.weaken (fun _ _ _ _ => trivial)⟩⟩ rfl rfl hl.1 rfl (lv_room (Nat.le_of_ble_eq_true rfl)) dL_law_4 ⟨Nat.le_of_ble_eq_true rfl, Nat.le_of_ble_eq_true rfl⟩) hS (fun q _ h => hFc q h) hFc (fun u t H1 locs ht hvm hw1 hB hz1 hk1 hS => ?_)
  obtain ⟨ax, cI, cZ⟩ := u
  obtain ⟨hP1, hK1, hD1⟩ := hB
  rw [ht] at hP1
  have hK1 := va_K.moved hvm.symm hK1
  obtain ⟨hP, hD⟩ := va_join (wr := []) (w1 := cb_WX qx ax cI cZ (fun _ _ => 0)) hP hD [0] [] rfl rfl (by decide) (by decide) hk1 hFc hP1 hD1
  have hK : va_K (dC, dI) vwCl (cb_T cI cZ) s := hK1
  have hP : va_P (dC, dI) vwCl (cb_WX qx ax cI cZ (fun _ _ => 0)) H1 := hP
  have hD : va_D (fun q : Nat => s.heap.size ≤ q) (cb_WX qx ax cI cZ (fun _ _ => 0)) := hD
  refine W.widen (k := 12) (n := 149) (Nat.le_of_ble_eq_true rfl) (Nat.le_of_ble_eq_true rfl) ?_
  refine cb_astore_n C hl dL_law_7 (by decide) (fun ls (hl : cb_L ls 4 [_, _, _, _]) => ?_)
  refine va_new (ci := 1) (fs := cb_fM0) (C := RX1) (T := TX1) (N := 6) hx hb hts in_X1 tyX1 tyX1_ok hown (hts _ q166) (hts _ q167) (hts _ q19) hK hP hD hS hA rfl (fun j hj => by rcases (show j = 0 ∨ j = 1 ∨ j = 2 ∨ j = 3 ∨ j = 4 ∨ j = 5 by omega) with rfl | rfl | rfl | rfl | rfl | rfl <;> rfl) (Nat.le_of_ble_eq_true rfl) (Nat.le_of_ble_eq_true rfl) dL_law_8 (fun qm H hP hD hS => ?_)
  refine W.widen (k := 13) (n := 155) (Nat.le_of_ble_eq_true rfl) (Nat.le_of_ble_eq_true rfl) ?_
  refine cb_dup C dL_law_11 rfl ?_
  have hPc := hP.sub (ws' := [(qm, .inr (1, cb_fM0))]) [12] rfl
  have hDc := hD.sub (ws' := [(qm, .inr (1, cb_fM0))]) [12] (by decide) rfl
  have hKc0 := hK.sub (tys' := []) [] rfl
  have hFc := va_free (wc := [(qm, .inr (1, cb_fM0))]) hD hS hA [12] rfl
  refine va_callv (va_runI (As := []) (rest := [.ref qm]) C (met_initM l (dC, dI) qm H.size) (cwI 0 hts (lw_meth q170) rfl rfl rfl (hts _ q19) (hts _ q168) (hts _ q169) rfl (by decide +kernel) ⟨Nat.le_of_ble_eq_true rfl, Nat.le_of_ble_eq_true rfl⟩) ⟨fun a U g mk q => by obtain ⟨q0, q1, qP, qK, qD⟩ := q; exact ⟨q0, q1, qP, va_K.moved (u := U) (U := U.calling g mk a) (Vm.Alike.refl U.vm) qK, qD⟩, fun U hU hW => ⟨rfl, by rw [hU], by rw [hU]; exact hPc, va_K.moved hW.alike hKc0, hDc.weaken (fun _ _ _ _ => trivial)⟩⟩ rfl rfl hl.1 rfl (lv_room (Nat.le_of_ble_eq_true rfl)) dL_law_12 ⟨Nat.le_of_ble_eq_true rfl, Nat.le_of_ble_eq_true rfl⟩) hS (fun q _ h => hFc q h) hFc (fun u t H2 locs ht hvm hw1 hB hz1 hk1 hS => ?_)
  obtain ⟨am, cI2, cZ2⟩ := u
  obtain ⟨hP1, hK1, hD1⟩ := hB
  rw [ht] at hP1
  have hK1 := va_K.moved hvm.symm hK1
  have hK2 := hK.app hK1
  obtain rfl : cI = cI2 := cb_cid hK2 (i := 0) (j := 2) (Or.inl rfl) rfl rfl
  obtain rfl : cZ = cZ2 := cb_cid hK2 (i := 1) (j := 3) (Or.inr rfl) rfl rfl
  obtain ⟨hP, hD⟩ := va_join (wr := cb_WX qx ax cI cZ (fun _ _ => 0)) (w1 := cb_WM qm am cI cZ (rf_S (fun _ _ => 0))) hP hD [12] [0, 1, 2, 3, 4, 5, 6, 7, 8, 9, 10, 11] rfl rfl (by decide) (by decide) hk1 hFc hP1 hD1
  refine W.widen (k := 18) (n := 8383) (Nat.le_of_ble_eq_true rfl) (Nat.le_of_ble_eq_true rfl) ?_
  refine cb_astore_n C hl dL_law_15 (by decide) (fun ls (hl : cb_L ls 4 [_, _, _, _]) => ?_)
  refine cb_iconst C 0 dL_law_16 rfl ?_
  refine cb_istore_n C hl dL_law_17 (by decide) (fun ls (hl : cb_L ls 4 [_, _, _, _]) => ?_)
  exact law_loop (ks := fun j => (xs j).toBitVec.toNat) C hr hlocks hX hbl (fun j => (cb_nI_bv (xs j)).symm) (fun j => (xs j).toBitVec.isLt) hL (L + 1) 0 (Nat.zero_le _) (by omega) _ _ eq_init H2 locs ls ⟨hK, hP, hD, hS⟩ hl
set_option maxHeartbeats 4000000 in
theorem lw_walk (l : Launch) (b : Addr) (xs : List Int32) : MetFree l x (headSpec (Jvm.Cond.code x code maxLocals ret :: tables_1) room_1) (lw_P b xs) (fun _ _ _ _ _ => True) lw_Q := by
  refine MetFree.of_bodyS (code := code) (maxLocals := maxLocals) (ret := ret) (by decide) ?_ ?_
  · intro args s m h hn
    obtain ⟨meth, c, h1, h2, h3, h4, h5, h6, -, -⟩ := Cond.code_spec hn (atoms_spec (ws := Jvm.Cond.code x code maxLocals ret :: tables_1) h _ List.mem_cons_self)
    exact ⟨meth, c, h1, h2, h3, h4, h5, h6⟩
  · intro p e s m args below meth c s₁ B hml0 hP _
    obtain ⟨rfl, hx, hbd, hgv⟩ := hP
    obtain ⟨scr, harrAt, hlist, hof, hsmall⟩ := hx
    obtain ⟨hcb, hkn, -, -⟩ := State.arrayAt?_spec harrAt
    have hown : s.vm.findClass R_law = some m.cls := findClass_of_methodNamed B.named
    have hts0 : ∀ c ∈ (Jvm.Cond.code x code maxLocals ret :: tables_1), c.before #[Value.ref b] s = true := atoms_spec (ws := Jvm.Cond.code x code maxLocals ret :: tables_1) B.pre
    have hts : ∀ w ∈ lw_tbl, w.before #[Value.ref b] s = true := k2_hts_sels lw_privs (fun w hw => hts0 w (List.mem_cons_of_mem _ hw)) lw_privs_ok
    have hml : c.maxLocals = 4 := B.maxLocals_eq (hts0 _ List.mem_cons_self)
    have X₀ : Stand p l e room_1 s m #[Value.ref b] below meth c s₁ [] 0 0 := Stand.of_body B
    have hh0 : s₁.heap = s.heap := by rw [B.state]; rfl
    have hsz : scr.slots.size = xs.length := by rw [← Array.length_toList, hlist, List.length_map]
    have hval : ∀ j : Nat, j < xs.length → scr.slots[j]? = some (.int (xs.getD j 0)) := fun j hj => by
      rw [← Array.getElem?_toList, hlist]
      simp [hj]
    have hbl : b < s.heap.size := (Array.getElem?_eq_some_iff.mp hcb).1
    have hX : va_X b xs.length (fun j => xs.getD j 0) s s.heap := ⟨scr, hcb, hof, hkn, hsz, hval⟩
    have K : W p l e room_1 s m #[Value.ref b] below meth c s₁.heap [] 0 0 (lw_Z below #[Value.ref b] s) (entryFrame m ([Value.ref b] : List Value).toArray 4) := by
      rw [hh0]
      exact whole_start l hbd ⟨B.exec, B.bytes, B.returns, hml, hown, hts, hX, hbl, B.notSynchronized, hgv⟩
    obtain ⟨t, a1, o, b1, b2, b3⟩ := K s₁ rfl X₀
    exact ⟨t, o, a1, b1, b2, b3⟩
theorem lw_pre_spec {args : Array Value} {s : State} (h : (Jvm.Cond.and given_1 narrow_1).before args s = true) (hr : rest_1_c.before args s = true) : ∃ (b : Addr) (xs : List Int32), lw_P b xs args s := by
  have hs := flat_of_before _ h
  have hq := flat_of_before _ hr
  have hc : (Cond.count 1).before args s = true := hs _ (by decide +kernel)
  have harr : (Cond.arrayOf (.arg 0) .int).before args s = true := hs _ (by decide +kernel)
  have hle : (Cond.le (.length (.arg 0)) (.int 256)).before args s = true := hs _ (by decide +kernel)
  have hlen : (Cond.isInt (.length (.arg 0))).before args s = true := hq _ (by decide +kernel)
  have hall : (Cond.all (.arg 0) (.isInt (.elem (.arg 0) (.index 0)))).before args s = true := hq _ (by decide +kernel)
  obtain ⟨b, xs, hb, hx⟩ := State.ints_of_pre rfl harr hlen hall
  have hsm : xs.length < 2 ^ 31 := hx.choose_spec.2.2.2
  have hev : (Term.length (.arg 0)).eval args s none [] s = some (.int xs.length.toInt32) := hx.length_eval hb
  have hv := Cond.le_ints hev (show (Term.int 256).eval args s none [] s = some (.int 256) from rfl)
  have hd : xs.length.toInt32 ≤ 256 := by
    simpa [Cond.before, Cond.holds, hv] using hle
  have hN : xs.length ≤ 256 := (Int32.ofNat_le_ofNat hsm (by decide)).mp (show Int32.ofNat xs.length ≤ Int32.ofNat 256 from hd)
  exact ⟨b, xs, Cond.one_arg hc (show args[0]? = some (.ref b) from hb), hx, hN, h⟩
theorem lw_comes (l : Launch) : Comes l x (Jvm.Cond.code x code maxLocals ret :: tables_1) room_1 (fun tb e args s => Calls_1 tb e args s ∧ rest_1 tb e args s ∧ Pre_1 tb e args s)
    (fun _ _ args s o t => lw_Q args s o t) := by
  intro p e ha hc hk s m args below hf hfit hheap happ hpre
  obtain ⟨b, xs, hP⟩ := lw_pre_spec hpre.2.2 hpre.2.1
  obtain ⟨k, o, h1, h2, h3, hQ⟩ := lw_walk l b xs p e ha hc hk s m args below hf ((Spec.applies_iff_loose hf).mp happ).1 hP trivial
  exact ⟨k, o, h1, h2, h3, hQ⟩
theorem lw_frame {s t : State} {o : Outcome} {args : Array Value} (h : Framed s o t [] 600000 7290000) :
    Framed s o t (fieldLocs frame_1_writes args s ++ arrayLocs frame_1_arrays args s ++ staticLocs frame_1_statics s) 600000 7290000 := h
theorem lw_limb (L : Cond) (hL : ∀ (args : Array Value) (s t : State), L.after args s (.returned (some (.int 1))) t = true) :
    ArmFor flags0 classFile x code maxLocals ret World_1 tables_1 room_1 Calls_1 rest_1 Pre_1
      (fun tb e a s o t => postC L tb e a s o t ∧ Framed s o t (fieldLocs frame_1_writes a s ++ arrayLocs frame_1_arrays a s ++ staticLocs frame_1_statics s) 600000 7290000) := by
  intro l _ _ _ p e ha hc hk s m args below hf hfit hheap happ hpre
  obtain ⟨k, o, h1, h2, h3, rfl, hF⟩ := lw_comes l p e ha hc hk s m args below hf hfit hheap happ hpre
  exact ⟨k, _, h1, h2, h3, hL args s _, lw_frame hF⟩
theorem i_vc : Claimed_1_1 ∧ Claimed_1_2 := ⟨lw_limb limb_1_1 (fun args s t => by simp [limb_1_1, Cond.after, Cond.holds, Cond.value]), lw_limb limb_1_2 (fun args s t => Cond.after_iff.mpr (by
  first | (rw [show limb_1_2 = Cond.eq .result (.int 1) from rfl, Cond.eq_ints (x := 1) (y := 1) rfl rfl]; simp; done) | (simp [limb_1_2, Cond.value, Term.eval]; done)))⟩
end
