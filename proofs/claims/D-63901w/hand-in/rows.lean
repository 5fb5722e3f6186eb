section
-- ===== PART A: goes FIRST, ahead of the names: the tables' words, and 'selects' of the private methods out of them =====
/-- a private method of a class that the tables say can be made, by its rows of tables_1 -/
def lw_okq (q : MethodName × Nat) : Prop := (q.1.cls ≠ "java/lang/invoke/MethodHandle" ∧ q.1.cls ≠ "java/lang/invoke/VarHandle") ∧ Cond.instantiable q.1.cls q.2 ∈ tables_1 ∧ Cond.privateMethod q.1 ∈ tables_1 ∧ Cond.instanceMethod q.1 ∈ tables_1
set_option maxRecDepth 100000
theorem lw_t1 {w : Cond} (h : w ∈ tables_1_1) : w ∈ tables_1 := List.mem_append_left _ h
theorem lw_t2 {w : Cond} (h : w ∈ tables_1_2) : w ∈ tables_1 := List.mem_append_right _ h
theorem lw_p0 : lw_okq (⟨"PersistentMap", "isVersion", "(I)Z"⟩, 12) := ⟨⟨by decide +kernel, by decide +kernel⟩, lw_t1 (List.mem_of_getElem? (i := 4) rfl), lw_t1 (List.mem_of_getElem? (i := 57) rfl), lw_t1 (List.mem_of_getElem? (i := 58) rfl)⟩
theorem lw_p1 : lw_okq (⟨"PersistentMap", "open", "(I)I"⟩, 12) := ⟨⟨by decide +kernel, by decide +kernel⟩, lw_t1 (List.mem_of_getElem? (i := 4) rfl), lw_t1 (List.mem_of_getElem? (i := 64) rfl), lw_t1 (List.mem_of_getElem? (i := 65) rfl)⟩
theorem lw_p2 : lw_okq (⟨"PersistentMap", "spreadLabels", "()V"⟩, 12) := ⟨⟨by decide +kernel, by decide +kernel⟩, lw_t1 (List.mem_of_getElem? (i := 4) rfl), lw_t1 (List.mem_of_getElem? (i := 70) rfl), lw_t1 (List.mem_of_getElem? (i := 71) rfl)⟩
theorem lw_p3 : lw_okq (⟨"PersistentMap", "write", "(IIZI)V"⟩, 12) := ⟨⟨by decide +kernel, by decide +kernel⟩, lw_t1 (List.mem_of_getElem? (i := 4) rfl), lw_t1 (List.mem_of_getElem? (i := 75) rfl), lw_t1 (List.mem_of_getElem? (i := 76) rfl)⟩
theorem lw_p4 : lw_okq (⟨"PersistentMap", "advance", "(III)I"⟩, 12) := ⟨⟨by decide +kernel, by decide +kernel⟩, lw_t1 (List.mem_of_getElem? (i := 4) rfl), lw_t1 (List.mem_of_getElem? (i := 79) rfl), lw_t1 (List.mem_of_getElem? (i := 80) rfl)⟩
theorem lw_p5 : lw_okq (⟨"PersistentMap", "insert", "(IIIZI)I"⟩, 12) := ⟨⟨by decide +kernel, by decide +kernel⟩, lw_t1 (List.mem_of_getElem? (i := 4) rfl), lw_t1 (List.mem_of_getElem? (i := 83) rfl), lw_t1 (List.mem_of_getElem? (i := 84) rfl)⟩
theorem lw_p6 : lw_okq (⟨"PersistentMap", "look", "(II)V"⟩, 12) := ⟨⟨by decide +kernel, by decide +kernel⟩, lw_t1 (List.mem_of_getElem? (i := 4) rfl), lw_t1 (List.mem_of_getElem? (i := 102) rfl), lw_t1 (List.mem_of_getElem? (i := 103) rfl)⟩
theorem lw_p7 : lw_okq (⟨"PersistentMap", "isAncestor", "(II)Z"⟩, 12) := ⟨⟨by decide +kernel, by decide +kernel⟩, lw_t1 (List.mem_of_getElem? (i := 4) rfl), lw_t1 (List.mem_of_getElem? (i := 122) rfl), lw_t1 (List.mem_of_getElem? (i := 123) rfl)⟩
theorem lw_p8 : lw_okq (⟨"PersistentMap", "differ", "(III)Z"⟩, 12) := ⟨⟨by decide +kernel, by decide +kernel⟩, lw_t1 (List.mem_of_getElem? (i := 4) rfl), lw_t1 (List.mem_of_getElem? (i := 166) rfl), lw_t1 (List.mem_of_getElem? (i := 167) rfl)⟩
theorem lw_p9 : lw_okq (⟨"PersistentMapModel", "bad", "(I)Z"⟩, 4) := ⟨⟨by decide +kernel, by decide +kernel⟩, lw_t1 (List.mem_of_getElem? (i := 178) rfl), lw_t1 (List.mem_of_getElem? (i := 201) rfl), lw_t1 (List.mem_of_getElem? (i := 202) rfl)⟩
theorem lw_p10 : lw_okq (⟨"PersistentMapModel", "badKey", "(I)Z"⟩, 4) := ⟨⟨by decide +kernel, by decide +kernel⟩, lw_t1 (List.mem_of_getElem? (i := 178) rfl), lw_t1 (List.mem_of_getElem? (i := 205) rfl), lw_t1 (List.mem_of_getElem? (i := 206) rfl)⟩
theorem lw_p11 : lw_okq (⟨"PersistentMapModel", "make", "(I)I"⟩, 4) := ⟨⟨by decide +kernel, by decide +kernel⟩, lw_t1 (List.mem_of_getElem? (i := 178) rfl), lw_t1 (List.mem_of_getElem? (i := 209) rfl), lw_t1 (List.mem_of_getElem? (i := 210) rfl)⟩
theorem lw_p12 : lw_okq (⟨"PersistentMapModel", "give", "(III)V"⟩, 4) := ⟨⟨by decide +kernel, by decide +kernel⟩, lw_t1 (List.mem_of_getElem? (i := 178) rfl), lw_t1 (List.mem_of_getElem? (i := 213) rfl), lw_t1 (List.mem_of_getElem? (i := 214) rfl)⟩
theorem lw_p13 : lw_okq (⟨"PersistentMapModel", "badPlan", "(I)Z"⟩, 4) := ⟨⟨by decide +kernel, by decide +kernel⟩, lw_t1 (List.mem_of_getElem? (i := 178) rfl), lw_t1 (List.mem_of_getElem? (i := 225) rfl), lw_t1 (List.mem_of_getElem? (i := 226) rfl)⟩
theorem lw_p14 : lw_okq (⟨"PersistentMapModel", "copy", "(IIII)V"⟩, 4) := ⟨⟨by decide +kernel, by decide +kernel⟩, lw_t1 (List.mem_of_getElem? (i := 178) rfl), lw_t1 (List.mem_of_getElem? (i := 233) rfl), lw_t1 (List.mem_of_getElem? (i := 234) rfl)⟩
theorem lw_p15 : lw_okq (⟨"PersistentMapModel", "leads", "(II)Z"⟩, 4) := ⟨⟨by decide +kernel, by decide +kernel⟩, lw_t1 (List.mem_of_getElem? (i := 178) rfl), lw_t2 (List.mem_of_getElem? (i := 13) rfl), lw_t2 (List.mem_of_getElem? (i := 14) rfl)⟩
def lw_privs_1 : List (MethodName × Nat) := [(⟨"PersistentMap", "isVersion", "(I)Z"⟩, 12), (⟨"PersistentMap", "open", "(I)I"⟩, 12), (⟨"PersistentMap", "spreadLabels", "()V"⟩, 12), (⟨"PersistentMap", "write", "(IIZI)V"⟩, 12), (⟨"PersistentMap", "advance", "(III)I"⟩, 12), (⟨"PersistentMap", "insert", "(IIIZI)I"⟩, 12), (⟨"PersistentMap", "look", "(II)V"⟩, 12), (⟨"PersistentMap", "isAncestor", "(II)Z"⟩, 12), (⟨"PersistentMap", "differ", "(III)Z"⟩, 12), (⟨"PersistentMapModel", "bad", "(I)Z"⟩, 4), (⟨"PersistentMapModel", "badKey", "(I)Z"⟩, 4), (⟨"PersistentMapModel", "make", "(I)I"⟩, 4), (⟨"PersistentMapModel", "give", "(III)V"⟩, 4), (⟨"PersistentMapModel", "badPlan", "(I)Z"⟩, 4), (⟨"PersistentMapModel", "copy", "(IIII)V"⟩, 4), (⟨"PersistentMapModel", "leads", "(II)Z"⟩, 4)]
theorem lw_r1 : ∀ q ∈ lw_privs_1, lw_okq q := List.forall_mem_cons.mpr ⟨lw_p0, List.forall_mem_cons.mpr ⟨lw_p1, List.forall_mem_cons.mpr ⟨lw_p2, List.forall_mem_cons.mpr ⟨lw_p3, List.forall_mem_cons.mpr ⟨lw_p4, List.forall_mem_cons.mpr ⟨lw_p5, List.forall_mem_cons.mpr ⟨lw_p6, List.forall_mem_cons.mpr ⟨lw_p7, List.forall_mem_cons.mpr ⟨lw_p8, List.forall_mem_cons.mpr ⟨lw_p9, List.forall_mem_cons.mpr ⟨lw_p10, List.forall_mem_cons.mpr ⟨lw_p11, List.forall_mem_cons.mpr ⟨lw_p12, List.forall_mem_cons.mpr ⟨lw_p13, List.forall_mem_cons.mpr ⟨lw_p14, List.forall_mem_cons.mpr ⟨lw_p15, fun _ h => absurd h List.not_mem_nil⟩⟩⟩⟩⟩⟩⟩⟩⟩⟩⟩⟩⟩⟩⟩⟩
theorem lw_p16 : lw_okq (⟨"PersistentMapModel", "agree", "(III)Z"⟩, 4) := ⟨⟨by decide +kernel, by decide +kernel⟩, lw_t1 (List.mem_of_getElem? (i := 178) rfl), lw_t2 (List.mem_of_getElem? (i := 57) rfl), lw_t2 (List.mem_of_getElem? (i := 58) rfl)⟩
def lw_privs_2 : List (MethodName × Nat) := [(⟨"PersistentMapModel", "agree", "(III)Z"⟩, 4)]
theorem lw_r2 : ∀ q ∈ lw_privs_2, lw_okq q := List.forall_mem_cons.mpr ⟨lw_p16, fun _ h => absurd h List.not_mem_nil⟩
def lw_privs : List (MethodName × Nat) := lw_privs_1 ++ (lw_privs_2)
def lw_tbl : List Cond := k2_sels lw_privs ++ tables_1
theorem lw_privs_ok : ∀ q ∈ lw_privs, lw_okq q := by
  show ∀ q ∈ lw_privs_1 ++ (lw_privs_2), lw_okq q
  exact List.forall_mem_append.mpr ⟨lw_r1, lw_r2⟩
-- ===== ONE list of words for every method: the tables' words that hold all through a run =====
def lw_all : List Cond := lw_tbl.filter goodWord
/-- a word of the tables by its place: claim/WORDS.tsv -/
theorem lw_w {w : Cond} (i : Nat) (h : lw_tbl[i]? = some w) (g : goodWord w = true) : w ∈ lw_all := List.mem_filter.mpr ⟨List.mem_of_getElem? h, g⟩
theorem lw_all_tbl {w : Cond} (h : w ∈ lw_all) : w ∈ lw_tbl := (List.mem_filter.mp h).1
theorem lw_self : GoodIn lw_all lw_all := fun w h => ⟨h, good_of_word (List.mem_filter.mp h).2⟩
/-- a class's field words, by their places -/
theorem lw_in (ws : List Cond) (ps : List Nat) (hp : ws = ps.filterMap (fun i => lw_tbl[i]?)) (hg : ws.all goodWord = true) : ∀ w ∈ ws, w ∈ lw_all := by
  intro w h
  have h1 := List.all_eq_true.mp hg w h
  rw [hp] at h
  obtain ⟨i, -, hi⟩ := List.mem_filterMap.mp h
  exact lw_w i hi h1
/-- the words of a contract for the method y with code b, L locals, answer r -/
abbrev ws_ (y : MethodName) (b : ByteArray) (L : Nat) (r : Option FieldType) : List Cond := Cond.code y b L r :: lw_all
theorem lw_meth {y : MethodName} {b : ByteArray} {L : Nat} {r : Option FieldType} (h : Cond.code y b L r ∈ lw_all) : GoodIn lw_all (ws_ y b L r) := by
  intro w hw
  rcases List.mem_cons.mp hw with e | e
  · rw [e]
    exact lw_self _ h
  · exact lw_self _ e
theorem lw_app {a c : List Cond} (ha : ∀ w ∈ a, w ∈ lw_all) (hc : GoodIn lw_all c) : GoodIn lw_all (a ++ c) := by
  intro w hw
  rcases List.mem_append.mp hw with e | e
  · exact lw_self w (ha w e)
  · exact hc w e
/-- what a call through an object asks: cwV n hts (lw_V ..) -/
theorem lw_V {own : String} {idx : Nat} {C : String} {y : MethodName} {b : ByteArray} {L : Nat} {r : Option FieldType} (h1 : Cond.methodLink own idx y ∈ lw_all) (h2 : Cond.instanceMethod y ∈ lw_all) (h3 : Cond.selects C y y ∈ lw_all) (h4 : Cond.initialized C ∈ lw_all) (h5 : Cond.code y b L r ∈ lw_all) : GoodIn lw_all (wsV own idx C y (ws_ y b L r)) := by
  refine lw_app ?_ (lw_meth h5)
  intro w hw
  simp only [List.mem_cons, List.not_mem_nil, or_false] at hw
  rcases hw with e | e | e | e
  · rw [e]; exact h1
  · rw [e]; exact h2
  · rw [e]; exact h3
  · rw [e]; exact h4
/-- what a static call asks: va_cwS n hts (lw_S ..) -/
theorem lw_S {own : String} {idx : Nat} {y : MethodName} {b : ByteArray} {L : Nat} {r : Option FieldType} (h1 : Cond.methodLink own idx y ∈ lw_all) (h2 : Cond.static y ∈ lw_all) (h3 : Cond.initialized y.cls ∈ lw_all) (h4 : Cond.code y b L r ∈ lw_all) : GoodIn lw_all (va_wsS own idx y (ws_ y b L r)) := by
  refine lw_app ?_ (lw_meth h4)
  intro w hw
  simp only [List.mem_cons, List.not_mem_nil, or_false] at hw
  rcases hw with e | e | e
  · rw [e]; exact h1
  · rw [e]; exact h2
  · rw [e]; exact h3
/-- the words of a contract for a method WITH HANDLERS (hh: its table) -/
abbrev wsW_ (y : MethodName) (b : ByteArray) (L : Nat) (r : Option FieldType) (hh : List (Nat × Nat × Nat × Nat)) : List Cond := Cond.codeWith y b L r hh :: lw_all
theorem lw_methW {y : MethodName} {b : ByteArray} {L : Nat} {r : Option FieldType} {hh : List (Nat × Nat × Nat × Nat)} (h : Cond.codeWith y b L r hh ∈ lw_all) : GoodIn lw_all (wsW_ y b L r hh) := by
  intro w hw
  rcases List.mem_cons.mp hw with e | e
  · rw [e]
    exact lw_self _ h
  · exact lw_self _ e
/-- any list of words by their places (lw_in), good -/
theorem lw_good {ws : List Cond} (h : ∀ w ∈ ws, w ∈ lw_all) : GoodIn lw_all ws := fun w hw => lw_self w (h w hw)
/-- what a call of a method with handlers asks: vx_cwVW n hts (lw_VW ..), vx_cwSW n hts (lw_SW ..) -/
theorem lw_VW {own : String} {idx : Nat} {C : String} {y : MethodName} {b : ByteArray} {L : Nat} {r : Option FieldType} {hh : List (Nat × Nat × Nat × Nat)} (h1 : Cond.methodLink own idx y ∈ lw_all) (h2 : Cond.instanceMethod y ∈ lw_all) (h3 : Cond.selects C y y ∈ lw_all) (h4 : Cond.initialized C ∈ lw_all) (h5 : Cond.codeWith y b L r hh ∈ lw_all) : GoodIn lw_all (wsV own idx C y (wsW_ y b L r hh)) := by
  refine lw_app ?_ (lw_methW h5)
  intro w hw
  simp only [List.mem_cons, List.not_mem_nil, or_false] at hw
  rcases hw with e | e | e | e
  · rw [e]; exact h1
  · rw [e]; exact h2
  · rw [e]; exact h3
  · rw [e]; exact h4
theorem lw_SW {own : String} {idx : Nat} {y : MethodName} {b : ByteArray} {L : Nat} {r : Option FieldType} {hh : List (Nat × Nat × Nat × Nat)} (h1 : Cond.methodLink own idx y ∈ lw_all) (h2 : Cond.static y ∈ lw_all) (h3 : Cond.initialized y.cls ∈ lw_all) (h4 : Cond.codeWith y b L r hh ∈ lw_all) : GoodIn lw_all (va_wsS own idx y (wsW_ y b L r hh)) := by
  refine lw_app ?_ (lw_methW h4)
  intro w hw
  simp only [List.mem_cons, List.not_mem_nil, or_false] at hw
  rcases hw with e | e | e
  · rw [e]; exact h1
  · rw [e]; exact h2
  · rw [e]; exact h3
/-- a word by its place in its run of the tables -/
theorem lw_at {r : List Cond} (hr : ∀ w ∈ r, w ∈ lw_tbl) {w : Cond} (i : Nat) (h : r[i]? = some w) : w ∈ lw_tbl := hr w (List.mem_of_getElem? h)
theorem lw_g {w : Cond} (h : w ∈ lw_tbl) (g : goodWord w = true) : w ∈ lw_all := List.mem_filter.mpr ⟨h, g⟩
theorem lw_ms : ∀ w ∈ k2_sels lw_privs, w ∈ lw_tbl := fun w h => show w ∈ k2_sels lw_privs ++ tables_1 from List.mem_append_left _ h
theorem lw_m1 : ∀ w ∈ tables_1_1, w ∈ lw_tbl := fun w h => show w ∈ k2_sels lw_privs ++ tables_1 from List.mem_append_right (k2_sels lw_privs) (show w ∈ tables_1 from List.mem_append_left _ h)
theorem lw_m2 : ∀ w ∈ tables_1_2, w ∈ lw_tbl := fun w h => show w ∈ k2_sels lw_privs ++ tables_1 from List.mem_append_right (k2_sels lw_privs) (show w ∈ tables_1 from List.mem_append_right _ h)
theorem qs0 : (Cond.selects "PersistentMap" ⟨"PersistentMap", "isVersion", "(I)Z"⟩ ⟨"PersistentMap", "isVersion", "(I)Z"⟩) ∈ lw_all := lw_g (lw_at lw_ms 0 rfl) rfl
theorem qs1 : (Cond.selects "PersistentMap" ⟨"PersistentMap", "open", "(I)I"⟩ ⟨"PersistentMap", "open", "(I)I"⟩) ∈ lw_all := lw_g (lw_at lw_ms 1 rfl) rfl
theorem qs2 : (Cond.selects "PersistentMap" ⟨"PersistentMap", "spreadLabels", "()V"⟩ ⟨"PersistentMap", "spreadLabels", "()V"⟩) ∈ lw_all := lw_g (lw_at lw_ms 2 rfl) rfl
theorem qs3 : (Cond.selects "PersistentMap" ⟨"PersistentMap", "write", "(IIZI)V"⟩ ⟨"PersistentMap", "write", "(IIZI)V"⟩) ∈ lw_all := lw_g (lw_at lw_ms 3 rfl) rfl
theorem qs4 : (Cond.selects "PersistentMap" ⟨"PersistentMap", "advance", "(III)I"⟩ ⟨"PersistentMap", "advance", "(III)I"⟩) ∈ lw_all := lw_g (lw_at lw_ms 4 rfl) rfl
theorem qs5 : (Cond.selects "PersistentMap" ⟨"PersistentMap", "insert", "(IIIZI)I"⟩ ⟨"PersistentMap", "insert", "(IIIZI)I"⟩) ∈ lw_all := lw_g (lw_at lw_ms 5 rfl) rfl
theorem qs6 : (Cond.selects "PersistentMap" ⟨"PersistentMap", "look", "(II)V"⟩ ⟨"PersistentMap", "look", "(II)V"⟩) ∈ lw_all := lw_g (lw_at lw_ms 6 rfl) rfl
theorem qs7 : (Cond.selects "PersistentMap" ⟨"PersistentMap", "isAncestor", "(II)Z"⟩ ⟨"PersistentMap", "isAncestor", "(II)Z"⟩) ∈ lw_all := lw_g (lw_at lw_ms 7 rfl) rfl
theorem qs8 : (Cond.selects "PersistentMap" ⟨"PersistentMap", "differ", "(III)Z"⟩ ⟨"PersistentMap", "differ", "(III)Z"⟩) ∈ lw_all := lw_g (lw_at lw_ms 8 rfl) rfl
theorem qs9 : (Cond.selects "PersistentMapModel" ⟨"PersistentMapModel", "bad", "(I)Z"⟩ ⟨"PersistentMapModel", "bad", "(I)Z"⟩) ∈ lw_all := lw_g (lw_at lw_ms 9 rfl) rfl
theorem qs10 : (Cond.selects "PersistentMapModel" ⟨"PersistentMapModel", "badKey", "(I)Z"⟩ ⟨"PersistentMapModel", "badKey", "(I)Z"⟩) ∈ lw_all := lw_g (lw_at lw_ms 10 rfl) rfl
theorem qs11 : (Cond.selects "PersistentMapModel" ⟨"PersistentMapModel", "make", "(I)I"⟩ ⟨"PersistentMapModel", "make", "(I)I"⟩) ∈ lw_all := lw_g (lw_at lw_ms 11 rfl) rfl
theorem qs12 : (Cond.selects "PersistentMapModel" ⟨"PersistentMapModel", "give", "(III)V"⟩ ⟨"PersistentMapModel", "give", "(III)V"⟩) ∈ lw_all := lw_g (lw_at lw_ms 12 rfl) rfl
theorem qs13 : (Cond.selects "PersistentMapModel" ⟨"PersistentMapModel", "badPlan", "(I)Z"⟩ ⟨"PersistentMapModel", "badPlan", "(I)Z"⟩) ∈ lw_all := lw_g (lw_at lw_ms 13 rfl) rfl
theorem qs14 : (Cond.selects "PersistentMapModel" ⟨"PersistentMapModel", "copy", "(IIII)V"⟩ ⟨"PersistentMapModel", "copy", "(IIII)V"⟩) ∈ lw_all := lw_g (lw_at lw_ms 14 rfl) rfl
theorem qs15 : (Cond.selects "PersistentMapModel" ⟨"PersistentMapModel", "leads", "(II)Z"⟩ ⟨"PersistentMapModel", "leads", "(II)Z"⟩) ∈ lw_all := lw_g (lw_at lw_ms 15 rfl) rfl
theorem qs16 : (Cond.selects "PersistentMapModel" ⟨"PersistentMapModel", "agree", "(III)Z"⟩ ⟨"PersistentMapModel", "agree", "(III)Z"⟩) ∈ lw_all := lw_g (lw_at lw_ms 16 rfl) rfl
end
section
set_option maxRecDepth 100000
/-! java/lang/Object -/
def RJ0 : String := "java/lang/Object"
abbrev cJ0_init : ByteArray := object_method_1_code
def yJ0_init : MethodName := ⟨RJ0, "<init>", "()V"⟩
theorem q26 : (Jvm.Cond.instanceMethod ({ cls := "java/lang/Object", name := "<init>", desc := "()V" } : Jvm.MethodName)) ∈ lw_all := lw_g (lw_at lw_m1 9 rfl) rfl
theorem q27 : (Jvm.Cond.code ({ cls := "java/lang/Object", name := "<init>", desc := "()V" } : Jvm.MethodName) object_method_1_code (1 : Nat) (Option.none : Option Jvm.ClassFile.FieldType)) ∈ lw_all := lw_g (lw_at lw_m1 10 rfl) rfl

theorem q66 : (Jvm.Cond.arrayClass Jvm.ClassFile.FieldType.int) ∈ lw_all := lw_g (lw_at lw_m1 49 rfl) rfl
theorem q67 : (Jvm.Cond.arrayClass Jvm.ClassFile.FieldType.long) ∈ lw_all := lw_g (lw_at lw_m1 50 rfl) rfl
theorem q68 : (Jvm.Cond.arrayClass Jvm.ClassFile.FieldType.boolean) ∈ lw_all := lw_g (lw_at lw_m1 51 rfl) rfl

/-! PersistentMap -/
def RX0 : String := "PersistentMap"
def TX0 : u_T := fun k => match k with
  | 0 => ("PersistentMap", "parents", "[I", true)
  | 1 => ("PersistentMap", "labels", "[J", true)
  | 2 => ("PersistentMap", "follower", "[I", true)
  | 3 => ("PersistentMap", "heads", "[I", true)
  | 4 => ("PersistentMap", "entryVersion", "[I", true)
  | 5 => ("PersistentMap", "entryValue", "[I", true)
  | 6 => ("PersistentMap", "entryThere", "[Z", true)
  | 7 => ("PersistentMap", "entryNext", "[I", true)
  | 8 => ("PersistentMap", "count", "I", false)
  | 9 => ("PersistentMap", "entries", "I", false)
  | 10 => ("PersistentMap", "thereNow", "Z", false)
  | _ => ("PersistentMap", "valueNow", "I", false)
def tyX0 : Nat → FieldType := fun k => match k with
  | 0 => .array .int
  | 1 => .array .long
  | 2 => .array .int
  | 3 => .array .int
  | 4 => .array .int
  | 5 => .array .int
  | 6 => .array .boolean
  | 7 => .array .int
  | 8 => .int
  | 9 => .int
  | 10 => .boolean
  | _ => .int
abbrev wsX00 : List Cond := u_ws RX0 TX0 12
theorem nmX0 : ∀ a, a < 12 → ∀ b, b < 12 → a ≠ b → (TX0 a).2.1 ≠ (TX0 b).2.1 := by decide +kernel
theorem tyX0_ok : ∀ k, k < 12 → parseFieldDescriptor (TX0 k).2.2.1 = some (tyX0 k) := by decide +kernel
abbrev cX0_init : ByteArray := prog_1_method_1_code
def yX0_init : MethodName := ⟨RX0, "<init>", "()V"⟩
abbrev cX0_put : ByteArray := prog_1_method_2_code
def yX0_put : MethodName := ⟨RX0, "put", "(III)I"⟩
abbrev cX0_isVersion : ByteArray := prog_1_method_22_code
def yX0_isVersion : MethodName := ⟨RX0, "isVersion", "(I)Z"⟩
abbrev cX0_isKey : ByteArray := prog_1_method_23_code
def yX0_isKey : MethodName := ⟨RX0, "isKey", "(I)Z"⟩
abbrev cX0_open : ByteArray := prog_1_method_25_code
def yX0_open : MethodName := ⟨RX0, "open", "(I)I"⟩
abbrev cX0_spreadLabels : ByteArray := prog_1_method_26_code
def yX0_spreadLabels : MethodName := ⟨RX0, "spreadLabels", "()V"⟩
abbrev cX0_write : ByteArray := prog_1_method_31_code
def yX0_write : MethodName := ⟨RX0, "write", "(IIZI)V"⟩
abbrev cX0_advance : ByteArray := prog_1_method_28_code
def yX0_advance : MethodName := ⟨RX0, "advance", "(III)I"⟩
abbrev cX0_insert : ByteArray := prog_1_method_32_code
def yX0_insert : MethodName := ⟨RX0, "insert", "(IIIZI)I"⟩
abbrev cX0_remove : ByteArray := prog_1_method_3_code
def yX0_remove : MethodName := ⟨RX0, "remove", "(II)I"⟩
abbrev cX0_fill : ByteArray := prog_1_method_4_code
def yX0_fill : MethodName := ⟨RX0, "fill", "(IIII)I"⟩
abbrev cX0_isPlan : ByteArray := prog_1_method_24_code
def yX0_isPlan : MethodName := ⟨RX0, "isPlan", "(I)Z"⟩
abbrev cX0_graft : ByteArray := prog_1_method_5_code
def yX0_graft : MethodName := ⟨RX0, "graft", "(III)I"⟩
abbrev cX0_look : ByteArray := prog_1_method_29_code
def yX0_look : MethodName := ⟨RX0, "look", "(II)V"⟩
abbrev cX0_exchange : ByteArray := prog_1_method_6_code
def yX0_exchange : MethodName := ⟨RX0, "exchange", "(III)I"⟩
abbrev cX0_versions : ByteArray := prog_1_method_7_code
def yX0_versions : MethodName := ⟨RX0, "versions", "()I"⟩
abbrev cX0_parent : ByteArray := prog_1_method_8_code
def yX0_parent : MethodName := ⟨RX0, "parent", "(I)I"⟩
abbrev cX0_ancestor : ByteArray := prog_1_method_9_code
def yX0_ancestor : MethodName := ⟨RX0, "ancestor", "(II)I"⟩
abbrev cX0_isAncestor : ByteArray := prog_1_method_27_code
def yX0_isAncestor : MethodName := ⟨RX0, "isAncestor", "(II)Z"⟩
abbrev cX0_meet : ByteArray := prog_1_method_10_code
def yX0_meet : MethodName := ⟨RX0, "meet", "(II)I"⟩
abbrev cX0_family : ByteArray := prog_1_method_11_code
def yX0_family : MethodName := ⟨RX0, "family", "(I)I"⟩
abbrev cX0_has : ByteArray := prog_1_method_12_code
def yX0_has : MethodName := ⟨RX0, "has", "(II)I"⟩
abbrev cX0_get : ByteArray := prog_1_method_13_code
def yX0_get : MethodName := ⟨RX0, "get", "(II)I"⟩
abbrev cX0_size : ByteArray := prog_1_method_14_code
def yX0_size : MethodName := ⟨RX0, "size", "(I)I"⟩
abbrev cX0_next : ByteArray := prog_1_method_15_code
def yX0_next : MethodName := ⟨RX0, "next", "(II)I"⟩
abbrev cX0_previous : ByteArray := prog_1_method_16_code
def yX0_previous : MethodName := ⟨RX0, "previous", "(II)I"⟩
abbrev cX0_select : ByteArray := prog_1_method_17_code
def yX0_select : MethodName := ⟨RX0, "select", "(II)I"⟩
abbrev cX0_sum : ByteArray := prog_1_method_18_code
def yX0_sum : MethodName := ⟨RX0, "sum", "(III)I"⟩
abbrev cX0_differing : ByteArray := prog_1_method_19_code
def yX0_differing : MethodName := ⟨RX0, "differing", "(II)I"⟩
abbrev cX0_differ : ByteArray := prog_1_method_30_code
def yX0_differ : MethodName := ⟨RX0, "differ", "(III)Z"⟩
abbrev cX0_spread : ByteArray := prog_1_method_20_code
def yX0_spread : MethodName := ⟨RX0, "spread", "(I)I"⟩
abbrev cX0_changes : ByteArray := prog_1_method_21_code
def yX0_changes : MethodName := ⟨RX0, "changes", "(I)I"⟩
theorem q18 : (Jvm.Cond.initialized "PersistentMap") ∈ lw_all := lw_g (lw_at lw_m1 1 rfl) rfl
theorem q21 : (Jvm.Cond.instantiable "PersistentMap" (12 : Nat)) ∈ lw_all := lw_g (lw_at lw_m1 4 rfl) rfl
theorem q23 : (Jvm.Cond.instanceMethod ({ cls := "PersistentMap", name := "<init>", desc := "()V" } : Jvm.MethodName)) ∈ lw_all := lw_g (lw_at lw_m1 6 rfl) rfl
theorem q24 : (Jvm.Cond.code ({ cls := "PersistentMap", name := "<init>", desc := "()V" } : Jvm.MethodName) prog_1_method_1_code (2 : Nat) (Option.none : Option Jvm.ClassFile.FieldType)) ∈ lw_all := lw_g (lw_at lw_m1 7 rfl) rfl
theorem q25 : (Jvm.Cond.methodLink "PersistentMap" (1 : Nat) ({ cls := "java/lang/Object", name := "<init>", desc := "()V" } : Jvm.MethodName)) ∈ lw_all := lw_g (lw_at lw_m1 8 rfl) rfl
theorem q28 : (Jvm.Cond.constantLong "PersistentMap" (36 : Nat) (1152921504606846976 : Int64)) ∈ lw_all := lw_g (lw_at lw_m1 11 rfl) rfl
theorem q29 : (Jvm.Cond.fieldLink "PersistentMap" (7 : Nat) "PersistentMap" "parents" "[I") ∈ lw_all := lw_g (lw_at lw_m1 12 rfl) rfl
theorem q30 : (Jvm.Cond.fieldLink "PersistentMap" (13 : Nat) "PersistentMap" "labels" "[J") ∈ lw_all := lw_g (lw_at lw_m1 13 rfl) rfl
theorem q31 : (Jvm.Cond.fieldLink "PersistentMap" (17 : Nat) "PersistentMap" "follower" "[I") ∈ lw_all := lw_g (lw_at lw_m1 14 rfl) rfl
theorem q32 : (Jvm.Cond.fieldLink "PersistentMap" (20 : Nat) "PersistentMap" "heads" "[I") ∈ lw_all := lw_g (lw_at lw_m1 15 rfl) rfl
theorem q33 : (Jvm.Cond.fieldLink "PersistentMap" (23 : Nat) "PersistentMap" "entryVersion" "[I") ∈ lw_all := lw_g (lw_at lw_m1 16 rfl) rfl
theorem q34 : (Jvm.Cond.fieldLink "PersistentMap" (26 : Nat) "PersistentMap" "entryValue" "[I") ∈ lw_all := lw_g (lw_at lw_m1 17 rfl) rfl
theorem q35 : (Jvm.Cond.fieldLink "PersistentMap" (29 : Nat) "PersistentMap" "entryThere" "[Z") ∈ lw_all := lw_g (lw_at lw_m1 18 rfl) rfl
theorem q36 : (Jvm.Cond.fieldLink "PersistentMap" (33 : Nat) "PersistentMap" "entryNext" "[I") ∈ lw_all := lw_g (lw_at lw_m1 19 rfl) rfl
theorem q37 : (Jvm.Cond.fieldLink "PersistentMap" (38 : Nat) "PersistentMap" "count" "I") ∈ lw_all := lw_g (lw_at lw_m1 20 rfl) rfl
theorem q38 : (Jvm.Cond.fieldLink "PersistentMap" (96 : Nat) "PersistentMap" "entries" "I") ∈ lw_all := lw_g (lw_at lw_m1 21 rfl) rfl
theorem q39 : (Jvm.Cond.fieldLink "PersistentMap" (64 : Nat) "PersistentMap" "thereNow" "Z") ∈ lw_all := lw_g (lw_at lw_m1 22 rfl) rfl
theorem q40 : (Jvm.Cond.fieldLink "PersistentMap" (68 : Nat) "PersistentMap" "valueNow" "I") ∈ lw_all := lw_g (lw_at lw_m1 23 rfl) rfl
theorem q41 : (Jvm.Cond.laysFinal "PersistentMap" "PersistentMap" "parents" "[I") ∈ lw_all := lw_g (lw_at lw_m1 24 rfl) rfl
theorem q42 : (Jvm.Cond.soleField "PersistentMap" "parents") ∈ lw_all := lw_g (lw_at lw_m1 25 rfl) rfl
theorem q43 : (Jvm.Cond.laysFinal "PersistentMap" "PersistentMap" "labels" "[J") ∈ lw_all := lw_g (lw_at lw_m1 26 rfl) rfl
theorem q44 : (Jvm.Cond.soleField "PersistentMap" "labels") ∈ lw_all := lw_g (lw_at lw_m1 27 rfl) rfl
theorem q45 : (Jvm.Cond.laysFinal "PersistentMap" "PersistentMap" "follower" "[I") ∈ lw_all := lw_g (lw_at lw_m1 28 rfl) rfl
theorem q46 : (Jvm.Cond.soleField "PersistentMap" "follower") ∈ lw_all := lw_g (lw_at lw_m1 29 rfl) rfl
theorem q47 : (Jvm.Cond.laysFinal "PersistentMap" "PersistentMap" "heads" "[I") ∈ lw_all := lw_g (lw_at lw_m1 30 rfl) rfl
theorem q48 : (Jvm.Cond.soleField "PersistentMap" "heads") ∈ lw_all := lw_g (lw_at lw_m1 31 rfl) rfl
theorem q49 : (Jvm.Cond.laysFinal "PersistentMap" "PersistentMap" "entryVersion" "[I") ∈ lw_all := lw_g (lw_at lw_m1 32 rfl) rfl
theorem q50 : (Jvm.Cond.soleField "PersistentMap" "entryVersion") ∈ lw_all := lw_g (lw_at lw_m1 33 rfl) rfl
theorem q51 : (Jvm.Cond.laysFinal "PersistentMap" "PersistentMap" "entryValue" "[I") ∈ lw_all := lw_g (lw_at lw_m1 34 rfl) rfl
theorem q52 : (Jvm.Cond.soleField "PersistentMap" "entryValue") ∈ lw_all := lw_g (lw_at lw_m1 35 rfl) rfl
theorem q53 : (Jvm.Cond.laysFinal "PersistentMap" "PersistentMap" "entryThere" "[Z") ∈ lw_all := lw_g (lw_at lw_m1 36 rfl) rfl
theorem q54 : (Jvm.Cond.soleField "PersistentMap" "entryThere") ∈ lw_all := lw_g (lw_at lw_m1 37 rfl) rfl
theorem q55 : (Jvm.Cond.laysFinal "PersistentMap" "PersistentMap" "entryNext" "[I") ∈ lw_all := lw_g (lw_at lw_m1 38 rfl) rfl
theorem q56 : (Jvm.Cond.soleField "PersistentMap" "entryNext") ∈ lw_all := lw_g (lw_at lw_m1 39 rfl) rfl
theorem q57 : (Jvm.Cond.lays "PersistentMap" "PersistentMap" "count" "I") ∈ lw_all := lw_g (lw_at lw_m1 40 rfl) rfl
theorem q58 : (Jvm.Cond.soleField "PersistentMap" "count") ∈ lw_all := lw_g (lw_at lw_m1 41 rfl) rfl
theorem q59 : (Jvm.Cond.lays "PersistentMap" "PersistentMap" "entries" "I") ∈ lw_all := lw_g (lw_at lw_m1 42 rfl) rfl
theorem q60 : (Jvm.Cond.soleField "PersistentMap" "entries") ∈ lw_all := lw_g (lw_at lw_m1 43 rfl) rfl
theorem q61 : (Jvm.Cond.lays "PersistentMap" "PersistentMap" "thereNow" "Z") ∈ lw_all := lw_g (lw_at lw_m1 44 rfl) rfl
theorem q62 : (Jvm.Cond.soleField "PersistentMap" "thereNow") ∈ lw_all := lw_g (lw_at lw_m1 45 rfl) rfl
theorem q63 : (Jvm.Cond.lays "PersistentMap" "PersistentMap" "valueNow" "I") ∈ lw_all := lw_g (lw_at lw_m1 46 rfl) rfl
theorem q64 : (Jvm.Cond.soleField "PersistentMap" "valueNow") ∈ lw_all := lw_g (lw_at lw_m1 47 rfl) rfl
theorem q65 : (Jvm.Cond.superclass "PersistentMap" "java/lang/Object") ∈ lw_all := lw_g (lw_at lw_m1 48 rfl) rfl
theorem q70 : (Jvm.Cond.instanceMethod ({ cls := "PersistentMap", name := "put", desc := "(III)I" } : Jvm.MethodName)) ∈ lw_all := lw_g (lw_at lw_m1 53 rfl) rfl
theorem q71 : (Jvm.Cond.selects "PersistentMap" ({ cls := "PersistentMap", name := "put", desc := "(III)I" } : Jvm.MethodName) ({ cls := "PersistentMap", name := "put", desc := "(III)I" } : Jvm.MethodName)) ∈ lw_all := lw_g (lw_at lw_m1 54 rfl) rfl
theorem q72 : (Jvm.Cond.code ({ cls := "PersistentMap", name := "put", desc := "(III)I" } : Jvm.MethodName) prog_1_method_2_code (5 : Nat) (Option.some Jvm.ClassFile.FieldType.int)) ∈ lw_all := lw_g (lw_at lw_m1 55 rfl) rfl
theorem q73 : (Jvm.Cond.methodLink "PersistentMap" (42 : Nat) ({ cls := "PersistentMap", name := "isVersion", desc := "(I)Z" } : Jvm.MethodName)) ∈ lw_all := lw_g (lw_at lw_m1 56 rfl) rfl
theorem q74 : (Jvm.Cond.privateMethod ({ cls := "PersistentMap", name := "isVersion", desc := "(I)Z" } : Jvm.MethodName)) ∈ lw_tbl := lw_at lw_m1 57 rfl
theorem q75 : (Jvm.Cond.instanceMethod ({ cls := "PersistentMap", name := "isVersion", desc := "(I)Z" } : Jvm.MethodName)) ∈ lw_all := lw_g (lw_at lw_m1 58 rfl) rfl
theorem q76 : (Jvm.Cond.code ({ cls := "PersistentMap", name := "isVersion", desc := "(I)Z" } : Jvm.MethodName) prog_1_method_22_code (2 : Nat) (Option.some Jvm.ClassFile.FieldType.boolean)) ∈ lw_all := lw_g (lw_at lw_m1 59 rfl) rfl
theorem q77 : (Jvm.Cond.methodLink "PersistentMap" (46 : Nat) ({ cls := "PersistentMap", name := "isKey", desc := "(I)Z" } : Jvm.MethodName)) ∈ lw_all := lw_g (lw_at lw_m1 60 rfl) rfl
theorem q78 : (Jvm.Cond.static ({ cls := "PersistentMap", name := "isKey", desc := "(I)Z" } : Jvm.MethodName)) ∈ lw_all := lw_g (lw_at lw_m1 61 rfl) rfl
theorem q79 : (Jvm.Cond.code ({ cls := "PersistentMap", name := "isKey", desc := "(I)Z" } : Jvm.MethodName) prog_1_method_23_code (1 : Nat) (Option.some Jvm.ClassFile.FieldType.boolean)) ∈ lw_all := lw_g (lw_at lw_m1 62 rfl) rfl
theorem q80 : (Jvm.Cond.methodLink "PersistentMap" (49 : Nat) ({ cls := "PersistentMap", name := "open", desc := "(I)I" } : Jvm.MethodName)) ∈ lw_all := lw_g (lw_at lw_m1 63 rfl) rfl
theorem q81 : (Jvm.Cond.privateMethod ({ cls := "PersistentMap", name := "open", desc := "(I)I" } : Jvm.MethodName)) ∈ lw_tbl := lw_at lw_m1 64 rfl
theorem q82 : (Jvm.Cond.instanceMethod ({ cls := "PersistentMap", name := "open", desc := "(I)I" } : Jvm.MethodName)) ∈ lw_all := lw_g (lw_at lw_m1 65 rfl) rfl
theorem q83 : (Jvm.Cond.code ({ cls := "PersistentMap", name := "open", desc := "(I)I" } : Jvm.MethodName) prog_1_method_25_code (7 : Nat) (Option.some Jvm.ClassFile.FieldType.int)) ∈ lw_all := lw_g (lw_at lw_m1 66 rfl) rfl
theorem q84 : (Jvm.Cond.constantLong "PersistentMap" (83 : Nat) (2305843009213693952 : Int64)) ∈ lw_all := lw_g (lw_at lw_m1 67 rfl) rfl
theorem q85 : (Jvm.Cond.constantLong "PersistentMap" (85 : Nat) (2 : Int64)) ∈ lw_all := lw_g (lw_at lw_m1 68 rfl) rfl
theorem q86 : (Jvm.Cond.methodLink "PersistentMap" (87 : Nat) ({ cls := "PersistentMap", name := "spreadLabels", desc := "()V" } : Jvm.MethodName)) ∈ lw_all := lw_g (lw_at lw_m1 69 rfl) rfl
theorem q87 : (Jvm.Cond.privateMethod ({ cls := "PersistentMap", name := "spreadLabels", desc := "()V" } : Jvm.MethodName)) ∈ lw_tbl := lw_at lw_m1 70 rfl
theorem q88 : (Jvm.Cond.instanceMethod ({ cls := "PersistentMap", name := "spreadLabels", desc := "()V" } : Jvm.MethodName)) ∈ lw_all := lw_g (lw_at lw_m1 71 rfl) rfl
theorem q89 : (Jvm.Cond.code ({ cls := "PersistentMap", name := "spreadLabels", desc := "()V" } : Jvm.MethodName) prog_1_method_26_code (4 : Nat) (Option.none : Option Jvm.ClassFile.FieldType)) ∈ lw_all := lw_g (lw_at lw_m1 72 rfl) rfl
theorem q90 : (Jvm.Cond.constantLong "PersistentMap" (90 : Nat) (1125899906842624 : Int64)) ∈ lw_all := lw_g (lw_at lw_m1 73 rfl) rfl
theorem q91 : (Jvm.Cond.methodLink "PersistentMap" (53 : Nat) ({ cls := "PersistentMap", name := "write", desc := "(IIZI)V" } : Jvm.MethodName)) ∈ lw_all := lw_g (lw_at lw_m1 74 rfl) rfl
theorem q92 : (Jvm.Cond.privateMethod ({ cls := "PersistentMap", name := "write", desc := "(IIZI)V" } : Jvm.MethodName)) ∈ lw_tbl := lw_at lw_m1 75 rfl
theorem q93 : (Jvm.Cond.instanceMethod ({ cls := "PersistentMap", name := "write", desc := "(IIZI)V" } : Jvm.MethodName)) ∈ lw_all := lw_g (lw_at lw_m1 76 rfl) rfl
theorem q94 : (Jvm.Cond.code ({ cls := "PersistentMap", name := "write", desc := "(IIZI)V" } : Jvm.MethodName) prog_1_method_31_code (12 : Nat) (Option.none : Option Jvm.ClassFile.FieldType)) ∈ lw_all := lw_g (lw_at lw_m1 77 rfl) rfl
theorem q95 : (Jvm.Cond.methodLink "PersistentMap" (79 : Nat) ({ cls := "PersistentMap", name := "advance", desc := "(III)I" } : Jvm.MethodName)) ∈ lw_all := lw_g (lw_at lw_m1 78 rfl) rfl
theorem q96 : (Jvm.Cond.privateMethod ({ cls := "PersistentMap", name := "advance", desc := "(III)I" } : Jvm.MethodName)) ∈ lw_tbl := lw_at lw_m1 79 rfl
theorem q97 : (Jvm.Cond.instanceMethod ({ cls := "PersistentMap", name := "advance", desc := "(III)I" } : Jvm.MethodName)) ∈ lw_all := lw_g (lw_at lw_m1 80 rfl) rfl
theorem q98 : (Jvm.Cond.code ({ cls := "PersistentMap", name := "advance", desc := "(III)I" } : Jvm.MethodName) prog_1_method_28_code (6 : Nat) (Option.some Jvm.ClassFile.FieldType.int)) ∈ lw_all := lw_g (lw_at lw_m1 81 rfl) rfl
theorem q99 : (Jvm.Cond.methodLink "PersistentMap" (92 : Nat) ({ cls := "PersistentMap", name := "insert", desc := "(IIIZI)I" } : Jvm.MethodName)) ∈ lw_all := lw_g (lw_at lw_m1 82 rfl) rfl
theorem q100 : (Jvm.Cond.privateMethod ({ cls := "PersistentMap", name := "insert", desc := "(IIIZI)I" } : Jvm.MethodName)) ∈ lw_tbl := lw_at lw_m1 83 rfl
theorem q101 : (Jvm.Cond.instanceMethod ({ cls := "PersistentMap", name := "insert", desc := "(IIIZI)I" } : Jvm.MethodName)) ∈ lw_all := lw_g (lw_at lw_m1 84 rfl) rfl
theorem q102 : (Jvm.Cond.code ({ cls := "PersistentMap", name := "insert", desc := "(IIIZI)I" } : Jvm.MethodName) prog_1_method_32_code (7 : Nat) (Option.some Jvm.ClassFile.FieldType.int)) ∈ lw_all := lw_g (lw_at lw_m1 85 rfl) rfl
theorem q104 : (Jvm.Cond.instanceMethod ({ cls := "PersistentMap", name := "remove", desc := "(II)I" } : Jvm.MethodName)) ∈ lw_all := lw_g (lw_at lw_m1 87 rfl) rfl
theorem q105 : (Jvm.Cond.selects "PersistentMap" ({ cls := "PersistentMap", name := "remove", desc := "(II)I" } : Jvm.MethodName) ({ cls := "PersistentMap", name := "remove", desc := "(II)I" } : Jvm.MethodName)) ∈ lw_all := lw_g (lw_at lw_m1 88 rfl) rfl
theorem q106 : (Jvm.Cond.code ({ cls := "PersistentMap", name := "remove", desc := "(II)I" } : Jvm.MethodName) prog_1_method_3_code (4 : Nat) (Option.some Jvm.ClassFile.FieldType.int)) ∈ lw_all := lw_g (lw_at lw_m1 89 rfl) rfl
theorem q108 : (Jvm.Cond.instanceMethod ({ cls := "PersistentMap", name := "fill", desc := "(IIII)I" } : Jvm.MethodName)) ∈ lw_all := lw_g (lw_at lw_m1 91 rfl) rfl
theorem q109 : (Jvm.Cond.selects "PersistentMap" ({ cls := "PersistentMap", name := "fill", desc := "(IIII)I" } : Jvm.MethodName) ({ cls := "PersistentMap", name := "fill", desc := "(IIII)I" } : Jvm.MethodName)) ∈ lw_all := lw_g (lw_at lw_m1 92 rfl) rfl
theorem q110 : (Jvm.Cond.code ({ cls := "PersistentMap", name := "fill", desc := "(IIII)I" } : Jvm.MethodName) prog_1_method_4_code (8 : Nat) (Option.some Jvm.ClassFile.FieldType.int)) ∈ lw_all := lw_g (lw_at lw_m1 93 rfl) rfl
theorem q111 : (Jvm.Cond.methodLink "PersistentMap" (57 : Nat) ({ cls := "PersistentMap", name := "isPlan", desc := "(I)Z" } : Jvm.MethodName)) ∈ lw_all := lw_g (lw_at lw_m1 94 rfl) rfl
theorem q112 : (Jvm.Cond.static ({ cls := "PersistentMap", name := "isPlan", desc := "(I)Z" } : Jvm.MethodName)) ∈ lw_all := lw_g (lw_at lw_m1 95 rfl) rfl
theorem q113 : (Jvm.Cond.code ({ cls := "PersistentMap", name := "isPlan", desc := "(I)Z" } : Jvm.MethodName) prog_1_method_24_code (2 : Nat) (Option.some Jvm.ClassFile.FieldType.boolean)) ∈ lw_all := lw_g (lw_at lw_m1 96 rfl) rfl
theorem q115 : (Jvm.Cond.instanceMethod ({ cls := "PersistentMap", name := "graft", desc := "(III)I" } : Jvm.MethodName)) ∈ lw_all := lw_g (lw_at lw_m1 98 rfl) rfl
theorem q116 : (Jvm.Cond.selects "PersistentMap" ({ cls := "PersistentMap", name := "graft", desc := "(III)I" } : Jvm.MethodName) ({ cls := "PersistentMap", name := "graft", desc := "(III)I" } : Jvm.MethodName)) ∈ lw_all := lw_g (lw_at lw_m1 99 rfl) rfl
theorem q117 : (Jvm.Cond.code ({ cls := "PersistentMap", name := "graft", desc := "(III)I" } : Jvm.MethodName) prog_1_method_5_code (7 : Nat) (Option.some Jvm.ClassFile.FieldType.int)) ∈ lw_all := lw_g (lw_at lw_m1 100 rfl) rfl
theorem q118 : (Jvm.Cond.methodLink "PersistentMap" (60 : Nat) ({ cls := "PersistentMap", name := "look", desc := "(II)V" } : Jvm.MethodName)) ∈ lw_all := lw_g (lw_at lw_m1 101 rfl) rfl
theorem q119 : (Jvm.Cond.privateMethod ({ cls := "PersistentMap", name := "look", desc := "(II)V" } : Jvm.MethodName)) ∈ lw_tbl := lw_at lw_m1 102 rfl
theorem q120 : (Jvm.Cond.instanceMethod ({ cls := "PersistentMap", name := "look", desc := "(II)V" } : Jvm.MethodName)) ∈ lw_all := lw_g (lw_at lw_m1 103 rfl) rfl
theorem q121 : (Jvm.Cond.code ({ cls := "PersistentMap", name := "look", desc := "(II)V" } : Jvm.MethodName) prog_1_method_29_code (4 : Nat) (Option.none : Option Jvm.ClassFile.FieldType)) ∈ lw_all := lw_g (lw_at lw_m1 104 rfl) rfl
theorem q123 : (Jvm.Cond.instanceMethod ({ cls := "PersistentMap", name := "exchange", desc := "(III)I" } : Jvm.MethodName)) ∈ lw_all := lw_g (lw_at lw_m1 106 rfl) rfl
theorem q124 : (Jvm.Cond.selects "PersistentMap" ({ cls := "PersistentMap", name := "exchange", desc := "(III)I" } : Jvm.MethodName) ({ cls := "PersistentMap", name := "exchange", desc := "(III)I" } : Jvm.MethodName)) ∈ lw_all := lw_g (lw_at lw_m1 107 rfl) rfl
theorem q125 : (Jvm.Cond.code ({ cls := "PersistentMap", name := "exchange", desc := "(III)I" } : Jvm.MethodName) prog_1_method_6_code (7 : Nat) (Option.some Jvm.ClassFile.FieldType.int)) ∈ lw_all := lw_g (lw_at lw_m1 108 rfl) rfl
theorem q127 : (Jvm.Cond.instanceMethod ({ cls := "PersistentMap", name := "versions", desc := "()I" } : Jvm.MethodName)) ∈ lw_all := lw_g (lw_at lw_m1 110 rfl) rfl
theorem q128 : (Jvm.Cond.selects "PersistentMap" ({ cls := "PersistentMap", name := "versions", desc := "()I" } : Jvm.MethodName) ({ cls := "PersistentMap", name := "versions", desc := "()I" } : Jvm.MethodName)) ∈ lw_all := lw_g (lw_at lw_m1 111 rfl) rfl
theorem q129 : (Jvm.Cond.code ({ cls := "PersistentMap", name := "versions", desc := "()I" } : Jvm.MethodName) prog_1_method_7_code (1 : Nat) (Option.some Jvm.ClassFile.FieldType.int)) ∈ lw_all := lw_g (lw_at lw_m1 112 rfl) rfl
theorem q131 : (Jvm.Cond.instanceMethod ({ cls := "PersistentMap", name := "parent", desc := "(I)I" } : Jvm.MethodName)) ∈ lw_all := lw_g (lw_at lw_m1 114 rfl) rfl
theorem q132 : (Jvm.Cond.selects "PersistentMap" ({ cls := "PersistentMap", name := "parent", desc := "(I)I" } : Jvm.MethodName) ({ cls := "PersistentMap", name := "parent", desc := "(I)I" } : Jvm.MethodName)) ∈ lw_all := lw_g (lw_at lw_m1 115 rfl) rfl
theorem q133 : (Jvm.Cond.code ({ cls := "PersistentMap", name := "parent", desc := "(I)I" } : Jvm.MethodName) prog_1_method_8_code (2 : Nat) (Option.some Jvm.ClassFile.FieldType.int)) ∈ lw_all := lw_g (lw_at lw_m1 116 rfl) rfl
theorem q135 : (Jvm.Cond.instanceMethod ({ cls := "PersistentMap", name := "ancestor", desc := "(II)I" } : Jvm.MethodName)) ∈ lw_all := lw_g (lw_at lw_m1 118 rfl) rfl
theorem q136 : (Jvm.Cond.selects "PersistentMap" ({ cls := "PersistentMap", name := "ancestor", desc := "(II)I" } : Jvm.MethodName) ({ cls := "PersistentMap", name := "ancestor", desc := "(II)I" } : Jvm.MethodName)) ∈ lw_all := lw_g (lw_at lw_m1 119 rfl) rfl
theorem q137 : (Jvm.Cond.code ({ cls := "PersistentMap", name := "ancestor", desc := "(II)I" } : Jvm.MethodName) prog_1_method_9_code (3 : Nat) (Option.some Jvm.ClassFile.FieldType.int)) ∈ lw_all := lw_g (lw_at lw_m1 120 rfl) rfl
theorem q138 : (Jvm.Cond.methodLink "PersistentMap" (71 : Nat) ({ cls := "PersistentMap", name := "isAncestor", desc := "(II)Z" } : Jvm.MethodName)) ∈ lw_all := lw_g (lw_at lw_m1 121 rfl) rfl
theorem q139 : (Jvm.Cond.privateMethod ({ cls := "PersistentMap", name := "isAncestor", desc := "(II)Z" } : Jvm.MethodName)) ∈ lw_tbl := lw_at lw_m1 122 rfl
theorem q140 : (Jvm.Cond.instanceMethod ({ cls := "PersistentMap", name := "isAncestor", desc := "(II)Z" } : Jvm.MethodName)) ∈ lw_all := lw_g (lw_at lw_m1 123 rfl) rfl
theorem q141 : (Jvm.Cond.code ({ cls := "PersistentMap", name := "isAncestor", desc := "(II)Z" } : Jvm.MethodName) prog_1_method_27_code (5 : Nat) (Option.some Jvm.ClassFile.FieldType.boolean)) ∈ lw_all := lw_g (lw_at lw_m1 124 rfl) rfl
theorem q143 : (Jvm.Cond.instanceMethod ({ cls := "PersistentMap", name := "meet", desc := "(II)I" } : Jvm.MethodName)) ∈ lw_all := lw_g (lw_at lw_m1 126 rfl) rfl
theorem q144 : (Jvm.Cond.selects "PersistentMap" ({ cls := "PersistentMap", name := "meet", desc := "(II)I" } : Jvm.MethodName) ({ cls := "PersistentMap", name := "meet", desc := "(II)I" } : Jvm.MethodName)) ∈ lw_all := lw_g (lw_at lw_m1 127 rfl) rfl
theorem q145 : (Jvm.Cond.code ({ cls := "PersistentMap", name := "meet", desc := "(II)I" } : Jvm.MethodName) prog_1_method_10_code (5 : Nat) (Option.some Jvm.ClassFile.FieldType.int)) ∈ lw_all := lw_g (lw_at lw_m1 128 rfl) rfl
theorem q147 : (Jvm.Cond.instanceMethod ({ cls := "PersistentMap", name := "family", desc := "(I)I" } : Jvm.MethodName)) ∈ lw_all := lw_g (lw_at lw_m1 130 rfl) rfl
theorem q148 : (Jvm.Cond.selects "PersistentMap" ({ cls := "PersistentMap", name := "family", desc := "(I)I" } : Jvm.MethodName) ({ cls := "PersistentMap", name := "family", desc := "(I)I" } : Jvm.MethodName)) ∈ lw_all := lw_g (lw_at lw_m1 131 rfl) rfl
theorem q149 : (Jvm.Cond.code ({ cls := "PersistentMap", name := "family", desc := "(I)I" } : Jvm.MethodName) prog_1_method_11_code (4 : Nat) (Option.some Jvm.ClassFile.FieldType.int)) ∈ lw_all := lw_g (lw_at lw_m1 132 rfl) rfl
theorem q151 : (Jvm.Cond.instanceMethod ({ cls := "PersistentMap", name := "has", desc := "(II)I" } : Jvm.MethodName)) ∈ lw_all := lw_g (lw_at lw_m1 134 rfl) rfl
theorem q152 : (Jvm.Cond.selects "PersistentMap" ({ cls := "PersistentMap", name := "has", desc := "(II)I" } : Jvm.MethodName) ({ cls := "PersistentMap", name := "has", desc := "(II)I" } : Jvm.MethodName)) ∈ lw_all := lw_g (lw_at lw_m1 135 rfl) rfl
theorem q153 : (Jvm.Cond.code ({ cls := "PersistentMap", name := "has", desc := "(II)I" } : Jvm.MethodName) prog_1_method_12_code (3 : Nat) (Option.some Jvm.ClassFile.FieldType.int)) ∈ lw_all := lw_g (lw_at lw_m1 136 rfl) rfl
theorem q155 : (Jvm.Cond.instanceMethod ({ cls := "PersistentMap", name := "get", desc := "(II)I" } : Jvm.MethodName)) ∈ lw_all := lw_g (lw_at lw_m1 138 rfl) rfl
theorem q156 : (Jvm.Cond.selects "PersistentMap" ({ cls := "PersistentMap", name := "get", desc := "(II)I" } : Jvm.MethodName) ({ cls := "PersistentMap", name := "get", desc := "(II)I" } : Jvm.MethodName)) ∈ lw_all := lw_g (lw_at lw_m1 139 rfl) rfl
theorem q157 : (Jvm.Cond.code ({ cls := "PersistentMap", name := "get", desc := "(II)I" } : Jvm.MethodName) prog_1_method_13_code (3 : Nat) (Option.some Jvm.ClassFile.FieldType.int)) ∈ lw_all := lw_g (lw_at lw_m1 140 rfl) rfl
theorem q159 : (Jvm.Cond.instanceMethod ({ cls := "PersistentMap", name := "size", desc := "(I)I" } : Jvm.MethodName)) ∈ lw_all := lw_g (lw_at lw_m1 142 rfl) rfl
theorem q160 : (Jvm.Cond.selects "PersistentMap" ({ cls := "PersistentMap", name := "size", desc := "(I)I" } : Jvm.MethodName) ({ cls := "PersistentMap", name := "size", desc := "(I)I" } : Jvm.MethodName)) ∈ lw_all := lw_g (lw_at lw_m1 143 rfl) rfl
theorem q161 : (Jvm.Cond.code ({ cls := "PersistentMap", name := "size", desc := "(I)I" } : Jvm.MethodName) prog_1_method_14_code (4 : Nat) (Option.some Jvm.ClassFile.FieldType.int)) ∈ lw_all := lw_g (lw_at lw_m1 144 rfl) rfl
theorem q163 : (Jvm.Cond.instanceMethod ({ cls := "PersistentMap", name := "next", desc := "(II)I" } : Jvm.MethodName)) ∈ lw_all := lw_g (lw_at lw_m1 146 rfl) rfl
theorem q164 : (Jvm.Cond.selects "PersistentMap" ({ cls := "PersistentMap", name := "next", desc := "(II)I" } : Jvm.MethodName) ({ cls := "PersistentMap", name := "next", desc := "(II)I" } : Jvm.MethodName)) ∈ lw_all := lw_g (lw_at lw_m1 147 rfl) rfl
theorem q165 : (Jvm.Cond.code ({ cls := "PersistentMap", name := "next", desc := "(II)I" } : Jvm.MethodName) prog_1_method_15_code (4 : Nat) (Option.some Jvm.ClassFile.FieldType.int)) ∈ lw_all := lw_g (lw_at lw_m1 148 rfl) rfl
theorem q167 : (Jvm.Cond.instanceMethod ({ cls := "PersistentMap", name := "previous", desc := "(II)I" } : Jvm.MethodName)) ∈ lw_all := lw_g (lw_at lw_m1 150 rfl) rfl
theorem q168 : (Jvm.Cond.selects "PersistentMap" ({ cls := "PersistentMap", name := "previous", desc := "(II)I" } : Jvm.MethodName) ({ cls := "PersistentMap", name := "previous", desc := "(II)I" } : Jvm.MethodName)) ∈ lw_all := lw_g (lw_at lw_m1 151 rfl) rfl
theorem q169 : (Jvm.Cond.code ({ cls := "PersistentMap", name := "previous", desc := "(II)I" } : Jvm.MethodName) prog_1_method_16_code (4 : Nat) (Option.some Jvm.ClassFile.FieldType.int)) ∈ lw_all := lw_g (lw_at lw_m1 152 rfl) rfl
theorem q171 : (Jvm.Cond.instanceMethod ({ cls := "PersistentMap", name := "select", desc := "(II)I" } : Jvm.MethodName)) ∈ lw_all := lw_g (lw_at lw_m1 154 rfl) rfl
theorem q172 : (Jvm.Cond.selects "PersistentMap" ({ cls := "PersistentMap", name := "select", desc := "(II)I" } : Jvm.MethodName) ({ cls := "PersistentMap", name := "select", desc := "(II)I" } : Jvm.MethodName)) ∈ lw_all := lw_g (lw_at lw_m1 155 rfl) rfl
theorem q173 : (Jvm.Cond.code ({ cls := "PersistentMap", name := "select", desc := "(II)I" } : Jvm.MethodName) prog_1_method_17_code (5 : Nat) (Option.some Jvm.ClassFile.FieldType.int)) ∈ lw_all := lw_g (lw_at lw_m1 156 rfl) rfl
theorem q175 : (Jvm.Cond.instanceMethod ({ cls := "PersistentMap", name := "sum", desc := "(III)I" } : Jvm.MethodName)) ∈ lw_all := lw_g (lw_at lw_m1 158 rfl) rfl
theorem q176 : (Jvm.Cond.selects "PersistentMap" ({ cls := "PersistentMap", name := "sum", desc := "(III)I" } : Jvm.MethodName) ({ cls := "PersistentMap", name := "sum", desc := "(III)I" } : Jvm.MethodName)) ∈ lw_all := lw_g (lw_at lw_m1 159 rfl) rfl
theorem q177 : (Jvm.Cond.code ({ cls := "PersistentMap", name := "sum", desc := "(III)I" } : Jvm.MethodName) prog_1_method_18_code (7 : Nat) (Option.some Jvm.ClassFile.FieldType.int)) ∈ lw_all := lw_g (lw_at lw_m1 160 rfl) rfl
theorem q179 : (Jvm.Cond.instanceMethod ({ cls := "PersistentMap", name := "differing", desc := "(II)I" } : Jvm.MethodName)) ∈ lw_all := lw_g (lw_at lw_m1 162 rfl) rfl
theorem q180 : (Jvm.Cond.selects "PersistentMap" ({ cls := "PersistentMap", name := "differing", desc := "(II)I" } : Jvm.MethodName) ({ cls := "PersistentMap", name := "differing", desc := "(II)I" } : Jvm.MethodName)) ∈ lw_all := lw_g (lw_at lw_m1 163 rfl) rfl
theorem q181 : (Jvm.Cond.code ({ cls := "PersistentMap", name := "differing", desc := "(II)I" } : Jvm.MethodName) prog_1_method_19_code (5 : Nat) (Option.some Jvm.ClassFile.FieldType.int)) ∈ lw_all := lw_g (lw_at lw_m1 164 rfl) rfl
theorem q182 : (Jvm.Cond.methodLink "PersistentMap" (75 : Nat) ({ cls := "PersistentMap", name := "differ", desc := "(III)Z" } : Jvm.MethodName)) ∈ lw_all := lw_g (lw_at lw_m1 165 rfl) rfl
theorem q183 : (Jvm.Cond.privateMethod ({ cls := "PersistentMap", name := "differ", desc := "(III)Z" } : Jvm.MethodName)) ∈ lw_tbl := lw_at lw_m1 166 rfl
theorem q184 : (Jvm.Cond.instanceMethod ({ cls := "PersistentMap", name := "differ", desc := "(III)Z" } : Jvm.MethodName)) ∈ lw_all := lw_g (lw_at lw_m1 167 rfl) rfl
theorem q185 : (Jvm.Cond.code ({ cls := "PersistentMap", name := "differ", desc := "(III)Z" } : Jvm.MethodName) prog_1_method_30_code (6 : Nat) (Option.some Jvm.ClassFile.FieldType.boolean)) ∈ lw_all := lw_g (lw_at lw_m1 168 rfl) rfl
theorem q187 : (Jvm.Cond.instanceMethod ({ cls := "PersistentMap", name := "spread", desc := "(I)I" } : Jvm.MethodName)) ∈ lw_all := lw_g (lw_at lw_m1 170 rfl) rfl
theorem q188 : (Jvm.Cond.selects "PersistentMap" ({ cls := "PersistentMap", name := "spread", desc := "(I)I" } : Jvm.MethodName) ({ cls := "PersistentMap", name := "spread", desc := "(I)I" } : Jvm.MethodName)) ∈ lw_all := lw_g (lw_at lw_m1 171 rfl) rfl
theorem q189 : (Jvm.Cond.code ({ cls := "PersistentMap", name := "spread", desc := "(I)I" } : Jvm.MethodName) prog_1_method_20_code (5 : Nat) (Option.some Jvm.ClassFile.FieldType.int)) ∈ lw_all := lw_g (lw_at lw_m1 172 rfl) rfl
theorem q191 : (Jvm.Cond.instanceMethod ({ cls := "PersistentMap", name := "changes", desc := "(I)I" } : Jvm.MethodName)) ∈ lw_all := lw_g (lw_at lw_m1 174 rfl) rfl
theorem q192 : (Jvm.Cond.selects "PersistentMap" ({ cls := "PersistentMap", name := "changes", desc := "(I)I" } : Jvm.MethodName) ({ cls := "PersistentMap", name := "changes", desc := "(I)I" } : Jvm.MethodName)) ∈ lw_all := lw_g (lw_at lw_m1 175 rfl) rfl
theorem q193 : (Jvm.Cond.code ({ cls := "PersistentMap", name := "changes", desc := "(I)I" } : Jvm.MethodName) prog_1_method_21_code (4 : Nat) (Option.some Jvm.ClassFile.FieldType.int)) ∈ lw_all := lw_g (lw_at lw_m1 176 rfl) rfl
theorem in_X0 : ∀ w ∈ wsX00, w ∈ lw_all := lw_in wsX00 [41, 43, 45, 47, 49, 51, 53, 55, 57, 59, 61, 63] (by decide +kernel) (by decide +kernel)

/-! PersistentMapModel -/
def RX1 : String := "PersistentMapModel"
def TX1 : u_T := fun k => match k with
  | 0 => ("PersistentMapModel", "count", "I", false)
  | 1 => ("PersistentMapModel", "parents", "[I", false)
  | 2 => ("PersistentMapModel", "there", "[Z", false)
  | _ => ("PersistentMapModel", "worth", "[I", false)
def tyX1 : Nat → FieldType := fun k => match k with
  | 0 => .int
  | 1 => .array .int
  | 2 => .array .boolean
  | _ => .array .int
abbrev wsX10 : List Cond := u_ws RX1 TX1 4
theorem nmX1 : ∀ a, a < 4 → ∀ b, b < 4 → a ≠ b → (TX1 a).2.1 ≠ (TX1 b).2.1 := by decide +kernel
theorem tyX1_ok : ∀ k, k < 4 → parseFieldDescriptor (TX1 k).2.2.1 = some (tyX1 k) := by decide +kernel
abbrev cX1_init : ByteArray := prog_3_method_1_code
def yX1_init : MethodName := ⟨RX1, "<init>", "()V"⟩
abbrev cX1_put : ByteArray := prog_3_method_8_code
def yX1_put : MethodName := ⟨RX1, "put", "(III)I"⟩
abbrev cX1_bad : ByteArray := prog_3_method_2_code
def yX1_bad : MethodName := ⟨RX1, "bad", "(I)Z"⟩
abbrev cX1_badKey : ByteArray := prog_3_method_3_code
def yX1_badKey : MethodName := ⟨RX1, "badKey", "(I)Z"⟩
abbrev cX1_make : ByteArray := prog_3_method_5_code
def yX1_make : MethodName := ⟨RX1, "make", "(I)I"⟩
abbrev cX1_give : ByteArray := prog_3_method_6_code
def yX1_give : MethodName := ⟨RX1, "give", "(III)V"⟩
abbrev cX1_remove : ByteArray := prog_3_method_9_code
def yX1_remove : MethodName := ⟨RX1, "remove", "(II)I"⟩
abbrev cX1_fill : ByteArray := prog_3_method_10_code
def yX1_fill : MethodName := ⟨RX1, "fill", "(IIII)I"⟩
abbrev cX1_badPlan : ByteArray := prog_3_method_4_code
def yX1_badPlan : MethodName := ⟨RX1, "badPlan", "(I)Z"⟩
abbrev cX1_graft : ByteArray := prog_3_method_11_code
def yX1_graft : MethodName := ⟨RX1, "graft", "(III)I"⟩
abbrev cX1_copy : ByteArray := prog_3_method_7_code
def yX1_copy : MethodName := ⟨RX1, "copy", "(IIII)V"⟩
abbrev cX1_exchange : ByteArray := prog_3_method_12_code
def yX1_exchange : MethodName := ⟨RX1, "exchange", "(III)I"⟩
abbrev cX1_versions : ByteArray := prog_3_method_13_code
def yX1_versions : MethodName := ⟨RX1, "versions", "()I"⟩
abbrev cX1_parent : ByteArray := prog_3_method_14_code
def yX1_parent : MethodName := ⟨RX1, "parent", "(I)I"⟩
abbrev cX1_ancestor : ByteArray := prog_3_method_16_code
def yX1_ancestor : MethodName := ⟨RX1, "ancestor", "(II)I"⟩
abbrev cX1_leads : ByteArray := prog_3_method_15_code
def yX1_leads : MethodName := ⟨RX1, "leads", "(II)Z"⟩
abbrev cX1_meet : ByteArray := prog_3_method_17_code
def yX1_meet : MethodName := ⟨RX1, "meet", "(II)I"⟩
abbrev cX1_family : ByteArray := prog_3_method_18_code
def yX1_family : MethodName := ⟨RX1, "family", "(I)I"⟩
abbrev cX1_has : ByteArray := prog_3_method_19_code
def yX1_has : MethodName := ⟨RX1, "has", "(II)I"⟩
abbrev cX1_get : ByteArray := prog_3_method_20_code
def yX1_get : MethodName := ⟨RX1, "get", "(II)I"⟩
abbrev cX1_size : ByteArray := prog_3_method_21_code
def yX1_size : MethodName := ⟨RX1, "size", "(I)I"⟩
abbrev cX1_next : ByteArray := prog_3_method_22_code
def yX1_next : MethodName := ⟨RX1, "next", "(II)I"⟩
abbrev cX1_previous : ByteArray := prog_3_method_23_code
def yX1_previous : MethodName := ⟨RX1, "previous", "(II)I"⟩
abbrev cX1_select : ByteArray := prog_3_method_24_code
def yX1_select : MethodName := ⟨RX1, "select", "(II)I"⟩
abbrev cX1_sum : ByteArray := prog_3_method_25_code
def yX1_sum : MethodName := ⟨RX1, "sum", "(III)I"⟩
abbrev cX1_differing : ByteArray := prog_3_method_27_code
def yX1_differing : MethodName := ⟨RX1, "differing", "(II)I"⟩
abbrev cX1_agree : ByteArray := prog_3_method_26_code
def yX1_agree : MethodName := ⟨RX1, "agree", "(III)Z"⟩
abbrev cX1_spread : ByteArray := prog_3_method_28_code
def yX1_spread : MethodName := ⟨RX1, "spread", "(I)I"⟩
abbrev cX1_changes : ByteArray := prog_3_method_29_code
def yX1_changes : MethodName := ⟨RX1, "changes", "(I)I"⟩
theorem q19 : (Jvm.Cond.initialized "PersistentMapModel") ∈ lw_all := lw_g (lw_at lw_m1 2 rfl) rfl
theorem q195 : (Jvm.Cond.instantiable "PersistentMapModel" (4 : Nat)) ∈ lw_all := lw_g (lw_at lw_m1 178 rfl) rfl
theorem q197 : (Jvm.Cond.instanceMethod ({ cls := "PersistentMapModel", name := "<init>", desc := "()V" } : Jvm.MethodName)) ∈ lw_all := lw_g (lw_at lw_m1 180 rfl) rfl
theorem q198 : (Jvm.Cond.code ({ cls := "PersistentMapModel", name := "<init>", desc := "()V" } : Jvm.MethodName) prog_3_method_1_code (1 : Nat) (Option.none : Option Jvm.ClassFile.FieldType)) ∈ lw_all := lw_g (lw_at lw_m1 181 rfl) rfl
theorem q199 : (Jvm.Cond.methodLink "PersistentMapModel" (1 : Nat) ({ cls := "java/lang/Object", name := "<init>", desc := "()V" } : Jvm.MethodName)) ∈ lw_all := lw_g (lw_at lw_m1 182 rfl) rfl
theorem q200 : (Jvm.Cond.fieldLink "PersistentMapModel" (7 : Nat) "PersistentMapModel" "count" "I") ∈ lw_all := lw_g (lw_at lw_m1 183 rfl) rfl
theorem q201 : (Jvm.Cond.fieldLink "PersistentMapModel" (13 : Nat) "PersistentMapModel" "parents" "[I") ∈ lw_all := lw_g (lw_at lw_m1 184 rfl) rfl
theorem q202 : (Jvm.Cond.fieldLink "PersistentMapModel" (17 : Nat) "PersistentMapModel" "there" "[Z") ∈ lw_all := lw_g (lw_at lw_m1 185 rfl) rfl
theorem q203 : (Jvm.Cond.fieldLink "PersistentMapModel" (21 : Nat) "PersistentMapModel" "worth" "[I") ∈ lw_all := lw_g (lw_at lw_m1 186 rfl) rfl
theorem q204 : (Jvm.Cond.lays "PersistentMapModel" "PersistentMapModel" "count" "I") ∈ lw_all := lw_g (lw_at lw_m1 187 rfl) rfl
theorem q205 : (Jvm.Cond.soleField "PersistentMapModel" "count") ∈ lw_all := lw_g (lw_at lw_m1 188 rfl) rfl
theorem q206 : (Jvm.Cond.lays "PersistentMapModel" "PersistentMapModel" "parents" "[I") ∈ lw_all := lw_g (lw_at lw_m1 189 rfl) rfl
theorem q207 : (Jvm.Cond.soleField "PersistentMapModel" "parents") ∈ lw_all := lw_g (lw_at lw_m1 190 rfl) rfl
theorem q208 : (Jvm.Cond.lays "PersistentMapModel" "PersistentMapModel" "there" "[Z") ∈ lw_all := lw_g (lw_at lw_m1 191 rfl) rfl
theorem q209 : (Jvm.Cond.soleField "PersistentMapModel" "there") ∈ lw_all := lw_g (lw_at lw_m1 192 rfl) rfl
theorem q210 : (Jvm.Cond.lays "PersistentMapModel" "PersistentMapModel" "worth" "[I") ∈ lw_all := lw_g (lw_at lw_m1 193 rfl) rfl
theorem q211 : (Jvm.Cond.soleField "PersistentMapModel" "worth") ∈ lw_all := lw_g (lw_at lw_m1 194 rfl) rfl
theorem q212 : (Jvm.Cond.superclass "PersistentMapModel" "java/lang/Object") ∈ lw_all := lw_g (lw_at lw_m1 195 rfl) rfl
theorem q214 : (Jvm.Cond.instanceMethod ({ cls := "PersistentMapModel", name := "put", desc := "(III)I" } : Jvm.MethodName)) ∈ lw_all := lw_g (lw_at lw_m1 197 rfl) rfl
theorem q215 : (Jvm.Cond.selects "PersistentMapModel" ({ cls := "PersistentMapModel", name := "put", desc := "(III)I" } : Jvm.MethodName) ({ cls := "PersistentMapModel", name := "put", desc := "(III)I" } : Jvm.MethodName)) ∈ lw_all := lw_g (lw_at lw_m1 198 rfl) rfl
theorem q216 : (Jvm.Cond.code ({ cls := "PersistentMapModel", name := "put", desc := "(III)I" } : Jvm.MethodName) prog_3_method_8_code (5 : Nat) (Option.some Jvm.ClassFile.FieldType.int)) ∈ lw_all := lw_g (lw_at lw_m1 199 rfl) rfl
theorem q217 : (Jvm.Cond.methodLink "PersistentMapModel" (24 : Nat) ({ cls := "PersistentMapModel", name := "bad", desc := "(I)Z" } : Jvm.MethodName)) ∈ lw_all := lw_g (lw_at lw_m1 200 rfl) rfl
theorem q218 : (Jvm.Cond.privateMethod ({ cls := "PersistentMapModel", name := "bad", desc := "(I)Z" } : Jvm.MethodName)) ∈ lw_tbl := lw_at lw_m1 201 rfl
theorem q219 : (Jvm.Cond.instanceMethod ({ cls := "PersistentMapModel", name := "bad", desc := "(I)Z" } : Jvm.MethodName)) ∈ lw_all := lw_g (lw_at lw_m1 202 rfl) rfl
theorem q220 : (Jvm.Cond.code ({ cls := "PersistentMapModel", name := "bad", desc := "(I)Z" } : Jvm.MethodName) prog_3_method_2_code (2 : Nat) (Option.some Jvm.ClassFile.FieldType.boolean)) ∈ lw_all := lw_g (lw_at lw_m1 203 rfl) rfl
theorem q221 : (Jvm.Cond.methodLink "PersistentMapModel" (28 : Nat) ({ cls := "PersistentMapModel", name := "badKey", desc := "(I)Z" } : Jvm.MethodName)) ∈ lw_all := lw_g (lw_at lw_m1 204 rfl) rfl
theorem q222 : (Jvm.Cond.privateMethod ({ cls := "PersistentMapModel", name := "badKey", desc := "(I)Z" } : Jvm.MethodName)) ∈ lw_tbl := lw_at lw_m1 205 rfl
theorem q223 : (Jvm.Cond.instanceMethod ({ cls := "PersistentMapModel", name := "badKey", desc := "(I)Z" } : Jvm.MethodName)) ∈ lw_all := lw_g (lw_at lw_m1 206 rfl) rfl
theorem q224 : (Jvm.Cond.code ({ cls := "PersistentMapModel", name := "badKey", desc := "(I)Z" } : Jvm.MethodName) prog_3_method_3_code (2 : Nat) (Option.some Jvm.ClassFile.FieldType.boolean)) ∈ lw_all := lw_g (lw_at lw_m1 207 rfl) rfl
theorem q225 : (Jvm.Cond.methodLink "PersistentMapModel" (31 : Nat) ({ cls := "PersistentMapModel", name := "make", desc := "(I)I" } : Jvm.MethodName)) ∈ lw_all := lw_g (lw_at lw_m1 208 rfl) rfl
theorem q226 : (Jvm.Cond.privateMethod ({ cls := "PersistentMapModel", name := "make", desc := "(I)I" } : Jvm.MethodName)) ∈ lw_tbl := lw_at lw_m1 209 rfl
theorem q227 : (Jvm.Cond.instanceMethod ({ cls := "PersistentMapModel", name := "make", desc := "(I)I" } : Jvm.MethodName)) ∈ lw_all := lw_g (lw_at lw_m1 210 rfl) rfl
theorem q228 : (Jvm.Cond.code ({ cls := "PersistentMapModel", name := "make", desc := "(I)I" } : Jvm.MethodName) prog_3_method_5_code (4 : Nat) (Option.some Jvm.ClassFile.FieldType.int)) ∈ lw_all := lw_g (lw_at lw_m1 211 rfl) rfl
theorem q229 : (Jvm.Cond.methodLink "PersistentMapModel" (35 : Nat) ({ cls := "PersistentMapModel", name := "give", desc := "(III)V" } : Jvm.MethodName)) ∈ lw_all := lw_g (lw_at lw_m1 212 rfl) rfl
theorem q230 : (Jvm.Cond.privateMethod ({ cls := "PersistentMapModel", name := "give", desc := "(III)V" } : Jvm.MethodName)) ∈ lw_tbl := lw_at lw_m1 213 rfl
theorem q231 : (Jvm.Cond.instanceMethod ({ cls := "PersistentMapModel", name := "give", desc := "(III)V" } : Jvm.MethodName)) ∈ lw_all := lw_g (lw_at lw_m1 214 rfl) rfl
theorem q232 : (Jvm.Cond.code ({ cls := "PersistentMapModel", name := "give", desc := "(III)V" } : Jvm.MethodName) prog_3_method_6_code (4 : Nat) (Option.none : Option Jvm.ClassFile.FieldType)) ∈ lw_all := lw_g (lw_at lw_m1 215 rfl) rfl
theorem q234 : (Jvm.Cond.instanceMethod ({ cls := "PersistentMapModel", name := "remove", desc := "(II)I" } : Jvm.MethodName)) ∈ lw_all := lw_g (lw_at lw_m1 217 rfl) rfl
theorem q235 : (Jvm.Cond.selects "PersistentMapModel" ({ cls := "PersistentMapModel", name := "remove", desc := "(II)I" } : Jvm.MethodName) ({ cls := "PersistentMapModel", name := "remove", desc := "(II)I" } : Jvm.MethodName)) ∈ lw_all := lw_g (lw_at lw_m1 218 rfl) rfl
theorem q236 : (Jvm.Cond.code ({ cls := "PersistentMapModel", name := "remove", desc := "(II)I" } : Jvm.MethodName) prog_3_method_9_code (4 : Nat) (Option.some Jvm.ClassFile.FieldType.int)) ∈ lw_all := lw_g (lw_at lw_m1 219 rfl) rfl
theorem q238 : (Jvm.Cond.instanceMethod ({ cls := "PersistentMapModel", name := "fill", desc := "(IIII)I" } : Jvm.MethodName)) ∈ lw_all := lw_g (lw_at lw_m1 221 rfl) rfl
theorem q239 : (Jvm.Cond.selects "PersistentMapModel" ({ cls := "PersistentMapModel", name := "fill", desc := "(IIII)I" } : Jvm.MethodName) ({ cls := "PersistentMapModel", name := "fill", desc := "(IIII)I" } : Jvm.MethodName)) ∈ lw_all := lw_g (lw_at lw_m1 222 rfl) rfl
theorem q240 : (Jvm.Cond.code ({ cls := "PersistentMapModel", name := "fill", desc := "(IIII)I" } : Jvm.MethodName) prog_3_method_10_code (7 : Nat) (Option.some Jvm.ClassFile.FieldType.int)) ∈ lw_all := lw_g (lw_at lw_m1 223 rfl) rfl
theorem q241 : (Jvm.Cond.methodLink "PersistentMapModel" (39 : Nat) ({ cls := "PersistentMapModel", name := "badPlan", desc := "(I)Z" } : Jvm.MethodName)) ∈ lw_all := lw_g (lw_at lw_m1 224 rfl) rfl
theorem q242 : (Jvm.Cond.privateMethod ({ cls := "PersistentMapModel", name := "badPlan", desc := "(I)Z" } : Jvm.MethodName)) ∈ lw_tbl := lw_at lw_m1 225 rfl
theorem q243 : (Jvm.Cond.instanceMethod ({ cls := "PersistentMapModel", name := "badPlan", desc := "(I)Z" } : Jvm.MethodName)) ∈ lw_all := lw_g (lw_at lw_m1 226 rfl) rfl
theorem q244 : (Jvm.Cond.code ({ cls := "PersistentMapModel", name := "badPlan", desc := "(I)Z" } : Jvm.MethodName) prog_3_method_4_code (2 : Nat) (Option.some Jvm.ClassFile.FieldType.boolean)) ∈ lw_all := lw_g (lw_at lw_m1 227 rfl) rfl
theorem q246 : (Jvm.Cond.instanceMethod ({ cls := "PersistentMapModel", name := "graft", desc := "(III)I" } : Jvm.MethodName)) ∈ lw_all := lw_g (lw_at lw_m1 229 rfl) rfl
theorem q247 : (Jvm.Cond.selects "PersistentMapModel" ({ cls := "PersistentMapModel", name := "graft", desc := "(III)I" } : Jvm.MethodName) ({ cls := "PersistentMapModel", name := "graft", desc := "(III)I" } : Jvm.MethodName)) ∈ lw_all := lw_g (lw_at lw_m1 230 rfl) rfl
theorem q248 : (Jvm.Cond.code ({ cls := "PersistentMapModel", name := "graft", desc := "(III)I" } : Jvm.MethodName) prog_3_method_11_code (6 : Nat) (Option.some Jvm.ClassFile.FieldType.int)) ∈ lw_all := lw_g (lw_at lw_m1 231 rfl) rfl
theorem q249 : (Jvm.Cond.methodLink "PersistentMapModel" (42 : Nat) ({ cls := "PersistentMapModel", name := "copy", desc := "(IIII)V" } : Jvm.MethodName)) ∈ lw_all := lw_g (lw_at lw_m1 232 rfl) rfl
theorem q250 : (Jvm.Cond.privateMethod ({ cls := "PersistentMapModel", name := "copy", desc := "(IIII)V" } : Jvm.MethodName)) ∈ lw_tbl := lw_at lw_m1 233 rfl
theorem q251 : (Jvm.Cond.instanceMethod ({ cls := "PersistentMapModel", name := "copy", desc := "(IIII)V" } : Jvm.MethodName)) ∈ lw_all := lw_g (lw_at lw_m1 234 rfl) rfl
theorem q252 : (Jvm.Cond.code ({ cls := "PersistentMapModel", name := "copy", desc := "(IIII)V" } : Jvm.MethodName) prog_3_method_7_code (5 : Nat) (Option.none : Option Jvm.ClassFile.FieldType)) ∈ lw_all := lw_g (lw_at lw_m1 235 rfl) rfl
theorem q254 : (Jvm.Cond.instanceMethod ({ cls := "PersistentMapModel", name := "exchange", desc := "(III)I" } : Jvm.MethodName)) ∈ lw_all := lw_g (lw_at lw_m1 237 rfl) rfl
theorem q255 : (Jvm.Cond.selects "PersistentMapModel" ({ cls := "PersistentMapModel", name := "exchange", desc := "(III)I" } : Jvm.MethodName) ({ cls := "PersistentMapModel", name := "exchange", desc := "(III)I" } : Jvm.MethodName)) ∈ lw_all := lw_g (lw_at lw_m1 238 rfl) rfl
theorem q256 : (Jvm.Cond.code ({ cls := "PersistentMapModel", name := "exchange", desc := "(III)I" } : Jvm.MethodName) prog_3_method_12_code (5 : Nat) (Option.some Jvm.ClassFile.FieldType.int)) ∈ lw_all := lw_g (lw_at lw_m1 239 rfl) rfl
theorem q258 : (Jvm.Cond.instanceMethod ({ cls := "PersistentMapModel", name := "versions", desc := "()I" } : Jvm.MethodName)) ∈ lw_all := lw_g (lw_at lw_m2 1 rfl) rfl
theorem q259 : (Jvm.Cond.selects "PersistentMapModel" ({ cls := "PersistentMapModel", name := "versions", desc := "()I" } : Jvm.MethodName) ({ cls := "PersistentMapModel", name := "versions", desc := "()I" } : Jvm.MethodName)) ∈ lw_all := lw_g (lw_at lw_m2 2 rfl) rfl
theorem q260 : (Jvm.Cond.code ({ cls := "PersistentMapModel", name := "versions", desc := "()I" } : Jvm.MethodName) prog_3_method_13_code (1 : Nat) (Option.some Jvm.ClassFile.FieldType.int)) ∈ lw_all := lw_g (lw_at lw_m2 3 rfl) rfl
theorem q262 : (Jvm.Cond.instanceMethod ({ cls := "PersistentMapModel", name := "parent", desc := "(I)I" } : Jvm.MethodName)) ∈ lw_all := lw_g (lw_at lw_m2 5 rfl) rfl
theorem q263 : (Jvm.Cond.selects "PersistentMapModel" ({ cls := "PersistentMapModel", name := "parent", desc := "(I)I" } : Jvm.MethodName) ({ cls := "PersistentMapModel", name := "parent", desc := "(I)I" } : Jvm.MethodName)) ∈ lw_all := lw_g (lw_at lw_m2 6 rfl) rfl
theorem q264 : (Jvm.Cond.code ({ cls := "PersistentMapModel", name := "parent", desc := "(I)I" } : Jvm.MethodName) prog_3_method_14_code (2 : Nat) (Option.some Jvm.ClassFile.FieldType.int)) ∈ lw_all := lw_g (lw_at lw_m2 7 rfl) rfl
theorem q266 : (Jvm.Cond.instanceMethod ({ cls := "PersistentMapModel", name := "ancestor", desc := "(II)I" } : Jvm.MethodName)) ∈ lw_all := lw_g (lw_at lw_m2 9 rfl) rfl
theorem q267 : (Jvm.Cond.selects "PersistentMapModel" ({ cls := "PersistentMapModel", name := "ancestor", desc := "(II)I" } : Jvm.MethodName) ({ cls := "PersistentMapModel", name := "ancestor", desc := "(II)I" } : Jvm.MethodName)) ∈ lw_all := lw_g (lw_at lw_m2 10 rfl) rfl
theorem q268 : (Jvm.Cond.code ({ cls := "PersistentMapModel", name := "ancestor", desc := "(II)I" } : Jvm.MethodName) prog_3_method_16_code (3 : Nat) (Option.some Jvm.ClassFile.FieldType.int)) ∈ lw_all := lw_g (lw_at lw_m2 11 rfl) rfl
theorem q269 : (Jvm.Cond.methodLink "PersistentMapModel" (46 : Nat) ({ cls := "PersistentMapModel", name := "leads", desc := "(II)Z" } : Jvm.MethodName)) ∈ lw_all := lw_g (lw_at lw_m2 12 rfl) rfl
theorem q270 : (Jvm.Cond.privateMethod ({ cls := "PersistentMapModel", name := "leads", desc := "(II)Z" } : Jvm.MethodName)) ∈ lw_tbl := lw_at lw_m2 13 rfl
theorem q271 : (Jvm.Cond.instanceMethod ({ cls := "PersistentMapModel", name := "leads", desc := "(II)Z" } : Jvm.MethodName)) ∈ lw_all := lw_g (lw_at lw_m2 14 rfl) rfl
theorem q272 : (Jvm.Cond.code ({ cls := "PersistentMapModel", name := "leads", desc := "(II)Z" } : Jvm.MethodName) prog_3_method_15_code (5 : Nat) (Option.some Jvm.ClassFile.FieldType.boolean)) ∈ lw_all := lw_g (lw_at lw_m2 15 rfl) rfl
theorem q274 : (Jvm.Cond.instanceMethod ({ cls := "PersistentMapModel", name := "meet", desc := "(II)I" } : Jvm.MethodName)) ∈ lw_all := lw_g (lw_at lw_m2 17 rfl) rfl
theorem q275 : (Jvm.Cond.selects "PersistentMapModel" ({ cls := "PersistentMapModel", name := "meet", desc := "(II)I" } : Jvm.MethodName) ({ cls := "PersistentMapModel", name := "meet", desc := "(II)I" } : Jvm.MethodName)) ∈ lw_all := lw_g (lw_at lw_m2 18 rfl) rfl
theorem q276 : (Jvm.Cond.code ({ cls := "PersistentMapModel", name := "meet", desc := "(II)I" } : Jvm.MethodName) prog_3_method_17_code (5 : Nat) (Option.some Jvm.ClassFile.FieldType.int)) ∈ lw_all := lw_g (lw_at lw_m2 19 rfl) rfl
theorem q278 : (Jvm.Cond.instanceMethod ({ cls := "PersistentMapModel", name := "family", desc := "(I)I" } : Jvm.MethodName)) ∈ lw_all := lw_g (lw_at lw_m2 21 rfl) rfl
theorem q279 : (Jvm.Cond.selects "PersistentMapModel" ({ cls := "PersistentMapModel", name := "family", desc := "(I)I" } : Jvm.MethodName) ({ cls := "PersistentMapModel", name := "family", desc := "(I)I" } : Jvm.MethodName)) ∈ lw_all := lw_g (lw_at lw_m2 22 rfl) rfl
theorem q280 : (Jvm.Cond.code ({ cls := "PersistentMapModel", name := "family", desc := "(I)I" } : Jvm.MethodName) prog_3_method_18_code (4 : Nat) (Option.some Jvm.ClassFile.FieldType.int)) ∈ lw_all := lw_g (lw_at lw_m2 23 rfl) rfl
theorem q282 : (Jvm.Cond.instanceMethod ({ cls := "PersistentMapModel", name := "has", desc := "(II)I" } : Jvm.MethodName)) ∈ lw_all := lw_g (lw_at lw_m2 25 rfl) rfl
theorem q283 : (Jvm.Cond.selects "PersistentMapModel" ({ cls := "PersistentMapModel", name := "has", desc := "(II)I" } : Jvm.MethodName) ({ cls := "PersistentMapModel", name := "has", desc := "(II)I" } : Jvm.MethodName)) ∈ lw_all := lw_g (lw_at lw_m2 26 rfl) rfl
theorem q284 : (Jvm.Cond.code ({ cls := "PersistentMapModel", name := "has", desc := "(II)I" } : Jvm.MethodName) prog_3_method_19_code (3 : Nat) (Option.some Jvm.ClassFile.FieldType.int)) ∈ lw_all := lw_g (lw_at lw_m2 27 rfl) rfl
theorem q286 : (Jvm.Cond.instanceMethod ({ cls := "PersistentMapModel", name := "get", desc := "(II)I" } : Jvm.MethodName)) ∈ lw_all := lw_g (lw_at lw_m2 29 rfl) rfl
theorem q287 : (Jvm.Cond.selects "PersistentMapModel" ({ cls := "PersistentMapModel", name := "get", desc := "(II)I" } : Jvm.MethodName) ({ cls := "PersistentMapModel", name := "get", desc := "(II)I" } : Jvm.MethodName)) ∈ lw_all := lw_g (lw_at lw_m2 30 rfl) rfl
theorem q288 : (Jvm.Cond.code ({ cls := "PersistentMapModel", name := "get", desc := "(II)I" } : Jvm.MethodName) prog_3_method_20_code (3 : Nat) (Option.some Jvm.ClassFile.FieldType.int)) ∈ lw_all := lw_g (lw_at lw_m2 31 rfl) rfl
theorem q290 : (Jvm.Cond.instanceMethod ({ cls := "PersistentMapModel", name := "size", desc := "(I)I" } : Jvm.MethodName)) ∈ lw_all := lw_g (lw_at lw_m2 33 rfl) rfl
theorem q291 : (Jvm.Cond.selects "PersistentMapModel" ({ cls := "PersistentMapModel", name := "size", desc := "(I)I" } : Jvm.MethodName) ({ cls := "PersistentMapModel", name := "size", desc := "(I)I" } : Jvm.MethodName)) ∈ lw_all := lw_g (lw_at lw_m2 34 rfl) rfl
theorem q292 : (Jvm.Cond.code ({ cls := "PersistentMapModel", name := "size", desc := "(I)I" } : Jvm.MethodName) prog_3_method_21_code (4 : Nat) (Option.some Jvm.ClassFile.FieldType.int)) ∈ lw_all := lw_g (lw_at lw_m2 35 rfl) rfl
theorem q294 : (Jvm.Cond.instanceMethod ({ cls := "PersistentMapModel", name := "next", desc := "(II)I" } : Jvm.MethodName)) ∈ lw_all := lw_g (lw_at lw_m2 37 rfl) rfl
theorem q295 : (Jvm.Cond.selects "PersistentMapModel" ({ cls := "PersistentMapModel", name := "next", desc := "(II)I" } : Jvm.MethodName) ({ cls := "PersistentMapModel", name := "next", desc := "(II)I" } : Jvm.MethodName)) ∈ lw_all := lw_g (lw_at lw_m2 38 rfl) rfl
theorem q296 : (Jvm.Cond.code ({ cls := "PersistentMapModel", name := "next", desc := "(II)I" } : Jvm.MethodName) prog_3_method_22_code (4 : Nat) (Option.some Jvm.ClassFile.FieldType.int)) ∈ lw_all := lw_g (lw_at lw_m2 39 rfl) rfl
theorem q298 : (Jvm.Cond.instanceMethod ({ cls := "PersistentMapModel", name := "previous", desc := "(II)I" } : Jvm.MethodName)) ∈ lw_all := lw_g (lw_at lw_m2 41 rfl) rfl
theorem q299 : (Jvm.Cond.selects "PersistentMapModel" ({ cls := "PersistentMapModel", name := "previous", desc := "(II)I" } : Jvm.MethodName) ({ cls := "PersistentMapModel", name := "previous", desc := "(II)I" } : Jvm.MethodName)) ∈ lw_all := lw_g (lw_at lw_m2 42 rfl) rfl
theorem q300 : (Jvm.Cond.code ({ cls := "PersistentMapModel", name := "previous", desc := "(II)I" } : Jvm.MethodName) prog_3_method_23_code (4 : Nat) (Option.some Jvm.ClassFile.FieldType.int)) ∈ lw_all := lw_g (lw_at lw_m2 43 rfl) rfl
theorem q302 : (Jvm.Cond.instanceMethod ({ cls := "PersistentMapModel", name := "select", desc := "(II)I" } : Jvm.MethodName)) ∈ lw_all := lw_g (lw_at lw_m2 45 rfl) rfl
theorem q303 : (Jvm.Cond.selects "PersistentMapModel" ({ cls := "PersistentMapModel", name := "select", desc := "(II)I" } : Jvm.MethodName) ({ cls := "PersistentMapModel", name := "select", desc := "(II)I" } : Jvm.MethodName)) ∈ lw_all := lw_g (lw_at lw_m2 46 rfl) rfl
theorem q304 : (Jvm.Cond.code ({ cls := "PersistentMapModel", name := "select", desc := "(II)I" } : Jvm.MethodName) prog_3_method_24_code (5 : Nat) (Option.some Jvm.ClassFile.FieldType.int)) ∈ lw_all := lw_g (lw_at lw_m2 47 rfl) rfl
theorem q306 : (Jvm.Cond.instanceMethod ({ cls := "PersistentMapModel", name := "sum", desc := "(III)I" } : Jvm.MethodName)) ∈ lw_all := lw_g (lw_at lw_m2 49 rfl) rfl
theorem q307 : (Jvm.Cond.selects "PersistentMapModel" ({ cls := "PersistentMapModel", name := "sum", desc := "(III)I" } : Jvm.MethodName) ({ cls := "PersistentMapModel", name := "sum", desc := "(III)I" } : Jvm.MethodName)) ∈ lw_all := lw_g (lw_at lw_m2 50 rfl) rfl
theorem q308 : (Jvm.Cond.code ({ cls := "PersistentMapModel", name := "sum", desc := "(III)I" } : Jvm.MethodName) prog_3_method_25_code (6 : Nat) (Option.some Jvm.ClassFile.FieldType.int)) ∈ lw_all := lw_g (lw_at lw_m2 51 rfl) rfl
theorem q310 : (Jvm.Cond.instanceMethod ({ cls := "PersistentMapModel", name := "differing", desc := "(II)I" } : Jvm.MethodName)) ∈ lw_all := lw_g (lw_at lw_m2 53 rfl) rfl
theorem q311 : (Jvm.Cond.selects "PersistentMapModel" ({ cls := "PersistentMapModel", name := "differing", desc := "(II)I" } : Jvm.MethodName) ({ cls := "PersistentMapModel", name := "differing", desc := "(II)I" } : Jvm.MethodName)) ∈ lw_all := lw_g (lw_at lw_m2 54 rfl) rfl
theorem q312 : (Jvm.Cond.code ({ cls := "PersistentMapModel", name := "differing", desc := "(II)I" } : Jvm.MethodName) prog_3_method_27_code (5 : Nat) (Option.some Jvm.ClassFile.FieldType.int)) ∈ lw_all := lw_g (lw_at lw_m2 55 rfl) rfl
theorem q313 : (Jvm.Cond.methodLink "PersistentMapModel" (50 : Nat) ({ cls := "PersistentMapModel", name := "agree", desc := "(III)Z" } : Jvm.MethodName)) ∈ lw_all := lw_g (lw_at lw_m2 56 rfl) rfl
theorem q314 : (Jvm.Cond.privateMethod ({ cls := "PersistentMapModel", name := "agree", desc := "(III)Z" } : Jvm.MethodName)) ∈ lw_tbl := lw_at lw_m2 57 rfl
theorem q315 : (Jvm.Cond.instanceMethod ({ cls := "PersistentMapModel", name := "agree", desc := "(III)Z" } : Jvm.MethodName)) ∈ lw_all := lw_g (lw_at lw_m2 58 rfl) rfl
theorem q316 : (Jvm.Cond.code ({ cls := "PersistentMapModel", name := "agree", desc := "(III)Z" } : Jvm.MethodName) prog_3_method_26_code (4 : Nat) (Option.some Jvm.ClassFile.FieldType.boolean)) ∈ lw_all := lw_g (lw_at lw_m2 59 rfl) rfl
theorem q318 : (Jvm.Cond.instanceMethod ({ cls := "PersistentMapModel", name := "spread", desc := "(I)I" } : Jvm.MethodName)) ∈ lw_all := lw_g (lw_at lw_m2 61 rfl) rfl
theorem q319 : (Jvm.Cond.selects "PersistentMapModel" ({ cls := "PersistentMapModel", name := "spread", desc := "(I)I" } : Jvm.MethodName) ({ cls := "PersistentMapModel", name := "spread", desc := "(I)I" } : Jvm.MethodName)) ∈ lw_all := lw_g (lw_at lw_m2 62 rfl) rfl
theorem q320 : (Jvm.Cond.code ({ cls := "PersistentMapModel", name := "spread", desc := "(I)I" } : Jvm.MethodName) prog_3_method_28_code (4 : Nat) (Option.some Jvm.ClassFile.FieldType.int)) ∈ lw_all := lw_g (lw_at lw_m2 63 rfl) rfl
theorem q322 : (Jvm.Cond.instanceMethod ({ cls := "PersistentMapModel", name := "changes", desc := "(I)I" } : Jvm.MethodName)) ∈ lw_all := lw_g (lw_at lw_m2 65 rfl) rfl
theorem q323 : (Jvm.Cond.selects "PersistentMapModel" ({ cls := "PersistentMapModel", name := "changes", desc := "(I)I" } : Jvm.MethodName) ({ cls := "PersistentMapModel", name := "changes", desc := "(I)I" } : Jvm.MethodName)) ∈ lw_all := lw_g (lw_at lw_m2 66 rfl) rfl
theorem q324 : (Jvm.Cond.code ({ cls := "PersistentMapModel", name := "changes", desc := "(I)I" } : Jvm.MethodName) prog_3_method_29_code (4 : Nat) (Option.some Jvm.ClassFile.FieldType.int)) ∈ lw_all := lw_g (lw_at lw_m2 67 rfl) rfl
theorem in_X1 : ∀ w ∈ wsX10, w ∈ lw_all := lw_in wsX10 [204, 206, 208, 210] (by decide +kernel) (by decide +kernel)
end
section
set_option maxRecDepth 100000
theorem dX0_init_0 : decode cX0_init 0 = .ok (.aload_n 0, 1) := by decide +kernel
theorem dX0_init_1 : decode cX0_init 1 = .ok (.invokespecial 1, 3) := by decide +kernel
theorem dX0_init_4 : decode cX0_init 4 = .ok (.aload_n 0, 1) := by decide +kernel
theorem dX0_init_5 : decode cX0_init 5 = .ok (.bipush 40, 2) := by decide +kernel
theorem dX0_init_7 : decode cX0_init 7 = .ok (.newarray .int, 2) := by decide +kernel
theorem dX0_init_9 : decode cX0_init 9 = .ok (.putfield 7, 3) := by decide +kernel
theorem dX0_init_12 : decode cX0_init 12 = .ok (.aload_n 0, 1) := by decide +kernel
theorem dX0_init_13 : decode cX0_init 13 = .ok (.bipush 40, 2) := by decide +kernel
theorem dX0_init_15 : decode cX0_init 15 = .ok (.newarray .long, 2) := by decide +kernel
theorem dX0_init_17 : decode cX0_init 17 = .ok (.putfield 13, 3) := by decide +kernel
theorem dX0_init_20 : decode cX0_init 20 = .ok (.aload_n 0, 1) := by decide +kernel
theorem dX0_init_21 : decode cX0_init 21 = .ok (.bipush 40, 2) := by decide +kernel
theorem dX0_init_23 : decode cX0_init 23 = .ok (.newarray .int, 2) := by decide +kernel
theorem dX0_init_25 : decode cX0_init 25 = .ok (.putfield 17, 3) := by decide +kernel
theorem dX0_init_28 : decode cX0_init 28 = .ok (.aload_n 0, 1) := by decide +kernel
theorem dX0_init_29 : decode cX0_init 29 = .ok (.bipush 32, 2) := by decide +kernel
theorem dX0_init_31 : decode cX0_init 31 = .ok (.newarray .int, 2) := by decide +kernel
theorem dX0_init_33 : decode cX0_init 33 = .ok (.putfield 20, 3) := by decide +kernel
theorem dX0_init_36 : decode cX0_init 36 = .ok (.aload_n 0, 1) := by decide +kernel
theorem dX0_init_37 : decode cX0_init 37 = .ok (.sipush 640, 3) := by decide +kernel
theorem dX0_init_40 : decode cX0_init 40 = .ok (.newarray .int, 2) := by decide +kernel
theorem dX0_init_42 : decode cX0_init 42 = .ok (.putfield 23, 3) := by decide +kernel
theorem dX0_init_45 : decode cX0_init 45 = .ok (.aload_n 0, 1) := by decide +kernel
theorem dX0_init_46 : decode cX0_init 46 = .ok (.sipush 640, 3) := by decide +kernel
theorem dX0_init_49 : decode cX0_init 49 = .ok (.newarray .int, 2) := by decide +kernel
theorem dX0_init_51 : decode cX0_init 51 = .ok (.putfield 26, 3) := by decide +kernel
theorem dX0_init_54 : decode cX0_init 54 = .ok (.aload_n 0, 1) := by decide +kernel
theorem dX0_init_55 : decode cX0_init 55 = .ok (.sipush 640, 3) := by decide +kernel
theorem dX0_init_58 : decode cX0_init 58 = .ok (.newarray .boolean, 2) := by decide +kernel
theorem dX0_init_60 : decode cX0_init 60 = .ok (.putfield 29, 3) := by decide +kernel
theorem dX0_init_63 : decode cX0_init 63 = .ok (.aload_n 0, 1) := by decide +kernel
theorem dX0_init_64 : decode cX0_init 64 = .ok (.sipush 640, 3) := by decide +kernel
theorem dX0_init_67 : decode cX0_init 67 = .ok (.newarray .int, 2) := by decide +kernel
theorem dX0_init_69 : decode cX0_init 69 = .ok (.putfield 33, 3) := by decide +kernel
theorem dX0_init_72 : decode cX0_init 72 = .ok (.aload_n 0, 1) := by decide +kernel
theorem dX0_init_73 : decode cX0_init 73 = .ok (.getfield 7, 3) := by decide +kernel
theorem dX0_init_76 : decode cX0_init 76 = .ok (.iconst 0, 1) := by decide +kernel
theorem dX0_init_77 : decode cX0_init 77 = .ok (.iconst (-1), 1) := by decide +kernel
theorem dX0_init_78 : decode cX0_init 78 = .ok (.iastore, 1) := by decide +kernel
theorem dX0_init_79 : decode cX0_init 79 = .ok (.aload_n 0, 1) := by decide +kernel
theorem dX0_init_80 : decode cX0_init 80 = .ok (.getfield 17, 3) := by decide +kernel
theorem dX0_init_83 : decode cX0_init 83 = .ok (.iconst 0, 1) := by decide +kernel
theorem dX0_init_84 : decode cX0_init 84 = .ok (.iconst (-1), 1) := by decide +kernel
theorem dX0_init_85 : decode cX0_init 85 = .ok (.iastore, 1) := by decide +kernel
theorem dX0_init_86 : decode cX0_init 86 = .ok (.aload_n 0, 1) := by decide +kernel
theorem dX0_init_87 : decode cX0_init 87 = .ok (.getfield 13, 3) := by decide +kernel
theorem dX0_init_90 : decode cX0_init 90 = .ok (.iconst 0, 1) := by decide +kernel
theorem dX0_init_91 : decode cX0_init 91 = .ok (.ldc2_w 36, 3) := by decide +kernel
theorem dX0_init_94 : decode cX0_init 94 = .ok (.lastore, 1) := by decide +kernel
theorem dX0_init_95 : decode cX0_init 95 = .ok (.aload_n 0, 1) := by decide +kernel
theorem dX0_init_96 : decode cX0_init 96 = .ok (.iconst 1, 1) := by decide +kernel
theorem dX0_init_97 : decode cX0_init 97 = .ok (.putfield 38, 3) := by decide +kernel
theorem dX0_init_100 : decode cX0_init 100 = .ok (.iconst 0, 1) := by decide +kernel
theorem dX0_init_101 : decode cX0_init 101 = .ok (.istore_n 1, 1) := by decide +kernel
theorem dX0_init_102 : decode cX0_init 102 = .ok (.iload_n 1, 1) := by decide +kernel
theorem dX0_init_103 : decode cX0_init 103 = .ok (.bipush 32, 2) := by decide +kernel
theorem dX0_init_105 : decode cX0_init 105 = .ok (.if_icmp .ge 16, 3) := by decide +kernel
theorem dX0_init_108 : decode cX0_init 108 = .ok (.aload_n 0, 1) := by decide +kernel
theorem dX0_init_109 : decode cX0_init 109 = .ok (.getfield 20, 3) := by decide +kernel
theorem dX0_init_112 : decode cX0_init 112 = .ok (.iload_n 1, 1) := by decide +kernel
theorem dX0_init_113 : decode cX0_init 113 = .ok (.iconst (-1), 1) := by decide +kernel
theorem dX0_init_114 : decode cX0_init 114 = .ok (.iastore, 1) := by decide +kernel
theorem dX0_init_115 : decode cX0_init 115 = .ok (.iinc 1 1, 3) := by decide +kernel
theorem dX0_init_118 : decode cX0_init 118 = .ok (.goto (-16), 3) := by decide +kernel
theorem dX0_init_121 : decode cX0_init 121 = .ok (.return_, 1) := by decide +kernel
theorem dX0_put_0 : decode cX0_put 0 = .ok (.aload_n 0, 1) := by decide +kernel
theorem dX0_put_1 : decode cX0_put 1 = .ok (.iload_n 1, 1) := by decide +kernel
theorem dX0_put_2 : decode cX0_put 2 = .ok (.invokevirtual 42, 3) := by decide +kernel
theorem dX0_put_5 : decode cX0_put 5 = .ok (.ifCond .ne 5, 3) := by decide +kernel
theorem dX0_put_8 : decode cX0_put 8 = .ok (.iconst (-1), 1) := by decide +kernel
theorem dX0_put_9 : decode cX0_put 9 = .ok (.ireturn, 1) := by decide +kernel
theorem dX0_put_10 : decode cX0_put 10 = .ok (.iload_n 2, 1) := by decide +kernel
theorem dX0_put_11 : decode cX0_put 11 = .ok (.invokestatic 46, 3) := by decide +kernel
theorem dX0_put_14 : decode cX0_put 14 = .ok (.ifCond .ne 6, 3) := by decide +kernel
theorem dX0_put_17 : decode cX0_put 17 = .ok (.bipush (-2), 2) := by decide +kernel
theorem dX0_put_19 : decode cX0_put 19 = .ok (.ireturn, 1) := by decide +kernel
theorem dX0_put_20 : decode cX0_put 20 = .ok (.aload_n 0, 1) := by decide +kernel
theorem dX0_put_21 : decode cX0_put 21 = .ok (.getfield 38, 3) := by decide +kernel
theorem dX0_put_24 : decode cX0_put 24 = .ok (.bipush 40, 2) := by decide +kernel
theorem dX0_put_26 : decode cX0_put 26 = .ok (.if_icmp .ne 6, 3) := by decide +kernel
theorem dX0_put_29 : decode cX0_put 29 = .ok (.bipush (-3), 2) := by decide +kernel
theorem dX0_put_31 : decode cX0_put 31 = .ok (.ireturn, 1) := by decide +kernel
theorem dX0_put_32 : decode cX0_put 32 = .ok (.aload_n 0, 1) := by decide +kernel
theorem dX0_put_33 : decode cX0_put 33 = .ok (.iload_n 1, 1) := by decide +kernel
theorem dX0_put_34 : decode cX0_put 34 = .ok (.invokevirtual 49, 3) := by decide +kernel
theorem dX0_put_37 : decode cX0_put 37 = .ok (.istore 4, 2) := by decide +kernel
theorem dX0_put_39 : decode cX0_put 39 = .ok (.aload_n 0, 1) := by decide +kernel
theorem dX0_put_40 : decode cX0_put 40 = .ok (.iload 4, 2) := by decide +kernel
theorem dX0_put_42 : decode cX0_put 42 = .ok (.iload_n 2, 1) := by decide +kernel
theorem dX0_put_43 : decode cX0_put 43 = .ok (.iconst 1, 1) := by decide +kernel
theorem dX0_put_44 : decode cX0_put 44 = .ok (.iload_n 3, 1) := by decide +kernel
theorem dX0_put_45 : decode cX0_put 45 = .ok (.invokevirtual 53, 3) := by decide +kernel
theorem dX0_put_48 : decode cX0_put 48 = .ok (.iload 4, 2) := by decide +kernel
theorem dX0_put_50 : decode cX0_put 50 = .ok (.ireturn, 1) := by decide +kernel
theorem dX0_isVersion_0 : decode cX0_isVersion 0 = .ok (.iload_n 1, 1) := by decide +kernel
theorem dX0_isVersion_1 : decode cX0_isVersion 1 = .ok (.ifCond .lt 15, 3) := by decide +kernel
theorem dX0_isVersion_4 : decode cX0_isVersion 4 = .ok (.iload_n 1, 1) := by decide +kernel
theorem dX0_isVersion_5 : decode cX0_isVersion 5 = .ok (.aload_n 0, 1) := by decide +kernel
theorem dX0_isVersion_6 : decode cX0_isVersion 6 = .ok (.getfield 38, 3) := by decide +kernel
theorem dX0_isVersion_9 : decode cX0_isVersion 9 = .ok (.if_icmp .ge 7, 3) := by decide +kernel
theorem dX0_isVersion_12 : decode cX0_isVersion 12 = .ok (.iconst 1, 1) := by decide +kernel
theorem dX0_isVersion_13 : decode cX0_isVersion 13 = .ok (.goto 4, 3) := by decide +kernel
theorem dX0_isVersion_16 : decode cX0_isVersion 16 = .ok (.iconst 0, 1) := by decide +kernel
theorem dX0_isVersion_17 : decode cX0_isVersion 17 = .ok (.ireturn, 1) := by decide +kernel
theorem dX0_isKey_0 : decode cX0_isKey 0 = .ok (.iload_n 0, 1) := by decide +kernel
theorem dX0_isKey_1 : decode cX0_isKey 1 = .ok (.ifCond .lt 13, 3) := by decide +kernel
theorem dX0_isKey_4 : decode cX0_isKey 4 = .ok (.iload_n 0, 1) := by decide +kernel
theorem dX0_isKey_5 : decode cX0_isKey 5 = .ok (.bipush 32, 2) := by decide +kernel
theorem dX0_isKey_7 : decode cX0_isKey 7 = .ok (.if_icmp .ge 7, 3) := by decide +kernel
theorem dX0_isKey_10 : decode cX0_isKey 10 = .ok (.iconst 1, 1) := by decide +kernel
theorem dX0_isKey_11 : decode cX0_isKey 11 = .ok (.goto 4, 3) := by decide +kernel
theorem dX0_isKey_14 : decode cX0_isKey 14 = .ok (.iconst 0, 1) := by decide +kernel
theorem dX0_isKey_15 : decode cX0_isKey 15 = .ok (.ireturn, 1) := by decide +kernel
theorem dX0_open_0 : decode cX0_open 0 = .ok (.aload_n 0, 1) := by decide +kernel
theorem dX0_open_1 : decode cX0_open 1 = .ok (.getfield 38, 3) := by decide +kernel
theorem dX0_open_4 : decode cX0_open 4 = .ok (.istore_n 2, 1) := by decide +kernel
theorem dX0_open_5 : decode cX0_open 5 = .ok (.aload_n 0, 1) := by decide +kernel
theorem dX0_open_6 : decode cX0_open 6 = .ok (.getfield 7, 3) := by decide +kernel
theorem dX0_open_9 : decode cX0_open 9 = .ok (.iload_n 2, 1) := by decide +kernel
theorem dX0_open_10 : decode cX0_open 10 = .ok (.iload_n 1, 1) := by decide +kernel
theorem dX0_open_11 : decode cX0_open 11 = .ok (.iastore, 1) := by decide +kernel
theorem dX0_open_12 : decode cX0_open 12 = .ok (.aload_n 0, 1) := by decide +kernel
theorem dX0_open_13 : decode cX0_open 13 = .ok (.getfield 17, 3) := by decide +kernel
theorem dX0_open_16 : decode cX0_open 16 = .ok (.iload_n 2, 1) := by decide +kernel
theorem dX0_open_17 : decode cX0_open 17 = .ok (.aload_n 0, 1) := by decide +kernel
theorem dX0_open_18 : decode cX0_open 18 = .ok (.getfield 17, 3) := by decide +kernel
theorem dX0_open_21 : decode cX0_open 21 = .ok (.iload_n 1, 1) := by decide +kernel
theorem dX0_open_22 : decode cX0_open 22 = .ok (.iaload, 1) := by decide +kernel
theorem dX0_open_23 : decode cX0_open 23 = .ok (.iastore, 1) := by decide +kernel
theorem dX0_open_24 : decode cX0_open 24 = .ok (.aload_n 0, 1) := by decide +kernel
theorem dX0_open_25 : decode cX0_open 25 = .ok (.getfield 17, 3) := by decide +kernel
theorem dX0_open_28 : decode cX0_open 28 = .ok (.iload_n 1, 1) := by decide +kernel
theorem dX0_open_29 : decode cX0_open 29 = .ok (.iload_n 2, 1) := by decide +kernel
theorem dX0_open_30 : decode cX0_open 30 = .ok (.iastore, 1) := by decide +kernel
theorem dX0_open_31 : decode cX0_open 31 = .ok (.aload_n 0, 1) := by decide +kernel
theorem dX0_open_32 : decode cX0_open 32 = .ok (.dup, 1) := by decide +kernel
theorem dX0_open_33 : decode cX0_open 33 = .ok (.getfield 38, 3) := by decide +kernel
theorem dX0_open_36 : decode cX0_open 36 = .ok (.iconst 1, 1) := by decide +kernel
theorem dX0_open_37 : decode cX0_open 37 = .ok (.iadd, 1) := by decide +kernel
theorem dX0_open_38 : decode cX0_open 38 = .ok (.putfield 38, 3) := by decide +kernel
theorem dX0_open_41 : decode cX0_open 41 = .ok (.aload_n 0, 1) := by decide +kernel
theorem dX0_open_42 : decode cX0_open 42 = .ok (.getfield 17, 3) := by decide +kernel
theorem dX0_open_45 : decode cX0_open 45 = .ok (.iload_n 2, 1) := by decide +kernel
theorem dX0_open_46 : decode cX0_open 46 = .ok (.iaload, 1) := by decide +kernel
theorem dX0_open_47 : decode cX0_open 47 = .ok (.iconst (-1), 1) := by decide +kernel
theorem dX0_open_48 : decode cX0_open 48 = .ok (.if_icmp .ne 9, 3) := by decide +kernel
theorem dX0_open_51 : decode cX0_open 51 = .ok (.ldc2_w 83, 3) := by decide +kernel
theorem dX0_open_54 : decode cX0_open 54 = .ok (.goto 14, 3) := by decide +kernel
theorem dX0_open_57 : decode cX0_open 57 = .ok (.aload_n 0, 1) := by decide +kernel
theorem dX0_open_58 : decode cX0_open 58 = .ok (.getfield 13, 3) := by decide +kernel
theorem dX0_open_61 : decode cX0_open 61 = .ok (.aload_n 0, 1) := by decide +kernel
theorem dX0_open_62 : decode cX0_open 62 = .ok (.getfield 17, 3) := by decide +kernel
theorem dX0_open_65 : decode cX0_open 65 = .ok (.iload_n 2, 1) := by decide +kernel
theorem dX0_open_66 : decode cX0_open 66 = .ok (.iaload, 1) := by decide +kernel
theorem dX0_open_67 : decode cX0_open 67 = .ok (.laload, 1) := by decide +kernel
theorem dX0_open_68 : decode cX0_open 68 = .ok (.lstore_n 3, 1) := by decide +kernel
theorem dX0_open_69 : decode cX0_open 69 = .ok (.lload_n 3, 1) := by decide +kernel
theorem dX0_open_70 : decode cX0_open 70 = .ok (.aload_n 0, 1) := by decide +kernel
theorem dX0_open_71 : decode cX0_open 71 = .ok (.getfield 13, 3) := by decide +kernel
theorem dX0_open_74 : decode cX0_open 74 = .ok (.iload_n 1, 1) := by decide +kernel
theorem dX0_open_75 : decode cX0_open 75 = .ok (.laload, 1) := by decide +kernel
theorem dX0_open_76 : decode cX0_open 76 = .ok (.lsub, 1) := by decide +kernel
theorem dX0_open_77 : decode cX0_open 77 = .ok (.lstore 5, 2) := by decide +kernel
theorem dX0_open_79 : decode cX0_open 79 = .ok (.lload 5, 2) := by decide +kernel
theorem dX0_open_81 : decode cX0_open 81 = .ok (.ldc2_w 85, 3) := by decide +kernel
theorem dX0_open_84 : decode cX0_open 84 = .ok (.lcmp, 1) := by decide +kernel
theorem dX0_open_85 : decode cX0_open 85 = .ok (.ifCond .ge 10, 3) := by decide +kernel
theorem dX0_open_88 : decode cX0_open 88 = .ok (.aload_n 0, 1) := by decide +kernel
theorem dX0_open_89 : decode cX0_open 89 = .ok (.invokevirtual 87, 3) := by decide +kernel
theorem dX0_open_92 : decode cX0_open 92 = .ok (.goto 22, 3) := by decide +kernel
theorem dX0_open_95 : decode cX0_open 95 = .ok (.aload_n 0, 1) := by decide +kernel
theorem dX0_open_96 : decode cX0_open 96 = .ok (.getfield 13, 3) := by decide +kernel
theorem dX0_open_99 : decode cX0_open 99 = .ok (.iload_n 2, 1) := by decide +kernel
theorem dX0_open_100 : decode cX0_open 100 = .ok (.aload_n 0, 1) := by decide +kernel
theorem dX0_open_101 : decode cX0_open 101 = .ok (.getfield 13, 3) := by decide +kernel
theorem dX0_open_104 : decode cX0_open 104 = .ok (.iload_n 1, 1) := by decide +kernel
theorem dX0_open_105 : decode cX0_open 105 = .ok (.laload, 1) := by decide +kernel
theorem dX0_open_106 : decode cX0_open 106 = .ok (.lload 5, 2) := by decide +kernel
theorem dX0_open_108 : decode cX0_open 108 = .ok (.ldc2_w 85, 3) := by decide +kernel
theorem dX0_open_111 : decode cX0_open 111 = .ok (.ldiv, 1) := by decide +kernel
theorem dX0_open_112 : decode cX0_open 112 = .ok (.ladd, 1) := by decide +kernel
theorem dX0_open_113 : decode cX0_open 113 = .ok (.lastore, 1) := by decide +kernel
theorem dX0_open_114 : decode cX0_open 114 = .ok (.iload_n 2, 1) := by decide +kernel
theorem dX0_open_115 : decode cX0_open 115 = .ok (.ireturn, 1) := by decide +kernel
theorem dX0_spreadLabels_0 : decode cX0_spreadLabels 0 = .ok (.ldc2_w 90, 3) := by decide +kernel
theorem dX0_spreadLabels_3 : decode cX0_spreadLabels 3 = .ok (.lstore_n 1, 1) := by decide +kernel
theorem dX0_spreadLabels_4 : decode cX0_spreadLabels 4 = .ok (.iconst 0, 1) := by decide +kernel
theorem dX0_spreadLabels_5 : decode cX0_spreadLabels 5 = .ok (.istore_n 3, 1) := by decide +kernel
theorem dX0_spreadLabels_6 : decode cX0_spreadLabels 6 = .ok (.iload_n 3, 1) := by decide +kernel
theorem dX0_spreadLabels_7 : decode cX0_spreadLabels 7 = .ok (.iconst (-1), 1) := by decide +kernel
theorem dX0_spreadLabels_8 : decode cX0_spreadLabels 8 = .ok (.if_icmp .eq 26, 3) := by decide +kernel
theorem dX0_spreadLabels_11 : decode cX0_spreadLabels 11 = .ok (.aload_n 0, 1) := by decide +kernel
theorem dX0_spreadLabels_12 : decode cX0_spreadLabels 12 = .ok (.getfield 13, 3) := by decide +kernel
theorem dX0_spreadLabels_15 : decode cX0_spreadLabels 15 = .ok (.iload_n 3, 1) := by decide +kernel
theorem dX0_spreadLabels_16 : decode cX0_spreadLabels 16 = .ok (.lload_n 1, 1) := by decide +kernel
theorem dX0_spreadLabels_17 : decode cX0_spreadLabels 17 = .ok (.lastore, 1) := by decide +kernel
theorem dX0_spreadLabels_18 : decode cX0_spreadLabels 18 = .ok (.lload_n 1, 1) := by decide +kernel
theorem dX0_spreadLabels_19 : decode cX0_spreadLabels 19 = .ok (.ldc2_w 90, 3) := by decide +kernel
theorem dX0_spreadLabels_22 : decode cX0_spreadLabels 22 = .ok (.ladd, 1) := by decide +kernel
theorem dX0_spreadLabels_23 : decode cX0_spreadLabels 23 = .ok (.lstore_n 1, 1) := by decide +kernel
theorem dX0_spreadLabels_24 : decode cX0_spreadLabels 24 = .ok (.aload_n 0, 1) := by decide +kernel
theorem dX0_spreadLabels_25 : decode cX0_spreadLabels 25 = .ok (.getfield 17, 3) := by decide +kernel
theorem dX0_spreadLabels_28 : decode cX0_spreadLabels 28 = .ok (.iload_n 3, 1) := by decide +kernel
theorem dX0_spreadLabels_29 : decode cX0_spreadLabels 29 = .ok (.iaload, 1) := by decide +kernel
theorem dX0_spreadLabels_30 : decode cX0_spreadLabels 30 = .ok (.istore_n 3, 1) := by decide +kernel
theorem dX0_spreadLabels_31 : decode cX0_spreadLabels 31 = .ok (.goto (-25), 3) := by decide +kernel
theorem dX0_spreadLabels_34 : decode cX0_spreadLabels 34 = .ok (.return_, 1) := by decide +kernel
theorem dX0_write_0 : decode cX0_write 0 = .ok (.aload_n 0, 1) := by decide +kernel
theorem dX0_write_1 : decode cX0_write 1 = .ok (.getfield 17, 3) := by decide +kernel
theorem dX0_write_4 : decode cX0_write 4 = .ok (.iload_n 1, 1) := by decide +kernel
theorem dX0_write_5 : decode cX0_write 5 = .ok (.iaload, 1) := by decide +kernel
theorem dX0_write_6 : decode cX0_write 6 = .ok (.istore 5, 2) := by decide +kernel
theorem dX0_write_8 : decode cX0_write 8 = .ok (.aload_n 0, 1) := by decide +kernel
theorem dX0_write_9 : decode cX0_write 9 = .ok (.iload_n 2, 1) := by decide +kernel
theorem dX0_write_10 : decode cX0_write 10 = .ok (.iconst (-1), 1) := by decide +kernel
theorem dX0_write_11 : decode cX0_write 11 = .ok (.iload_n 1, 1) := by decide +kernel
theorem dX0_write_12 : decode cX0_write 12 = .ok (.invokevirtual 79, 3) := by decide +kernel
theorem dX0_write_15 : decode cX0_write 15 = .ok (.istore 6, 2) := by decide +kernel
theorem dX0_write_17 : decode cX0_write 17 = .ok (.iload 6, 2) := by decide +kernel
theorem dX0_write_19 : decode cX0_write 19 = .ok (.iconst (-1), 1) := by decide +kernel
theorem dX0_write_20 : decode cX0_write 20 = .ok (.if_icmp .eq 32, 3) := by decide +kernel
theorem dX0_write_23 : decode cX0_write 23 = .ok (.aload_n 0, 1) := by decide +kernel
theorem dX0_write_24 : decode cX0_write 24 = .ok (.getfield 23, 3) := by decide +kernel
theorem dX0_write_27 : decode cX0_write 27 = .ok (.iload 6, 2) := by decide +kernel
theorem dX0_write_29 : decode cX0_write 29 = .ok (.iaload, 1) := by decide +kernel
theorem dX0_write_30 : decode cX0_write 30 = .ok (.iload_n 1, 1) := by decide +kernel
theorem dX0_write_31 : decode cX0_write 31 = .ok (.if_icmp .ne 21, 3) := by decide +kernel
theorem dX0_write_34 : decode cX0_write 34 = .ok (.aload_n 0, 1) := by decide +kernel
theorem dX0_write_35 : decode cX0_write 35 = .ok (.getfield 29, 3) := by decide +kernel
theorem dX0_write_38 : decode cX0_write 38 = .ok (.iload 6, 2) := by decide +kernel
theorem dX0_write_40 : decode cX0_write 40 = .ok (.iload_n 3, 1) := by decide +kernel
theorem dX0_write_41 : decode cX0_write 41 = .ok (.bastore, 1) := by decide +kernel
theorem dX0_write_42 : decode cX0_write 42 = .ok (.aload_n 0, 1) := by decide +kernel
theorem dX0_write_43 : decode cX0_write 43 = .ok (.getfield 26, 3) := by decide +kernel
theorem dX0_write_46 : decode cX0_write 46 = .ok (.iload 6, 2) := by decide +kernel
theorem dX0_write_48 : decode cX0_write 48 = .ok (.iload 4, 2) := by decide +kernel
theorem dX0_write_50 : decode cX0_write 50 = .ok (.iastore, 1) := by decide +kernel
theorem dX0_write_51 : decode cX0_write 51 = .ok (.return_, 1) := by decide +kernel
theorem dX0_write_52 : decode cX0_write 52 = .ok (.iload 6, 2) := by decide +kernel
theorem dX0_write_54 : decode cX0_write 54 = .ok (.iconst (-1), 1) := by decide +kernel
theorem dX0_write_55 : decode cX0_write 55 = .ok (.if_icmp .eq 17, 3) := by decide +kernel
theorem dX0_write_58 : decode cX0_write 58 = .ok (.aload_n 0, 1) := by decide +kernel
theorem dX0_write_59 : decode cX0_write 59 = .ok (.getfield 29, 3) := by decide +kernel
theorem dX0_write_62 : decode cX0_write 62 = .ok (.iload 6, 2) := by decide +kernel
theorem dX0_write_64 : decode cX0_write 64 = .ok (.baload, 1) := by decide +kernel
theorem dX0_write_65 : decode cX0_write 65 = .ok (.ifCond .eq 7, 3) := by decide +kernel
theorem dX0_write_68 : decode cX0_write 68 = .ok (.iconst 1, 1) := by decide +kernel
theorem dX0_write_69 : decode cX0_write 69 = .ok (.goto 4, 3) := by decide +kernel
theorem dX0_write_72 : decode cX0_write 72 = .ok (.iconst 0, 1) := by decide +kernel
theorem dX0_write_73 : decode cX0_write 73 = .ok (.istore 7, 2) := by decide +kernel
theorem dX0_write_75 : decode cX0_write 75 = .ok (.iload 7, 2) := by decide +kernel
theorem dX0_write_77 : decode cX0_write 77 = .ok (.ifCond .eq 13, 3) := by decide +kernel
theorem dX0_write_80 : decode cX0_write 80 = .ok (.aload_n 0, 1) := by decide +kernel
theorem dX0_write_81 : decode cX0_write 81 = .ok (.getfield 26, 3) := by decide +kernel
theorem dX0_write_84 : decode cX0_write 84 = .ok (.iload 6, 2) := by decide +kernel
theorem dX0_write_86 : decode cX0_write 86 = .ok (.iaload, 1) := by decide +kernel
theorem dX0_write_87 : decode cX0_write 87 = .ok (.goto 4, 3) := by decide +kernel
theorem dX0_write_90 : decode cX0_write 90 = .ok (.iconst 0, 1) := by decide +kernel
theorem dX0_write_91 : decode cX0_write 91 = .ok (.istore 8, 2) := by decide +kernel
theorem dX0_write_93 : decode cX0_write 93 = .ok (.aload_n 0, 1) := by decide +kernel
theorem dX0_write_94 : decode cX0_write 94 = .ok (.iload_n 2, 1) := by decide +kernel
theorem dX0_write_95 : decode cX0_write 95 = .ok (.iload 6, 2) := by decide +kernel
theorem dX0_write_97 : decode cX0_write 97 = .ok (.iload_n 1, 1) := by decide +kernel
theorem dX0_write_98 : decode cX0_write 98 = .ok (.iload_n 3, 1) := by decide +kernel
theorem dX0_write_99 : decode cX0_write 99 = .ok (.iload 4, 2) := by decide +kernel
theorem dX0_write_101 : decode cX0_write 101 = .ok (.invokevirtual 92, 3) := by decide +kernel
theorem dX0_write_104 : decode cX0_write 104 = .ok (.istore 9, 2) := by decide +kernel
theorem dX0_write_106 : decode cX0_write 106 = .ok (.aload_n 0, 1) := by decide +kernel
theorem dX0_write_107 : decode cX0_write 107 = .ok (.getfield 33, 3) := by decide +kernel
theorem dX0_write_110 : decode cX0_write 110 = .ok (.iload 9, 2) := by decide +kernel
theorem dX0_write_112 : decode cX0_write 112 = .ok (.iaload, 1) := by decide +kernel
theorem dX0_write_113 : decode cX0_write 113 = .ok (.istore 10, 2) := by decide +kernel
theorem dX0_write_115 : decode cX0_write 115 = .ok (.iload 10, 2) := by decide +kernel
theorem dX0_write_117 : decode cX0_write 117 = .ok (.iconst (-1), 1) := by decide +kernel
theorem dX0_write_118 : decode cX0_write 118 = .ok (.if_icmp .eq 19, 3) := by decide +kernel
theorem dX0_write_121 : decode cX0_write 121 = .ok (.aload_n 0, 1) := by decide +kernel
theorem dX0_write_122 : decode cX0_write 122 = .ok (.getfield 23, 3) := by decide +kernel
theorem dX0_write_125 : decode cX0_write 125 = .ok (.iload 10, 2) := by decide +kernel
theorem dX0_write_127 : decode cX0_write 127 = .ok (.iaload, 1) := by decide +kernel
theorem dX0_write_128 : decode cX0_write 128 = .ok (.iload 5, 2) := by decide +kernel
theorem dX0_write_130 : decode cX0_write 130 = .ok (.if_icmp .ne 7, 3) := by decide +kernel
theorem dX0_write_133 : decode cX0_write 133 = .ok (.iconst 1, 1) := by decide +kernel
theorem dX0_write_134 : decode cX0_write 134 = .ok (.goto 4, 3) := by decide +kernel
theorem dX0_write_137 : decode cX0_write 137 = .ok (.iconst 0, 1) := by decide +kernel
theorem dX0_write_138 : decode cX0_write 138 = .ok (.istore 11, 2) := by decide +kernel
theorem dX0_write_140 : decode cX0_write 140 = .ok (.iload 5, 2) := by decide +kernel
theorem dX0_write_142 : decode cX0_write 142 = .ok (.iconst (-1), 1) := by decide +kernel
theorem dX0_write_143 : decode cX0_write 143 = .ok (.if_icmp .eq 22, 3) := by decide +kernel
theorem dX0_write_146 : decode cX0_write 146 = .ok (.iload 11, 2) := by decide +kernel
theorem dX0_write_148 : decode cX0_write 148 = .ok (.ifCond .ne 17, 3) := by decide +kernel
theorem dX0_write_151 : decode cX0_write 151 = .ok (.aload_n 0, 1) := by decide +kernel
theorem dX0_write_152 : decode cX0_write 152 = .ok (.iload_n 2, 1) := by decide +kernel
theorem dX0_write_153 : decode cX0_write 153 = .ok (.iload 9, 2) := by decide +kernel
theorem dX0_write_155 : decode cX0_write 155 = .ok (.iload 5, 2) := by decide +kernel
theorem dX0_write_157 : decode cX0_write 157 = .ok (.iload 7, 2) := by decide +kernel
theorem dX0_write_159 : decode cX0_write 159 = .ok (.iload 8, 2) := by decide +kernel
theorem dX0_write_161 : decode cX0_write 161 = .ok (.invokevirtual 92, 3) := by decide +kernel
theorem dX0_write_164 : decode cX0_write 164 = .ok (.pop, 1) := by decide +kernel
theorem dX0_write_165 : decode cX0_write 165 = .ok (.return_, 1) := by decide +kernel
theorem dX0_advance_0 : decode cX0_advance 0 = .ok (.iload_n 2, 1) := by decide +kernel
theorem dX0_advance_1 : decode cX0_advance 1 = .ok (.istore 4, 2) := by decide +kernel
theorem dX0_advance_3 : decode cX0_advance 3 = .ok (.iload_n 2, 1) := by decide +kernel
theorem dX0_advance_4 : decode cX0_advance 4 = .ok (.iconst (-1), 1) := by decide +kernel
theorem dX0_advance_5 : decode cX0_advance 5 = .ok (.if_icmp .ne 12, 3) := by decide +kernel
theorem dX0_advance_8 : decode cX0_advance 8 = .ok (.aload_n 0, 1) := by decide +kernel
theorem dX0_advance_9 : decode cX0_advance 9 = .ok (.getfield 20, 3) := by decide +kernel
theorem dX0_advance_12 : decode cX0_advance 12 = .ok (.iload_n 1, 1) := by decide +kernel
theorem dX0_advance_13 : decode cX0_advance 13 = .ok (.iaload, 1) := by decide +kernel
theorem dX0_advance_14 : decode cX0_advance 14 = .ok (.goto 9, 3) := by decide +kernel
theorem dX0_advance_17 : decode cX0_advance 17 = .ok (.aload_n 0, 1) := by decide +kernel
theorem dX0_advance_18 : decode cX0_advance 18 = .ok (.getfield 33, 3) := by decide +kernel
theorem dX0_advance_21 : decode cX0_advance 21 = .ok (.iload_n 2, 1) := by decide +kernel
theorem dX0_advance_22 : decode cX0_advance 22 = .ok (.iaload, 1) := by decide +kernel
theorem dX0_advance_23 : decode cX0_advance 23 = .ok (.istore 5, 2) := by decide +kernel
theorem dX0_advance_25 : decode cX0_advance 25 = .ok (.iload 5, 2) := by decide +kernel
theorem dX0_advance_27 : decode cX0_advance 27 = .ok (.iconst (-1), 1) := by decide +kernel
theorem dX0_advance_28 : decode cX0_advance 28 = .ok (.if_icmp .eq 41, 3) := by decide +kernel
theorem dX0_advance_31 : decode cX0_advance 31 = .ok (.aload_n 0, 1) := by decide +kernel
theorem dX0_advance_32 : decode cX0_advance 32 = .ok (.getfield 13, 3) := by decide +kernel
theorem dX0_advance_35 : decode cX0_advance 35 = .ok (.aload_n 0, 1) := by decide +kernel
theorem dX0_advance_36 : decode cX0_advance 36 = .ok (.getfield 23, 3) := by decide +kernel
theorem dX0_advance_39 : decode cX0_advance 39 = .ok (.iload 5, 2) := by decide +kernel
theorem dX0_advance_41 : decode cX0_advance 41 = .ok (.iaload, 1) := by decide +kernel
theorem dX0_advance_42 : decode cX0_advance 42 = .ok (.laload, 1) := by decide +kernel
theorem dX0_advance_43 : decode cX0_advance 43 = .ok (.aload_n 0, 1) := by decide +kernel
theorem dX0_advance_44 : decode cX0_advance 44 = .ok (.getfield 13, 3) := by decide +kernel
theorem dX0_advance_47 : decode cX0_advance 47 = .ok (.iload_n 3, 1) := by decide +kernel
theorem dX0_advance_48 : decode cX0_advance 48 = .ok (.laload, 1) := by decide +kernel
theorem dX0_advance_49 : decode cX0_advance 49 = .ok (.lcmp, 1) := by decide +kernel
theorem dX0_advance_50 : decode cX0_advance 50 = .ok (.ifCond .gt 19, 3) := by decide +kernel
theorem dX0_advance_53 : decode cX0_advance 53 = .ok (.iload 5, 2) := by decide +kernel
theorem dX0_advance_55 : decode cX0_advance 55 = .ok (.istore 4, 2) := by decide +kernel
theorem dX0_advance_57 : decode cX0_advance 57 = .ok (.aload_n 0, 1) := by decide +kernel
theorem dX0_advance_58 : decode cX0_advance 58 = .ok (.getfield 33, 3) := by decide +kernel
theorem dX0_advance_61 : decode cX0_advance 61 = .ok (.iload 5, 2) := by decide +kernel
theorem dX0_advance_63 : decode cX0_advance 63 = .ok (.iaload, 1) := by decide +kernel
theorem dX0_advance_64 : decode cX0_advance 64 = .ok (.istore 5, 2) := by decide +kernel
theorem dX0_advance_66 : decode cX0_advance 66 = .ok (.goto (-41), 3) := by decide +kernel
theorem dX0_advance_69 : decode cX0_advance 69 = .ok (.iload 4, 2) := by decide +kernel
theorem dX0_advance_71 : decode cX0_advance 71 = .ok (.ireturn, 1) := by decide +kernel
theorem dX0_insert_0 : decode cX0_insert 0 = .ok (.aload_n 0, 1) := by decide +kernel
theorem dX0_insert_1 : decode cX0_insert 1 = .ok (.getfield 96, 3) := by decide +kernel
theorem dX0_insert_4 : decode cX0_insert 4 = .ok (.istore 6, 2) := by decide +kernel
theorem dX0_insert_6 : decode cX0_insert 6 = .ok (.aload_n 0, 1) := by decide +kernel
theorem dX0_insert_7 : decode cX0_insert 7 = .ok (.dup, 1) := by decide +kernel
theorem dX0_insert_8 : decode cX0_insert 8 = .ok (.getfield 96, 3) := by decide +kernel
theorem dX0_insert_11 : decode cX0_insert 11 = .ok (.iconst 1, 1) := by decide +kernel
theorem dX0_insert_12 : decode cX0_insert 12 = .ok (.iadd, 1) := by decide +kernel
theorem dX0_insert_13 : decode cX0_insert 13 = .ok (.putfield 96, 3) := by decide +kernel
theorem dX0_insert_16 : decode cX0_insert 16 = .ok (.aload_n 0, 1) := by decide +kernel
theorem dX0_insert_17 : decode cX0_insert 17 = .ok (.getfield 23, 3) := by decide +kernel
theorem dX0_insert_20 : decode cX0_insert 20 = .ok (.iload 6, 2) := by decide +kernel
theorem dX0_insert_22 : decode cX0_insert 22 = .ok (.iload_n 3, 1) := by decide +kernel
theorem dX0_insert_23 : decode cX0_insert 23 = .ok (.iastore, 1) := by decide +kernel
theorem dX0_insert_24 : decode cX0_insert 24 = .ok (.aload_n 0, 1) := by decide +kernel
theorem dX0_insert_25 : decode cX0_insert 25 = .ok (.getfield 29, 3) := by decide +kernel
theorem dX0_insert_28 : decode cX0_insert 28 = .ok (.iload 6, 2) := by decide +kernel
theorem dX0_insert_30 : decode cX0_insert 30 = .ok (.iload 4, 2) := by decide +kernel
theorem dX0_insert_32 : decode cX0_insert 32 = .ok (.bastore, 1) := by decide +kernel
theorem dX0_insert_33 : decode cX0_insert 33 = .ok (.aload_n 0, 1) := by decide +kernel
theorem dX0_insert_34 : decode cX0_insert 34 = .ok (.getfield 26, 3) := by decide +kernel
theorem dX0_insert_37 : decode cX0_insert 37 = .ok (.iload 6, 2) := by decide +kernel
theorem dX0_insert_39 : decode cX0_insert 39 = .ok (.iload 5, 2) := by decide +kernel
theorem dX0_insert_41 : decode cX0_insert 41 = .ok (.iastore, 1) := by decide +kernel
theorem dX0_insert_42 : decode cX0_insert 42 = .ok (.iload_n 2, 1) := by decide +kernel
theorem dX0_insert_43 : decode cX0_insert 43 = .ok (.iconst (-1), 1) := by decide +kernel
theorem dX0_insert_44 : decode cX0_insert 44 = .ok (.if_icmp .ne 27, 3) := by decide +kernel
theorem dX0_insert_47 : decode cX0_insert 47 = .ok (.aload_n 0, 1) := by decide +kernel
theorem dX0_insert_48 : decode cX0_insert 48 = .ok (.getfield 33, 3) := by decide +kernel
theorem dX0_insert_51 : decode cX0_insert 51 = .ok (.iload 6, 2) := by decide +kernel
theorem dX0_insert_53 : decode cX0_insert 53 = .ok (.aload_n 0, 1) := by decide +kernel
theorem dX0_insert_54 : decode cX0_insert 54 = .ok (.getfield 20, 3) := by decide +kernel
theorem dX0_insert_57 : decode cX0_insert 57 = .ok (.iload_n 1, 1) := by decide +kernel
theorem dX0_insert_58 : decode cX0_insert 58 = .ok (.iaload, 1) := by decide +kernel
theorem dX0_insert_59 : decode cX0_insert 59 = .ok (.iastore, 1) := by decide +kernel
theorem dX0_insert_60 : decode cX0_insert 60 = .ok (.aload_n 0, 1) := by decide +kernel
theorem dX0_insert_61 : decode cX0_insert 61 = .ok (.getfield 20, 3) := by decide +kernel
theorem dX0_insert_64 : decode cX0_insert 64 = .ok (.iload_n 1, 1) := by decide +kernel
theorem dX0_insert_65 : decode cX0_insert 65 = .ok (.iload 6, 2) := by decide +kernel
theorem dX0_insert_67 : decode cX0_insert 67 = .ok (.iastore, 1) := by decide +kernel
theorem dX0_insert_68 : decode cX0_insert 68 = .ok (.goto 24, 3) := by decide +kernel
theorem dX0_insert_71 : decode cX0_insert 71 = .ok (.aload_n 0, 1) := by decide +kernel
theorem dX0_insert_72 : decode cX0_insert 72 = .ok (.getfield 33, 3) := by decide +kernel
theorem dX0_insert_75 : decode cX0_insert 75 = .ok (.iload 6, 2) := by decide +kernel
theorem dX0_insert_77 : decode cX0_insert 77 = .ok (.aload_n 0, 1) := by decide +kernel
theorem dX0_insert_78 : decode cX0_insert 78 = .ok (.getfield 33, 3) := by decide +kernel
theorem dX0_insert_81 : decode cX0_insert 81 = .ok (.iload_n 2, 1) := by decide +kernel
theorem dX0_insert_82 : decode cX0_insert 82 = .ok (.iaload, 1) := by decide +kernel
theorem dX0_insert_83 : decode cX0_insert 83 = .ok (.iastore, 1) := by decide +kernel
theorem dX0_insert_84 : decode cX0_insert 84 = .ok (.aload_n 0, 1) := by decide +kernel
theorem dX0_insert_85 : decode cX0_insert 85 = .ok (.getfield 33, 3) := by decide +kernel
theorem dX0_insert_88 : decode cX0_insert 88 = .ok (.iload_n 2, 1) := by decide +kernel
theorem dX0_insert_89 : decode cX0_insert 89 = .ok (.iload 6, 2) := by decide +kernel
theorem dX0_insert_91 : decode cX0_insert 91 = .ok (.iastore, 1) := by decide +kernel
theorem dX0_insert_92 : decode cX0_insert 92 = .ok (.iload 6, 2) := by decide +kernel
theorem dX0_insert_94 : decode cX0_insert 94 = .ok (.ireturn, 1) := by decide +kernel
theorem dX0_remove_0 : decode cX0_remove 0 = .ok (.aload_n 0, 1) := by decide +kernel
theorem dX0_remove_1 : decode cX0_remove 1 = .ok (.iload_n 1, 1) := by decide +kernel
theorem dX0_remove_2 : decode cX0_remove 2 = .ok (.invokevirtual 42, 3) := by decide +kernel
theorem dX0_remove_5 : decode cX0_remove 5 = .ok (.ifCond .ne 5, 3) := by decide +kernel
theorem dX0_remove_8 : decode cX0_remove 8 = .ok (.iconst (-1), 1) := by decide +kernel
theorem dX0_remove_9 : decode cX0_remove 9 = .ok (.ireturn, 1) := by decide +kernel
theorem dX0_remove_10 : decode cX0_remove 10 = .ok (.iload_n 2, 1) := by decide +kernel
theorem dX0_remove_11 : decode cX0_remove 11 = .ok (.invokestatic 46, 3) := by decide +kernel
theorem dX0_remove_14 : decode cX0_remove 14 = .ok (.ifCond .ne 6, 3) := by decide +kernel
theorem dX0_remove_17 : decode cX0_remove 17 = .ok (.bipush (-2), 2) := by decide +kernel
theorem dX0_remove_19 : decode cX0_remove 19 = .ok (.ireturn, 1) := by decide +kernel
theorem dX0_remove_20 : decode cX0_remove 20 = .ok (.aload_n 0, 1) := by decide +kernel
theorem dX0_remove_21 : decode cX0_remove 21 = .ok (.getfield 38, 3) := by decide +kernel
theorem dX0_remove_24 : decode cX0_remove 24 = .ok (.bipush 40, 2) := by decide +kernel
theorem dX0_remove_26 : decode cX0_remove 26 = .ok (.if_icmp .ne 6, 3) := by decide +kernel
theorem dX0_remove_29 : decode cX0_remove 29 = .ok (.bipush (-3), 2) := by decide +kernel
theorem dX0_remove_31 : decode cX0_remove 31 = .ok (.ireturn, 1) := by decide +kernel
theorem dX0_remove_32 : decode cX0_remove 32 = .ok (.aload_n 0, 1) := by decide +kernel
theorem dX0_remove_33 : decode cX0_remove 33 = .ok (.iload_n 1, 1) := by decide +kernel
theorem dX0_remove_34 : decode cX0_remove 34 = .ok (.invokevirtual 49, 3) := by decide +kernel
theorem dX0_remove_37 : decode cX0_remove 37 = .ok (.istore_n 3, 1) := by decide +kernel
theorem dX0_remove_38 : decode cX0_remove 38 = .ok (.aload_n 0, 1) := by decide +kernel
theorem dX0_remove_39 : decode cX0_remove 39 = .ok (.iload_n 3, 1) := by decide +kernel
theorem dX0_remove_40 : decode cX0_remove 40 = .ok (.iload_n 2, 1) := by decide +kernel
theorem dX0_remove_41 : decode cX0_remove 41 = .ok (.iconst 0, 1) := by decide +kernel
theorem dX0_remove_42 : decode cX0_remove 42 = .ok (.iconst 0, 1) := by decide +kernel
theorem dX0_remove_43 : decode cX0_remove 43 = .ok (.invokevirtual 53, 3) := by decide +kernel
theorem dX0_remove_46 : decode cX0_remove 46 = .ok (.iload_n 3, 1) := by decide +kernel
theorem dX0_remove_47 : decode cX0_remove 47 = .ok (.ireturn, 1) := by decide +kernel
theorem dX0_fill_0 : decode cX0_fill 0 = .ok (.aload_n 0, 1) := by decide +kernel
theorem dX0_fill_1 : decode cX0_fill 1 = .ok (.iload_n 1, 1) := by decide +kernel
theorem dX0_fill_2 : decode cX0_fill 2 = .ok (.invokevirtual 42, 3) := by decide +kernel
theorem dX0_fill_5 : decode cX0_fill 5 = .ok (.ifCond .ne 5, 3) := by decide +kernel
theorem dX0_fill_8 : decode cX0_fill 8 = .ok (.iconst (-1), 1) := by decide +kernel
theorem dX0_fill_9 : decode cX0_fill 9 = .ok (.ireturn, 1) := by decide +kernel
theorem dX0_fill_10 : decode cX0_fill 10 = .ok (.iload_n 2, 1) := by decide +kernel
theorem dX0_fill_11 : decode cX0_fill 11 = .ok (.invokestatic 57, 3) := by decide +kernel
theorem dX0_fill_14 : decode cX0_fill 14 = .ok (.ifCond .ne 6, 3) := by decide +kernel
theorem dX0_fill_17 : decode cX0_fill 17 = .ok (.bipush (-2), 2) := by decide +kernel
theorem dX0_fill_19 : decode cX0_fill 19 = .ok (.ireturn, 1) := by decide +kernel
theorem dX0_fill_20 : decode cX0_fill 20 = .ok (.aload_n 0, 1) := by decide +kernel
theorem dX0_fill_21 : decode cX0_fill 21 = .ok (.getfield 38, 3) := by decide +kernel
theorem dX0_fill_24 : decode cX0_fill 24 = .ok (.bipush 40, 2) := by decide +kernel
theorem dX0_fill_26 : decode cX0_fill 26 = .ok (.if_icmp .ne 6, 3) := by decide +kernel
theorem dX0_fill_29 : decode cX0_fill 29 = .ok (.bipush (-3), 2) := by decide +kernel
theorem dX0_fill_31 : decode cX0_fill 31 = .ok (.ireturn, 1) := by decide +kernel
theorem dX0_fill_32 : decode cX0_fill 32 = .ok (.aload_n 0, 1) := by decide +kernel
theorem dX0_fill_33 : decode cX0_fill 33 = .ok (.iload_n 1, 1) := by decide +kernel
theorem dX0_fill_34 : decode cX0_fill 34 = .ok (.invokevirtual 49, 3) := by decide +kernel
theorem dX0_fill_37 : decode cX0_fill 37 = .ok (.istore 5, 2) := by decide +kernel
theorem dX0_fill_39 : decode cX0_fill 39 = .ok (.iload_n 2, 1) := by decide +kernel
theorem dX0_fill_40 : decode cX0_fill 40 = .ok (.iconst 4, 1) := by decide +kernel
theorem dX0_fill_41 : decode cX0_fill 41 = .ok (.ishr, 1) := by decide +kernel
theorem dX0_fill_42 : decode cX0_fill 42 = .ok (.istore 6, 2) := by decide +kernel
theorem dX0_fill_44 : decode cX0_fill 44 = .ok (.iconst 0, 1) := by decide +kernel
theorem dX0_fill_45 : decode cX0_fill 45 = .ok (.istore 7, 2) := by decide +kernel
theorem dX0_fill_47 : decode cX0_fill 47 = .ok (.iload 7, 2) := by decide +kernel
theorem dX0_fill_49 : decode cX0_fill 49 = .ok (.iload_n 2, 1) := by decide +kernel
theorem dX0_fill_50 : decode cX0_fill 50 = .ok (.bipush 15, 2) := by decide +kernel
theorem dX0_fill_52 : decode cX0_fill 52 = .ok (.iand, 1) := by decide +kernel
theorem dX0_fill_53 : decode cX0_fill 53 = .ok (.if_icmp .ge 28, 3) := by decide +kernel
theorem dX0_fill_56 : decode cX0_fill 56 = .ok (.aload_n 0, 1) := by decide +kernel
theorem dX0_fill_57 : decode cX0_fill 57 = .ok (.iload 5, 2) := by decide +kernel
theorem dX0_fill_59 : decode cX0_fill 59 = .ok (.iload 6, 2) := by decide +kernel
theorem dX0_fill_61 : decode cX0_fill 61 = .ok (.iload 7, 2) := by decide +kernel
theorem dX0_fill_63 : decode cX0_fill 63 = .ok (.iadd, 1) := by decide +kernel
theorem dX0_fill_64 : decode cX0_fill 64 = .ok (.iconst 1, 1) := by decide +kernel
theorem dX0_fill_65 : decode cX0_fill 65 = .ok (.iload_n 3, 1) := by decide +kernel
theorem dX0_fill_66 : decode cX0_fill 66 = .ok (.iload 7, 2) := by decide +kernel
theorem dX0_fill_68 : decode cX0_fill 68 = .ok (.iload 4, 2) := by decide +kernel
theorem dX0_fill_70 : decode cX0_fill 70 = .ok (.imul, 1) := by decide +kernel
theorem dX0_fill_71 : decode cX0_fill 71 = .ok (.iadd, 1) := by decide +kernel
theorem dX0_fill_72 : decode cX0_fill 72 = .ok (.invokevirtual 53, 3) := by decide +kernel
theorem dX0_fill_75 : decode cX0_fill 75 = .ok (.iinc 7 1, 3) := by decide +kernel
theorem dX0_fill_78 : decode cX0_fill 78 = .ok (.goto (-31), 3) := by decide +kernel
theorem dX0_fill_81 : decode cX0_fill 81 = .ok (.iload 5, 2) := by decide +kernel
theorem dX0_fill_83 : decode cX0_fill 83 = .ok (.ireturn, 1) := by decide +kernel
theorem dX0_isPlan_0 : decode cX0_isPlan 0 = .ok (.iload_n 0, 1) := by decide +kernel
theorem dX0_isPlan_1 : decode cX0_isPlan 1 = .ok (.bipush 15, 2) := by decide +kernel
theorem dX0_isPlan_3 : decode cX0_isPlan 3 = .ok (.iand, 1) := by decide +kernel
theorem dX0_isPlan_4 : decode cX0_isPlan 4 = .ok (.istore_n 1, 1) := by decide +kernel
theorem dX0_isPlan_5 : decode cX0_isPlan 5 = .ok (.iload_n 0, 1) := by decide +kernel
theorem dX0_isPlan_6 : decode cX0_isPlan 6 = .ok (.ifCond .lt 35, 3) := by decide +kernel
theorem dX0_isPlan_9 : decode cX0_isPlan 9 = .ok (.iload_n 1, 1) := by decide +kernel
theorem dX0_isPlan_10 : decode cX0_isPlan 10 = .ok (.iconst 1, 1) := by decide +kernel
theorem dX0_isPlan_11 : decode cX0_isPlan 11 = .ok (.if_icmp .lt 30, 3) := by decide +kernel
theorem dX0_isPlan_14 : decode cX0_isPlan 14 = .ok (.iload_n 1, 1) := by decide +kernel
theorem dX0_isPlan_15 : decode cX0_isPlan 15 = .ok (.bipush 8, 2) := by decide +kernel
theorem dX0_isPlan_17 : decode cX0_isPlan 17 = .ok (.if_icmp .gt 24, 3) := by decide +kernel
theorem dX0_isPlan_20 : decode cX0_isPlan 20 = .ok (.iload_n 0, 1) := by decide +kernel
theorem dX0_isPlan_21 : decode cX0_isPlan 21 = .ok (.sipush 511, 3) := by decide +kernel
theorem dX0_isPlan_24 : decode cX0_isPlan 24 = .ok (.if_icmp .gt 17, 3) := by decide +kernel
theorem dX0_isPlan_27 : decode cX0_isPlan 27 = .ok (.iload_n 0, 1) := by decide +kernel
theorem dX0_isPlan_28 : decode cX0_isPlan 28 = .ok (.iconst 4, 1) := by decide +kernel
theorem dX0_isPlan_29 : decode cX0_isPlan 29 = .ok (.ishr, 1) := by decide +kernel
theorem dX0_isPlan_30 : decode cX0_isPlan 30 = .ok (.iload_n 1, 1) := by decide +kernel
theorem dX0_isPlan_31 : decode cX0_isPlan 31 = .ok (.iadd, 1) := by decide +kernel
theorem dX0_isPlan_32 : decode cX0_isPlan 32 = .ok (.bipush 32, 2) := by decide +kernel
theorem dX0_isPlan_34 : decode cX0_isPlan 34 = .ok (.if_icmp .gt 7, 3) := by decide +kernel
theorem dX0_isPlan_37 : decode cX0_isPlan 37 = .ok (.iconst 1, 1) := by decide +kernel
theorem dX0_isPlan_38 : decode cX0_isPlan 38 = .ok (.goto 4, 3) := by decide +kernel
theorem dX0_isPlan_41 : decode cX0_isPlan 41 = .ok (.iconst 0, 1) := by decide +kernel
theorem dX0_isPlan_42 : decode cX0_isPlan 42 = .ok (.ireturn, 1) := by decide +kernel
theorem dX0_graft_0 : decode cX0_graft 0 = .ok (.aload_n 0, 1) := by decide +kernel
theorem dX0_graft_1 : decode cX0_graft 1 = .ok (.iload_n 1, 1) := by decide +kernel
theorem dX0_graft_2 : decode cX0_graft 2 = .ok (.invokevirtual 42, 3) := by decide +kernel
theorem dX0_graft_5 : decode cX0_graft 5 = .ok (.ifCond .eq 11, 3) := by decide +kernel
theorem dX0_graft_8 : decode cX0_graft 8 = .ok (.aload_n 0, 1) := by decide +kernel
theorem dX0_graft_9 : decode cX0_graft 9 = .ok (.iload_n 2, 1) := by decide +kernel
theorem dX0_graft_10 : decode cX0_graft 10 = .ok (.invokevirtual 42, 3) := by decide +kernel
theorem dX0_graft_13 : decode cX0_graft 13 = .ok (.ifCond .ne 5, 3) := by decide +kernel
theorem dX0_graft_16 : decode cX0_graft 16 = .ok (.iconst (-1), 1) := by decide +kernel
theorem dX0_graft_17 : decode cX0_graft 17 = .ok (.ireturn, 1) := by decide +kernel
theorem dX0_graft_18 : decode cX0_graft 18 = .ok (.iload_n 3, 1) := by decide +kernel
theorem dX0_graft_19 : decode cX0_graft 19 = .ok (.invokestatic 57, 3) := by decide +kernel
theorem dX0_graft_22 : decode cX0_graft 22 = .ok (.ifCond .ne 6, 3) := by decide +kernel
theorem dX0_graft_25 : decode cX0_graft 25 = .ok (.bipush (-2), 2) := by decide +kernel
theorem dX0_graft_27 : decode cX0_graft 27 = .ok (.ireturn, 1) := by decide +kernel
theorem dX0_graft_28 : decode cX0_graft 28 = .ok (.aload_n 0, 1) := by decide +kernel
theorem dX0_graft_29 : decode cX0_graft 29 = .ok (.getfield 38, 3) := by decide +kernel
theorem dX0_graft_32 : decode cX0_graft 32 = .ok (.bipush 40, 2) := by decide +kernel
theorem dX0_graft_34 : decode cX0_graft 34 = .ok (.if_icmp .ne 6, 3) := by decide +kernel
theorem dX0_graft_37 : decode cX0_graft 37 = .ok (.bipush (-3), 2) := by decide +kernel
theorem dX0_graft_39 : decode cX0_graft 39 = .ok (.ireturn, 1) := by decide +kernel
theorem dX0_graft_40 : decode cX0_graft 40 = .ok (.aload_n 0, 1) := by decide +kernel
theorem dX0_graft_41 : decode cX0_graft 41 = .ok (.iload_n 1, 1) := by decide +kernel
theorem dX0_graft_42 : decode cX0_graft 42 = .ok (.invokevirtual 49, 3) := by decide +kernel
theorem dX0_graft_45 : decode cX0_graft 45 = .ok (.istore 4, 2) := by decide +kernel
theorem dX0_graft_47 : decode cX0_graft 47 = .ok (.iload_n 3, 1) := by decide +kernel
theorem dX0_graft_48 : decode cX0_graft 48 = .ok (.iconst 4, 1) := by decide +kernel
theorem dX0_graft_49 : decode cX0_graft 49 = .ok (.ishr, 1) := by decide +kernel
theorem dX0_graft_50 : decode cX0_graft 50 = .ok (.istore 5, 2) := by decide +kernel
theorem dX0_graft_52 : decode cX0_graft 52 = .ok (.iconst 0, 1) := by decide +kernel
theorem dX0_graft_53 : decode cX0_graft 53 = .ok (.istore 6, 2) := by decide +kernel
theorem dX0_graft_55 : decode cX0_graft 55 = .ok (.iload 6, 2) := by decide +kernel
theorem dX0_graft_57 : decode cX0_graft 57 = .ok (.iload_n 3, 1) := by decide +kernel
theorem dX0_graft_58 : decode cX0_graft 58 = .ok (.bipush 15, 2) := by decide +kernel
theorem dX0_graft_60 : decode cX0_graft 60 = .ok (.iand, 1) := by decide +kernel
theorem dX0_graft_61 : decode cX0_graft 61 = .ok (.if_icmp .ge 38, 3) := by decide +kernel
theorem dX0_graft_64 : decode cX0_graft 64 = .ok (.aload_n 0, 1) := by decide +kernel
theorem dX0_graft_65 : decode cX0_graft 65 = .ok (.iload_n 2, 1) := by decide +kernel
theorem dX0_graft_66 : decode cX0_graft 66 = .ok (.iload 5, 2) := by decide +kernel
theorem dX0_graft_68 : decode cX0_graft 68 = .ok (.iload 6, 2) := by decide +kernel
theorem dX0_graft_70 : decode cX0_graft 70 = .ok (.iadd, 1) := by decide +kernel
theorem dX0_graft_71 : decode cX0_graft 71 = .ok (.invokevirtual 60, 3) := by decide +kernel
theorem dX0_graft_74 : decode cX0_graft 74 = .ok (.aload_n 0, 1) := by decide +kernel
theorem dX0_graft_75 : decode cX0_graft 75 = .ok (.iload 4, 2) := by decide +kernel
theorem dX0_graft_77 : decode cX0_graft 77 = .ok (.iload 5, 2) := by decide +kernel
theorem dX0_graft_79 : decode cX0_graft 79 = .ok (.iload 6, 2) := by decide +kernel
theorem dX0_graft_81 : decode cX0_graft 81 = .ok (.iadd, 1) := by decide +kernel
theorem dX0_graft_82 : decode cX0_graft 82 = .ok (.aload_n 0, 1) := by decide +kernel
theorem dX0_graft_83 : decode cX0_graft 83 = .ok (.getfield 64, 3) := by decide +kernel
theorem dX0_graft_86 : decode cX0_graft 86 = .ok (.aload_n 0, 1) := by decide +kernel
theorem dX0_graft_87 : decode cX0_graft 87 = .ok (.getfield 68, 3) := by decide +kernel
theorem dX0_graft_90 : decode cX0_graft 90 = .ok (.invokevirtual 53, 3) := by decide +kernel
theorem dX0_graft_93 : decode cX0_graft 93 = .ok (.iinc 6 1, 3) := by decide +kernel
theorem dX0_graft_96 : decode cX0_graft 96 = .ok (.goto (-41), 3) := by decide +kernel
theorem dX0_graft_99 : decode cX0_graft 99 = .ok (.iload 4, 2) := by decide +kernel
theorem dX0_graft_101 : decode cX0_graft 101 = .ok (.ireturn, 1) := by decide +kernel
theorem dX0_look_0 : decode cX0_look 0 = .ok (.aload_n 0, 1) := by decide +kernel
theorem dX0_look_1 : decode cX0_look 1 = .ok (.iload_n 2, 1) := by decide +kernel
theorem dX0_look_2 : decode cX0_look 2 = .ok (.iconst (-1), 1) := by decide +kernel
theorem dX0_look_3 : decode cX0_look 3 = .ok (.iload_n 1, 1) := by decide +kernel
theorem dX0_look_4 : decode cX0_look 4 = .ok (.invokevirtual 79, 3) := by decide +kernel
theorem dX0_look_7 : decode cX0_look 7 = .ok (.istore_n 3, 1) := by decide +kernel
theorem dX0_look_8 : decode cX0_look 8 = .ok (.aload_n 0, 1) := by decide +kernel
theorem dX0_look_9 : decode cX0_look 9 = .ok (.iload_n 3, 1) := by decide +kernel
theorem dX0_look_10 : decode cX0_look 10 = .ok (.iconst (-1), 1) := by decide +kernel
theorem dX0_look_11 : decode cX0_look 11 = .ok (.if_icmp .eq 16, 3) := by decide +kernel
theorem dX0_look_14 : decode cX0_look 14 = .ok (.aload_n 0, 1) := by decide +kernel
theorem dX0_look_15 : decode cX0_look 15 = .ok (.getfield 29, 3) := by decide +kernel
theorem dX0_look_18 : decode cX0_look 18 = .ok (.iload_n 3, 1) := by decide +kernel
theorem dX0_look_19 : decode cX0_look 19 = .ok (.baload, 1) := by decide +kernel
theorem dX0_look_20 : decode cX0_look 20 = .ok (.ifCond .eq 7, 3) := by decide +kernel
theorem dX0_look_23 : decode cX0_look 23 = .ok (.iconst 1, 1) := by decide +kernel
theorem dX0_look_24 : decode cX0_look 24 = .ok (.goto 4, 3) := by decide +kernel
theorem dX0_look_27 : decode cX0_look 27 = .ok (.iconst 0, 1) := by decide +kernel
theorem dX0_look_28 : decode cX0_look 28 = .ok (.putfield 64, 3) := by decide +kernel
theorem dX0_look_31 : decode cX0_look 31 = .ok (.aload_n 0, 1) := by decide +kernel
theorem dX0_look_32 : decode cX0_look 32 = .ok (.aload_n 0, 1) := by decide +kernel
theorem dX0_look_33 : decode cX0_look 33 = .ok (.getfield 64, 3) := by decide +kernel
theorem dX0_look_36 : decode cX0_look 36 = .ok (.ifCond .eq 12, 3) := by decide +kernel
theorem dX0_look_39 : decode cX0_look 39 = .ok (.aload_n 0, 1) := by decide +kernel
theorem dX0_look_40 : decode cX0_look 40 = .ok (.getfield 26, 3) := by decide +kernel
theorem dX0_look_43 : decode cX0_look 43 = .ok (.iload_n 3, 1) := by decide +kernel
theorem dX0_look_44 : decode cX0_look 44 = .ok (.iaload, 1) := by decide +kernel
theorem dX0_look_45 : decode cX0_look 45 = .ok (.goto 4, 3) := by decide +kernel
theorem dX0_look_48 : decode cX0_look 48 = .ok (.iconst 0, 1) := by decide +kernel
theorem dX0_look_49 : decode cX0_look 49 = .ok (.putfield 68, 3) := by decide +kernel
theorem dX0_look_52 : decode cX0_look 52 = .ok (.return_, 1) := by decide +kernel
theorem dX0_exchange_0 : decode cX0_exchange 0 = .ok (.aload_n 0, 1) := by decide +kernel
theorem dX0_exchange_1 : decode cX0_exchange 1 = .ok (.iload_n 1, 1) := by decide +kernel
theorem dX0_exchange_2 : decode cX0_exchange 2 = .ok (.invokevirtual 42, 3) := by decide +kernel
theorem dX0_exchange_5 : decode cX0_exchange 5 = .ok (.ifCond .ne 5, 3) := by decide +kernel
theorem dX0_exchange_8 : decode cX0_exchange 8 = .ok (.iconst (-1), 1) := by decide +kernel
theorem dX0_exchange_9 : decode cX0_exchange 9 = .ok (.ireturn, 1) := by decide +kernel
theorem dX0_exchange_10 : decode cX0_exchange 10 = .ok (.iload_n 2, 1) := by decide +kernel
theorem dX0_exchange_11 : decode cX0_exchange 11 = .ok (.invokestatic 46, 3) := by decide +kernel
theorem dX0_exchange_14 : decode cX0_exchange 14 = .ok (.ifCond .eq 10, 3) := by decide +kernel
theorem dX0_exchange_17 : decode cX0_exchange 17 = .ok (.iload_n 3, 1) := by decide +kernel
theorem dX0_exchange_18 : decode cX0_exchange 18 = .ok (.invokestatic 46, 3) := by decide +kernel
theorem dX0_exchange_21 : decode cX0_exchange 21 = .ok (.ifCond .ne 6, 3) := by decide +kernel
theorem dX0_exchange_24 : decode cX0_exchange 24 = .ok (.bipush (-2), 2) := by decide +kernel
theorem dX0_exchange_26 : decode cX0_exchange 26 = .ok (.ireturn, 1) := by decide +kernel
theorem dX0_exchange_27 : decode cX0_exchange 27 = .ok (.aload_n 0, 1) := by decide +kernel
theorem dX0_exchange_28 : decode cX0_exchange 28 = .ok (.getfield 38, 3) := by decide +kernel
theorem dX0_exchange_31 : decode cX0_exchange 31 = .ok (.bipush 40, 2) := by decide +kernel
theorem dX0_exchange_33 : decode cX0_exchange 33 = .ok (.if_icmp .ne 6, 3) := by decide +kernel
theorem dX0_exchange_36 : decode cX0_exchange 36 = .ok (.bipush (-3), 2) := by decide +kernel
theorem dX0_exchange_38 : decode cX0_exchange 38 = .ok (.ireturn, 1) := by decide +kernel
theorem dX0_exchange_39 : decode cX0_exchange 39 = .ok (.aload_n 0, 1) := by decide +kernel
theorem dX0_exchange_40 : decode cX0_exchange 40 = .ok (.iload_n 1, 1) := by decide +kernel
theorem dX0_exchange_41 : decode cX0_exchange 41 = .ok (.invokevirtual 49, 3) := by decide +kernel
theorem dX0_exchange_44 : decode cX0_exchange 44 = .ok (.istore 4, 2) := by decide +kernel
theorem dX0_exchange_46 : decode cX0_exchange 46 = .ok (.aload_n 0, 1) := by decide +kernel
theorem dX0_exchange_47 : decode cX0_exchange 47 = .ok (.iload_n 1, 1) := by decide +kernel
theorem dX0_exchange_48 : decode cX0_exchange 48 = .ok (.iload_n 2, 1) := by decide +kernel
theorem dX0_exchange_49 : decode cX0_exchange 49 = .ok (.invokevirtual 60, 3) := by decide +kernel
theorem dX0_exchange_52 : decode cX0_exchange 52 = .ok (.aload_n 0, 1) := by decide +kernel
theorem dX0_exchange_53 : decode cX0_exchange 53 = .ok (.getfield 64, 3) := by decide +kernel
theorem dX0_exchange_56 : decode cX0_exchange 56 = .ok (.istore 5, 2) := by decide +kernel
theorem dX0_exchange_58 : decode cX0_exchange 58 = .ok (.aload_n 0, 1) := by decide +kernel
theorem dX0_exchange_59 : decode cX0_exchange 59 = .ok (.getfield 68, 3) := by decide +kernel
theorem dX0_exchange_62 : decode cX0_exchange 62 = .ok (.istore 6, 2) := by decide +kernel
theorem dX0_exchange_64 : decode cX0_exchange 64 = .ok (.aload_n 0, 1) := by decide +kernel
theorem dX0_exchange_65 : decode cX0_exchange 65 = .ok (.iload_n 1, 1) := by decide +kernel
theorem dX0_exchange_66 : decode cX0_exchange 66 = .ok (.iload_n 3, 1) := by decide +kernel
theorem dX0_exchange_67 : decode cX0_exchange 67 = .ok (.invokevirtual 60, 3) := by decide +kernel
theorem dX0_exchange_70 : decode cX0_exchange 70 = .ok (.aload_n 0, 1) := by decide +kernel
theorem dX0_exchange_71 : decode cX0_exchange 71 = .ok (.iload 4, 2) := by decide +kernel
theorem dX0_exchange_73 : decode cX0_exchange 73 = .ok (.iload_n 2, 1) := by decide +kernel
theorem dX0_exchange_74 : decode cX0_exchange 74 = .ok (.aload_n 0, 1) := by decide +kernel
theorem dX0_exchange_75 : decode cX0_exchange 75 = .ok (.getfield 64, 3) := by decide +kernel
theorem dX0_exchange_78 : decode cX0_exchange 78 = .ok (.aload_n 0, 1) := by decide +kernel
theorem dX0_exchange_79 : decode cX0_exchange 79 = .ok (.getfield 68, 3) := by decide +kernel
theorem dX0_exchange_82 : decode cX0_exchange 82 = .ok (.invokevirtual 53, 3) := by decide +kernel
theorem dX0_exchange_85 : decode cX0_exchange 85 = .ok (.aload_n 0, 1) := by decide +kernel
theorem dX0_exchange_86 : decode cX0_exchange 86 = .ok (.iload 4, 2) := by decide +kernel
theorem dX0_exchange_88 : decode cX0_exchange 88 = .ok (.iload_n 3, 1) := by decide +kernel
theorem dX0_exchange_89 : decode cX0_exchange 89 = .ok (.iload 5, 2) := by decide +kernel
theorem dX0_exchange_91 : decode cX0_exchange 91 = .ok (.iload 6, 2) := by decide +kernel
theorem dX0_exchange_93 : decode cX0_exchange 93 = .ok (.invokevirtual 53, 3) := by decide +kernel
theorem dX0_exchange_96 : decode cX0_exchange 96 = .ok (.iload 4, 2) := by decide +kernel
theorem dX0_exchange_98 : decode cX0_exchange 98 = .ok (.ireturn, 1) := by decide +kernel
theorem dX0_versions_0 : decode cX0_versions 0 = .ok (.aload_n 0, 1) := by decide +kernel
theorem dX0_versions_1 : decode cX0_versions 1 = .ok (.getfield 38, 3) := by decide +kernel
theorem dX0_versions_4 : decode cX0_versions 4 = .ok (.ireturn, 1) := by decide +kernel
theorem dX0_parent_0 : decode cX0_parent 0 = .ok (.aload_n 0, 1) := by decide +kernel
theorem dX0_parent_1 : decode cX0_parent 1 = .ok (.iload_n 1, 1) := by decide +kernel
theorem dX0_parent_2 : decode cX0_parent 2 = .ok (.invokevirtual 42, 3) := by decide +kernel
theorem dX0_parent_5 : decode cX0_parent 5 = .ok (.ifCond .ne 5, 3) := by decide +kernel
theorem dX0_parent_8 : decode cX0_parent 8 = .ok (.iconst (-1), 1) := by decide +kernel
theorem dX0_parent_9 : decode cX0_parent 9 = .ok (.ireturn, 1) := by decide +kernel
theorem dX0_parent_10 : decode cX0_parent 10 = .ok (.iload_n 1, 1) := by decide +kernel
theorem dX0_parent_11 : decode cX0_parent 11 = .ok (.ifCond .ne 8, 3) := by decide +kernel
theorem dX0_parent_14 : decode cX0_parent 14 = .ok (.bipush (-2), 2) := by decide +kernel
theorem dX0_parent_16 : decode cX0_parent 16 = .ok (.goto 9, 3) := by decide +kernel
theorem dX0_parent_19 : decode cX0_parent 19 = .ok (.aload_n 0, 1) := by decide +kernel
theorem dX0_parent_20 : decode cX0_parent 20 = .ok (.getfield 7, 3) := by decide +kernel
theorem dX0_parent_23 : decode cX0_parent 23 = .ok (.iload_n 1, 1) := by decide +kernel
theorem dX0_parent_24 : decode cX0_parent 24 = .ok (.iaload, 1) := by decide +kernel
theorem dX0_parent_25 : decode cX0_parent 25 = .ok (.ireturn, 1) := by decide +kernel
theorem dX0_ancestor_0 : decode cX0_ancestor 0 = .ok (.aload_n 0, 1) := by decide +kernel
theorem dX0_ancestor_1 : decode cX0_ancestor 1 = .ok (.iload_n 1, 1) := by decide +kernel
theorem dX0_ancestor_2 : decode cX0_ancestor 2 = .ok (.invokevirtual 42, 3) := by decide +kernel
theorem dX0_ancestor_5 : decode cX0_ancestor 5 = .ok (.ifCond .eq 11, 3) := by decide +kernel
theorem dX0_ancestor_8 : decode cX0_ancestor 8 = .ok (.aload_n 0, 1) := by decide +kernel
theorem dX0_ancestor_9 : decode cX0_ancestor 9 = .ok (.iload_n 2, 1) := by decide +kernel
theorem dX0_ancestor_10 : decode cX0_ancestor 10 = .ok (.invokevirtual 42, 3) := by decide +kernel
theorem dX0_ancestor_13 : decode cX0_ancestor 13 = .ok (.ifCond .ne 5, 3) := by decide +kernel
theorem dX0_ancestor_16 : decode cX0_ancestor 16 = .ok (.iconst (-1), 1) := by decide +kernel
theorem dX0_ancestor_17 : decode cX0_ancestor 17 = .ok (.ireturn, 1) := by decide +kernel
theorem dX0_ancestor_18 : decode cX0_ancestor 18 = .ok (.aload_n 0, 1) := by decide +kernel
theorem dX0_ancestor_19 : decode cX0_ancestor 19 = .ok (.iload_n 1, 1) := by decide +kernel
theorem dX0_ancestor_20 : decode cX0_ancestor 20 = .ok (.iload_n 2, 1) := by decide +kernel
theorem dX0_ancestor_21 : decode cX0_ancestor 21 = .ok (.invokevirtual 71, 3) := by decide +kernel
theorem dX0_ancestor_24 : decode cX0_ancestor 24 = .ok (.ifCond .eq 7, 3) := by decide +kernel
theorem dX0_ancestor_27 : decode cX0_ancestor 27 = .ok (.iconst 1, 1) := by decide +kernel
theorem dX0_ancestor_28 : decode cX0_ancestor 28 = .ok (.goto 4, 3) := by decide +kernel
theorem dX0_ancestor_31 : decode cX0_ancestor 31 = .ok (.iconst 0, 1) := by decide +kernel
theorem dX0_ancestor_32 : decode cX0_ancestor 32 = .ok (.ireturn, 1) := by decide +kernel
theorem dX0_isAncestor_0 : decode cX0_isAncestor 0 = .ok (.iload_n 2, 1) := by decide +kernel
theorem dX0_isAncestor_1 : decode cX0_isAncestor 1 = .ok (.istore_n 3, 1) := by decide +kernel
theorem dX0_isAncestor_2 : decode cX0_isAncestor 2 = .ok (.iconst 0, 1) := by decide +kernel
theorem dX0_isAncestor_3 : decode cX0_isAncestor 3 = .ok (.istore 4, 2) := by decide +kernel
theorem dX0_isAncestor_5 : decode cX0_isAncestor 5 = .ok (.iload 4, 2) := by decide +kernel
theorem dX0_isAncestor_7 : decode cX0_isAncestor 7 = .ok (.bipush 40, 2) := by decide +kernel
theorem dX0_isAncestor_9 : decode cX0_isAncestor 9 = .ok (.if_icmp .ge 21, 3) := by decide +kernel
theorem dX0_isAncestor_12 : decode cX0_isAncestor 12 = .ok (.iload_n 3, 1) := by decide +kernel
theorem dX0_isAncestor_13 : decode cX0_isAncestor 13 = .ok (.iload_n 1, 1) := by decide +kernel
theorem dX0_isAncestor_14 : decode cX0_isAncestor 14 = .ok (.if_icmp .le 16, 3) := by decide +kernel
theorem dX0_isAncestor_17 : decode cX0_isAncestor 17 = .ok (.aload_n 0, 1) := by decide +kernel
theorem dX0_isAncestor_18 : decode cX0_isAncestor 18 = .ok (.getfield 7, 3) := by decide +kernel
theorem dX0_isAncestor_21 : decode cX0_isAncestor 21 = .ok (.iload_n 3, 1) := by decide +kernel
theorem dX0_isAncestor_22 : decode cX0_isAncestor 22 = .ok (.iaload, 1) := by decide +kernel
theorem dX0_isAncestor_23 : decode cX0_isAncestor 23 = .ok (.istore_n 3, 1) := by decide +kernel
theorem dX0_isAncestor_24 : decode cX0_isAncestor 24 = .ok (.iinc 4 1, 3) := by decide +kernel
theorem dX0_isAncestor_27 : decode cX0_isAncestor 27 = .ok (.goto (-22), 3) := by decide +kernel
theorem dX0_isAncestor_30 : decode cX0_isAncestor 30 = .ok (.iload_n 3, 1) := by decide +kernel
theorem dX0_isAncestor_31 : decode cX0_isAncestor 31 = .ok (.iload_n 1, 1) := by decide +kernel
theorem dX0_isAncestor_32 : decode cX0_isAncestor 32 = .ok (.if_icmp .ne 7, 3) := by decide +kernel
theorem dX0_isAncestor_35 : decode cX0_isAncestor 35 = .ok (.iconst 1, 1) := by decide +kernel
theorem dX0_isAncestor_36 : decode cX0_isAncestor 36 = .ok (.goto 4, 3) := by decide +kernel
theorem dX0_isAncestor_39 : decode cX0_isAncestor 39 = .ok (.iconst 0, 1) := by decide +kernel
theorem dX0_isAncestor_40 : decode cX0_isAncestor 40 = .ok (.ireturn, 1) := by decide +kernel
theorem dX0_meet_0 : decode cX0_meet 0 = .ok (.aload_n 0, 1) := by decide +kernel
theorem dX0_meet_1 : decode cX0_meet 1 = .ok (.iload_n 1, 1) := by decide +kernel
theorem dX0_meet_2 : decode cX0_meet 2 = .ok (.invokevirtual 42, 3) := by decide +kernel
theorem dX0_meet_5 : decode cX0_meet 5 = .ok (.ifCond .eq 11, 3) := by decide +kernel
theorem dX0_meet_8 : decode cX0_meet 8 = .ok (.aload_n 0, 1) := by decide +kernel
theorem dX0_meet_9 : decode cX0_meet 9 = .ok (.iload_n 2, 1) := by decide +kernel
theorem dX0_meet_10 : decode cX0_meet 10 = .ok (.invokevirtual 42, 3) := by decide +kernel
theorem dX0_meet_13 : decode cX0_meet 13 = .ok (.ifCond .ne 5, 3) := by decide +kernel
theorem dX0_meet_16 : decode cX0_meet 16 = .ok (.iconst (-1), 1) := by decide +kernel
theorem dX0_meet_17 : decode cX0_meet 17 = .ok (.ireturn, 1) := by decide +kernel
theorem dX0_meet_18 : decode cX0_meet 18 = .ok (.iload_n 1, 1) := by decide +kernel
theorem dX0_meet_19 : decode cX0_meet 19 = .ok (.istore_n 3, 1) := by decide +kernel
theorem dX0_meet_20 : decode cX0_meet 20 = .ok (.iconst 0, 1) := by decide +kernel
theorem dX0_meet_21 : decode cX0_meet 21 = .ok (.istore 4, 2) := by decide +kernel
theorem dX0_meet_23 : decode cX0_meet 23 = .ok (.iload 4, 2) := by decide +kernel
theorem dX0_meet_25 : decode cX0_meet 25 = .ok (.bipush 40, 2) := by decide +kernel
theorem dX0_meet_27 : decode cX0_meet 27 = .ok (.if_icmp .ge 25, 3) := by decide +kernel
theorem dX0_meet_30 : decode cX0_meet 30 = .ok (.aload_n 0, 1) := by decide +kernel
theorem dX0_meet_31 : decode cX0_meet 31 = .ok (.iload_n 3, 1) := by decide +kernel
theorem dX0_meet_32 : decode cX0_meet 32 = .ok (.iload_n 2, 1) := by decide +kernel
theorem dX0_meet_33 : decode cX0_meet 33 = .ok (.invokevirtual 71, 3) := by decide +kernel
theorem dX0_meet_36 : decode cX0_meet 36 = .ok (.ifCond .ne 16, 3) := by decide +kernel
theorem dX0_meet_39 : decode cX0_meet 39 = .ok (.aload_n 0, 1) := by decide +kernel
theorem dX0_meet_40 : decode cX0_meet 40 = .ok (.getfield 7, 3) := by decide +kernel
theorem dX0_meet_43 : decode cX0_meet 43 = .ok (.iload_n 3, 1) := by decide +kernel
theorem dX0_meet_44 : decode cX0_meet 44 = .ok (.iaload, 1) := by decide +kernel
theorem dX0_meet_45 : decode cX0_meet 45 = .ok (.istore_n 3, 1) := by decide +kernel
theorem dX0_meet_46 : decode cX0_meet 46 = .ok (.iinc 4 1, 3) := by decide +kernel
theorem dX0_meet_49 : decode cX0_meet 49 = .ok (.goto (-26), 3) := by decide +kernel
theorem dX0_meet_52 : decode cX0_meet 52 = .ok (.iload_n 3, 1) := by decide +kernel
theorem dX0_meet_53 : decode cX0_meet 53 = .ok (.ireturn, 1) := by decide +kernel
theorem dX0_family_0 : decode cX0_family 0 = .ok (.aload_n 0, 1) := by decide +kernel
theorem dX0_family_1 : decode cX0_family 1 = .ok (.iload_n 1, 1) := by decide +kernel
theorem dX0_family_2 : decode cX0_family 2 = .ok (.invokevirtual 42, 3) := by decide +kernel
theorem dX0_family_5 : decode cX0_family 5 = .ok (.ifCond .ne 5, 3) := by decide +kernel
theorem dX0_family_8 : decode cX0_family 8 = .ok (.iconst (-1), 1) := by decide +kernel
theorem dX0_family_9 : decode cX0_family 9 = .ok (.ireturn, 1) := by decide +kernel
theorem dX0_family_10 : decode cX0_family 10 = .ok (.iconst 0, 1) := by decide +kernel
theorem dX0_family_11 : decode cX0_family 11 = .ok (.istore_n 2, 1) := by decide +kernel
theorem dX0_family_12 : decode cX0_family 12 = .ok (.iload_n 1, 1) := by decide +kernel
theorem dX0_family_13 : decode cX0_family 13 = .ok (.istore_n 3, 1) := by decide +kernel
theorem dX0_family_14 : decode cX0_family 14 = .ok (.iload_n 3, 1) := by decide +kernel
theorem dX0_family_15 : decode cX0_family 15 = .ok (.iconst (-1), 1) := by decide +kernel
theorem dX0_family_16 : decode cX0_family 16 = .ok (.if_icmp .eq 25, 3) := by decide +kernel
theorem dX0_family_19 : decode cX0_family 19 = .ok (.aload_n 0, 1) := by decide +kernel
theorem dX0_family_20 : decode cX0_family 20 = .ok (.iload_n 1, 1) := by decide +kernel
theorem dX0_family_21 : decode cX0_family 21 = .ok (.iload_n 3, 1) := by decide +kernel
theorem dX0_family_22 : decode cX0_family 22 = .ok (.invokevirtual 71, 3) := by decide +kernel
theorem dX0_family_25 : decode cX0_family 25 = .ok (.ifCond .eq 16, 3) := by decide +kernel
theorem dX0_family_28 : decode cX0_family 28 = .ok (.iinc 2 1, 3) := by decide +kernel
theorem dX0_family_31 : decode cX0_family 31 = .ok (.aload_n 0, 1) := by decide +kernel
theorem dX0_family_32 : decode cX0_family 32 = .ok (.getfield 17, 3) := by decide +kernel
theorem dX0_family_35 : decode cX0_family 35 = .ok (.iload_n 3, 1) := by decide +kernel
theorem dX0_family_36 : decode cX0_family 36 = .ok (.iaload, 1) := by decide +kernel
theorem dX0_family_37 : decode cX0_family 37 = .ok (.istore_n 3, 1) := by decide +kernel
theorem dX0_family_38 : decode cX0_family 38 = .ok (.goto (-24), 3) := by decide +kernel
theorem dX0_family_41 : decode cX0_family 41 = .ok (.iload_n 2, 1) := by decide +kernel
theorem dX0_family_42 : decode cX0_family 42 = .ok (.ireturn, 1) := by decide +kernel
theorem dX0_has_0 : decode cX0_has 0 = .ok (.aload_n 0, 1) := by decide +kernel
theorem dX0_has_1 : decode cX0_has 1 = .ok (.iload_n 1, 1) := by decide +kernel
theorem dX0_has_2 : decode cX0_has 2 = .ok (.invokevirtual 42, 3) := by decide +kernel
theorem dX0_has_5 : decode cX0_has 5 = .ok (.ifCond .ne 5, 3) := by decide +kernel
theorem dX0_has_8 : decode cX0_has 8 = .ok (.iconst (-1), 1) := by decide +kernel
theorem dX0_has_9 : decode cX0_has 9 = .ok (.ireturn, 1) := by decide +kernel
theorem dX0_has_10 : decode cX0_has 10 = .ok (.iload_n 2, 1) := by decide +kernel
theorem dX0_has_11 : decode cX0_has 11 = .ok (.invokestatic 46, 3) := by decide +kernel
theorem dX0_has_14 : decode cX0_has 14 = .ok (.ifCond .ne 6, 3) := by decide +kernel
theorem dX0_has_17 : decode cX0_has 17 = .ok (.bipush (-2), 2) := by decide +kernel
theorem dX0_has_19 : decode cX0_has 19 = .ok (.ireturn, 1) := by decide +kernel
theorem dX0_has_20 : decode cX0_has 20 = .ok (.aload_n 0, 1) := by decide +kernel
theorem dX0_has_21 : decode cX0_has 21 = .ok (.iload_n 1, 1) := by decide +kernel
theorem dX0_has_22 : decode cX0_has 22 = .ok (.iload_n 2, 1) := by decide +kernel
theorem dX0_has_23 : decode cX0_has 23 = .ok (.invokevirtual 60, 3) := by decide +kernel
theorem dX0_has_26 : decode cX0_has 26 = .ok (.aload_n 0, 1) := by decide +kernel
theorem dX0_has_27 : decode cX0_has 27 = .ok (.getfield 64, 3) := by decide +kernel
theorem dX0_has_30 : decode cX0_has 30 = .ok (.ifCond .eq 7, 3) := by decide +kernel
theorem dX0_has_33 : decode cX0_has 33 = .ok (.iconst 1, 1) := by decide +kernel
theorem dX0_has_34 : decode cX0_has 34 = .ok (.goto 4, 3) := by decide +kernel
theorem dX0_has_37 : decode cX0_has 37 = .ok (.iconst 0, 1) := by decide +kernel
theorem dX0_has_38 : decode cX0_has 38 = .ok (.ireturn, 1) := by decide +kernel
theorem dX0_get_0 : decode cX0_get 0 = .ok (.aload_n 0, 1) := by decide +kernel
theorem dX0_get_1 : decode cX0_get 1 = .ok (.iload_n 1, 1) := by decide +kernel
theorem dX0_get_2 : decode cX0_get 2 = .ok (.invokevirtual 42, 3) := by decide +kernel
theorem dX0_get_5 : decode cX0_get 5 = .ok (.ifCond .eq 10, 3) := by decide +kernel
theorem dX0_get_8 : decode cX0_get 8 = .ok (.iload_n 2, 1) := by decide +kernel
theorem dX0_get_9 : decode cX0_get 9 = .ok (.invokestatic 46, 3) := by decide +kernel
theorem dX0_get_12 : decode cX0_get 12 = .ok (.ifCond .ne 5, 3) := by decide +kernel
theorem dX0_get_15 : decode cX0_get 15 = .ok (.iconst 0, 1) := by decide +kernel
theorem dX0_get_16 : decode cX0_get 16 = .ok (.ireturn, 1) := by decide +kernel
theorem dX0_get_17 : decode cX0_get 17 = .ok (.aload_n 0, 1) := by decide +kernel
theorem dX0_get_18 : decode cX0_get 18 = .ok (.iload_n 1, 1) := by decide +kernel
theorem dX0_get_19 : decode cX0_get 19 = .ok (.iload_n 2, 1) := by decide +kernel
theorem dX0_get_20 : decode cX0_get 20 = .ok (.invokevirtual 60, 3) := by decide +kernel
theorem dX0_get_23 : decode cX0_get 23 = .ok (.aload_n 0, 1) := by decide +kernel
theorem dX0_get_24 : decode cX0_get 24 = .ok (.getfield 64, 3) := by decide +kernel
theorem dX0_get_27 : decode cX0_get 27 = .ok (.ifCond .eq 10, 3) := by decide +kernel
theorem dX0_get_30 : decode cX0_get 30 = .ok (.aload_n 0, 1) := by decide +kernel
theorem dX0_get_31 : decode cX0_get 31 = .ok (.getfield 68, 3) := by decide +kernel
theorem dX0_get_34 : decode cX0_get 34 = .ok (.goto 4, 3) := by decide +kernel
theorem dX0_get_37 : decode cX0_get 37 = .ok (.iconst 0, 1) := by decide +kernel
theorem dX0_get_38 : decode cX0_get 38 = .ok (.ireturn, 1) := by decide +kernel
theorem dX0_size_0 : decode cX0_size 0 = .ok (.aload_n 0, 1) := by decide +kernel
theorem dX0_size_1 : decode cX0_size 1 = .ok (.iload_n 1, 1) := by decide +kernel
theorem dX0_size_2 : decode cX0_size 2 = .ok (.invokevirtual 42, 3) := by decide +kernel
theorem dX0_size_5 : decode cX0_size 5 = .ok (.ifCond .ne 5, 3) := by decide +kernel
theorem dX0_size_8 : decode cX0_size 8 = .ok (.iconst (-1), 1) := by decide +kernel
theorem dX0_size_9 : decode cX0_size 9 = .ok (.ireturn, 1) := by decide +kernel
theorem dX0_size_10 : decode cX0_size 10 = .ok (.iconst 0, 1) := by decide +kernel
theorem dX0_size_11 : decode cX0_size 11 = .ok (.istore_n 2, 1) := by decide +kernel
theorem dX0_size_12 : decode cX0_size 12 = .ok (.iconst 0, 1) := by decide +kernel
theorem dX0_size_13 : decode cX0_size 13 = .ok (.istore_n 3, 1) := by decide +kernel
theorem dX0_size_14 : decode cX0_size 14 = .ok (.iload_n 3, 1) := by decide +kernel
theorem dX0_size_15 : decode cX0_size 15 = .ok (.bipush 32, 2) := by decide +kernel
theorem dX0_size_17 : decode cX0_size 17 = .ok (.if_icmp .ge 30, 3) := by decide +kernel
theorem dX0_size_20 : decode cX0_size 20 = .ok (.aload_n 0, 1) := by decide +kernel
theorem dX0_size_21 : decode cX0_size 21 = .ok (.iload_n 1, 1) := by decide +kernel
theorem dX0_size_22 : decode cX0_size 22 = .ok (.iload_n 3, 1) := by decide +kernel
theorem dX0_size_23 : decode cX0_size 23 = .ok (.invokevirtual 60, 3) := by decide +kernel
theorem dX0_size_26 : decode cX0_size 26 = .ok (.iload_n 2, 1) := by decide +kernel
theorem dX0_size_27 : decode cX0_size 27 = .ok (.aload_n 0, 1) := by decide +kernel
theorem dX0_size_28 : decode cX0_size 28 = .ok (.getfield 64, 3) := by decide +kernel
theorem dX0_size_31 : decode cX0_size 31 = .ok (.ifCond .eq 7, 3) := by decide +kernel
theorem dX0_size_34 : decode cX0_size 34 = .ok (.iconst 1, 1) := by decide +kernel
theorem dX0_size_35 : decode cX0_size 35 = .ok (.goto 4, 3) := by decide +kernel
theorem dX0_size_38 : decode cX0_size 38 = .ok (.iconst 0, 1) := by decide +kernel
theorem dX0_size_39 : decode cX0_size 39 = .ok (.iadd, 1) := by decide +kernel
theorem dX0_size_40 : decode cX0_size 40 = .ok (.istore_n 2, 1) := by decide +kernel
theorem dX0_size_41 : decode cX0_size 41 = .ok (.iinc 3 1, 3) := by decide +kernel
theorem dX0_size_44 : decode cX0_size 44 = .ok (.goto (-30), 3) := by decide +kernel
theorem dX0_size_47 : decode cX0_size 47 = .ok (.iload_n 2, 1) := by decide +kernel
theorem dX0_size_48 : decode cX0_size 48 = .ok (.ireturn, 1) := by decide +kernel
theorem dX0_next_0 : decode cX0_next 0 = .ok (.aload_n 0, 1) := by decide +kernel
theorem dX0_next_1 : decode cX0_next 1 = .ok (.iload_n 1, 1) := by decide +kernel
theorem dX0_next_2 : decode cX0_next 2 = .ok (.invokevirtual 42, 3) := by decide +kernel
theorem dX0_next_5 : decode cX0_next 5 = .ok (.ifCond .ne 5, 3) := by decide +kernel
theorem dX0_next_8 : decode cX0_next 8 = .ok (.iconst (-1), 1) := by decide +kernel
theorem dX0_next_9 : decode cX0_next 9 = .ok (.ireturn, 1) := by decide +kernel
theorem dX0_next_10 : decode cX0_next 10 = .ok (.iload_n 2, 1) := by decide +kernel
theorem dX0_next_11 : decode cX0_next 11 = .ok (.ifCond .ge 7, 3) := by decide +kernel
theorem dX0_next_14 : decode cX0_next 14 = .ok (.iconst 0, 1) := by decide +kernel
theorem dX0_next_15 : decode cX0_next 15 = .ok (.goto 4, 3) := by decide +kernel
theorem dX0_next_18 : decode cX0_next 18 = .ok (.iload_n 2, 1) := by decide +kernel
theorem dX0_next_19 : decode cX0_next 19 = .ok (.istore_n 3, 1) := by decide +kernel
theorem dX0_next_20 : decode cX0_next 20 = .ok (.iload_n 3, 1) := by decide +kernel
theorem dX0_next_21 : decode cX0_next 21 = .ok (.bipush 32, 2) := by decide +kernel
theorem dX0_next_23 : decode cX0_next 23 = .ok (.if_icmp .ge 24, 3) := by decide +kernel
theorem dX0_next_26 : decode cX0_next 26 = .ok (.aload_n 0, 1) := by decide +kernel
theorem dX0_next_27 : decode cX0_next 27 = .ok (.iload_n 1, 1) := by decide +kernel
theorem dX0_next_28 : decode cX0_next 28 = .ok (.iload_n 3, 1) := by decide +kernel
theorem dX0_next_29 : decode cX0_next 29 = .ok (.invokevirtual 60, 3) := by decide +kernel
theorem dX0_next_32 : decode cX0_next 32 = .ok (.aload_n 0, 1) := by decide +kernel
theorem dX0_next_33 : decode cX0_next 33 = .ok (.getfield 64, 3) := by decide +kernel
theorem dX0_next_36 : decode cX0_next 36 = .ok (.ifCond .eq 5, 3) := by decide +kernel
theorem dX0_next_39 : decode cX0_next 39 = .ok (.iload_n 3, 1) := by decide +kernel
theorem dX0_next_40 : decode cX0_next 40 = .ok (.ireturn, 1) := by decide +kernel
theorem dX0_next_41 : decode cX0_next 41 = .ok (.iinc 3 1, 3) := by decide +kernel
theorem dX0_next_44 : decode cX0_next 44 = .ok (.goto (-24), 3) := by decide +kernel
theorem dX0_next_47 : decode cX0_next 47 = .ok (.bipush (-2), 2) := by decide +kernel
theorem dX0_next_49 : decode cX0_next 49 = .ok (.ireturn, 1) := by decide +kernel
theorem dX0_previous_0 : decode cX0_previous 0 = .ok (.aload_n 0, 1) := by decide +kernel
theorem dX0_previous_1 : decode cX0_previous 1 = .ok (.iload_n 1, 1) := by decide +kernel
theorem dX0_previous_2 : decode cX0_previous 2 = .ok (.invokevirtual 42, 3) := by decide +kernel
theorem dX0_previous_5 : decode cX0_previous 5 = .ok (.ifCond .ne 5, 3) := by decide +kernel
theorem dX0_previous_8 : decode cX0_previous 8 = .ok (.iconst (-1), 1) := by decide +kernel
theorem dX0_previous_9 : decode cX0_previous 9 = .ok (.ireturn, 1) := by decide +kernel
theorem dX0_previous_10 : decode cX0_previous 10 = .ok (.iload_n 2, 1) := by decide +kernel
theorem dX0_previous_11 : decode cX0_previous 11 = .ok (.bipush 32, 2) := by decide +kernel
theorem dX0_previous_13 : decode cX0_previous 13 = .ok (.if_icmp .lt 8, 3) := by decide +kernel
theorem dX0_previous_16 : decode cX0_previous 16 = .ok (.bipush 31, 2) := by decide +kernel
theorem dX0_previous_18 : decode cX0_previous 18 = .ok (.goto 4, 3) := by decide +kernel
theorem dX0_previous_21 : decode cX0_previous 21 = .ok (.iload_n 2, 1) := by decide +kernel
theorem dX0_previous_22 : decode cX0_previous 22 = .ok (.istore_n 3, 1) := by decide +kernel
theorem dX0_previous_23 : decode cX0_previous 23 = .ok (.iload_n 3, 1) := by decide +kernel
theorem dX0_previous_24 : decode cX0_previous 24 = .ok (.ifCond .lt 24, 3) := by decide +kernel
theorem dX0_previous_27 : decode cX0_previous 27 = .ok (.aload_n 0, 1) := by decide +kernel
theorem dX0_previous_28 : decode cX0_previous 28 = .ok (.iload_n 1, 1) := by decide +kernel
theorem dX0_previous_29 : decode cX0_previous 29 = .ok (.iload_n 3, 1) := by decide +kernel
theorem dX0_previous_30 : decode cX0_previous 30 = .ok (.invokevirtual 60, 3) := by decide +kernel
theorem dX0_previous_33 : decode cX0_previous 33 = .ok (.aload_n 0, 1) := by decide +kernel
theorem dX0_previous_34 : decode cX0_previous 34 = .ok (.getfield 64, 3) := by decide +kernel
theorem dX0_previous_37 : decode cX0_previous 37 = .ok (.ifCond .eq 5, 3) := by decide +kernel
theorem dX0_previous_40 : decode cX0_previous 40 = .ok (.iload_n 3, 1) := by decide +kernel
theorem dX0_previous_41 : decode cX0_previous 41 = .ok (.ireturn, 1) := by decide +kernel
theorem dX0_previous_42 : decode cX0_previous 42 = .ok (.iinc 3 (-1), 3) := by decide +kernel
theorem dX0_previous_45 : decode cX0_previous 45 = .ok (.goto (-22), 3) := by decide +kernel
theorem dX0_previous_48 : decode cX0_previous 48 = .ok (.bipush (-2), 2) := by decide +kernel
theorem dX0_previous_50 : decode cX0_previous 50 = .ok (.ireturn, 1) := by decide +kernel
theorem dX0_select_0 : decode cX0_select 0 = .ok (.aload_n 0, 1) := by decide +kernel
theorem dX0_select_1 : decode cX0_select 1 = .ok (.iload_n 1, 1) := by decide +kernel
theorem dX0_select_2 : decode cX0_select 2 = .ok (.invokevirtual 42, 3) := by decide +kernel
theorem dX0_select_5 : decode cX0_select 5 = .ok (.ifCond .ne 5, 3) := by decide +kernel
theorem dX0_select_8 : decode cX0_select 8 = .ok (.iconst (-1), 1) := by decide +kernel
theorem dX0_select_9 : decode cX0_select 9 = .ok (.ireturn, 1) := by decide +kernel
theorem dX0_select_10 : decode cX0_select 10 = .ok (.iload_n 2, 1) := by decide +kernel
theorem dX0_select_11 : decode cX0_select 11 = .ok (.istore_n 3, 1) := by decide +kernel
theorem dX0_select_12 : decode cX0_select 12 = .ok (.iconst 0, 1) := by decide +kernel
theorem dX0_select_13 : decode cX0_select 13 = .ok (.istore 4, 2) := by decide +kernel
theorem dX0_select_15 : decode cX0_select 15 = .ok (.iload 4, 2) := by decide +kernel
theorem dX0_select_17 : decode cX0_select 17 = .ok (.bipush 32, 2) := by decide +kernel
theorem dX0_select_19 : decode cX0_select 19 = .ok (.if_icmp .ge 33, 3) := by decide +kernel
theorem dX0_select_22 : decode cX0_select 22 = .ok (.aload_n 0, 1) := by decide +kernel
theorem dX0_select_23 : decode cX0_select 23 = .ok (.iload_n 1, 1) := by decide +kernel
theorem dX0_select_24 : decode cX0_select 24 = .ok (.iload 4, 2) := by decide +kernel
theorem dX0_select_26 : decode cX0_select 26 = .ok (.invokevirtual 60, 3) := by decide +kernel
theorem dX0_select_29 : decode cX0_select 29 = .ok (.aload_n 0, 1) := by decide +kernel
theorem dX0_select_30 : decode cX0_select 30 = .ok (.getfield 64, 3) := by decide +kernel
theorem dX0_select_33 : decode cX0_select 33 = .ok (.ifCond .eq 13, 3) := by decide +kernel
theorem dX0_select_36 : decode cX0_select 36 = .ok (.iload_n 3, 1) := by decide +kernel
theorem dX0_select_37 : decode cX0_select 37 = .ok (.ifCond .ne 6, 3) := by decide +kernel
theorem dX0_select_40 : decode cX0_select 40 = .ok (.iload 4, 2) := by decide +kernel
theorem dX0_select_42 : decode cX0_select 42 = .ok (.ireturn, 1) := by decide +kernel
theorem dX0_select_43 : decode cX0_select 43 = .ok (.iinc 3 (-1), 3) := by decide +kernel
theorem dX0_select_46 : decode cX0_select 46 = .ok (.iinc 4 1, 3) := by decide +kernel
theorem dX0_select_49 : decode cX0_select 49 = .ok (.goto (-34), 3) := by decide +kernel
theorem dX0_select_52 : decode cX0_select 52 = .ok (.bipush (-2), 2) := by decide +kernel
theorem dX0_select_54 : decode cX0_select 54 = .ok (.ireturn, 1) := by decide +kernel
theorem dX0_sum_0 : decode cX0_sum 0 = .ok (.aload_n 0, 1) := by decide +kernel
theorem dX0_sum_1 : decode cX0_sum 1 = .ok (.iload_n 1, 1) := by decide +kernel
theorem dX0_sum_2 : decode cX0_sum 2 = .ok (.invokevirtual 42, 3) := by decide +kernel
theorem dX0_sum_5 : decode cX0_sum 5 = .ok (.ifCond .ne 5, 3) := by decide +kernel
theorem dX0_sum_8 : decode cX0_sum 8 = .ok (.iconst 0, 1) := by decide +kernel
theorem dX0_sum_9 : decode cX0_sum 9 = .ok (.ireturn, 1) := by decide +kernel
theorem dX0_sum_10 : decode cX0_sum 10 = .ok (.iconst 0, 1) := by decide +kernel
theorem dX0_sum_11 : decode cX0_sum 11 = .ok (.istore 4, 2) := by decide +kernel
theorem dX0_sum_13 : decode cX0_sum 13 = .ok (.iload_n 3, 1) := by decide +kernel
theorem dX0_sum_14 : decode cX0_sum 14 = .ok (.bipush 32, 2) := by decide +kernel
theorem dX0_sum_16 : decode cX0_sum 16 = .ok (.if_icmp .lt 8, 3) := by decide +kernel
theorem dX0_sum_19 : decode cX0_sum 19 = .ok (.bipush 31, 2) := by decide +kernel
theorem dX0_sum_21 : decode cX0_sum 21 = .ok (.goto 4, 3) := by decide +kernel
theorem dX0_sum_24 : decode cX0_sum 24 = .ok (.iload_n 3, 1) := by decide +kernel
theorem dX0_sum_25 : decode cX0_sum 25 = .ok (.istore 5, 2) := by decide +kernel
theorem dX0_sum_27 : decode cX0_sum 27 = .ok (.iload_n 2, 1) := by decide +kernel
theorem dX0_sum_28 : decode cX0_sum 28 = .ok (.ifCond .ge 7, 3) := by decide +kernel
theorem dX0_sum_31 : decode cX0_sum 31 = .ok (.iconst 0, 1) := by decide +kernel
theorem dX0_sum_32 : decode cX0_sum 32 = .ok (.goto 4, 3) := by decide +kernel
theorem dX0_sum_35 : decode cX0_sum 35 = .ok (.iload_n 2, 1) := by decide +kernel
theorem dX0_sum_36 : decode cX0_sum 36 = .ok (.istore 6, 2) := by decide +kernel
theorem dX0_sum_38 : decode cX0_sum 38 = .ok (.iload 6, 2) := by decide +kernel
theorem dX0_sum_40 : decode cX0_sum 40 = .ok (.iload 5, 2) := by decide +kernel
theorem dX0_sum_42 : decode cX0_sum 42 = .ok (.if_icmp .gt 36, 3) := by decide +kernel
theorem dX0_sum_45 : decode cX0_sum 45 = .ok (.aload_n 0, 1) := by decide +kernel
theorem dX0_sum_46 : decode cX0_sum 46 = .ok (.iload_n 1, 1) := by decide +kernel
theorem dX0_sum_47 : decode cX0_sum 47 = .ok (.iload 6, 2) := by decide +kernel
theorem dX0_sum_49 : decode cX0_sum 49 = .ok (.invokevirtual 60, 3) := by decide +kernel
theorem dX0_sum_52 : decode cX0_sum 52 = .ok (.iload 4, 2) := by decide +kernel
theorem dX0_sum_54 : decode cX0_sum 54 = .ok (.aload_n 0, 1) := by decide +kernel
theorem dX0_sum_55 : decode cX0_sum 55 = .ok (.getfield 64, 3) := by decide +kernel
theorem dX0_sum_58 : decode cX0_sum 58 = .ok (.ifCond .eq 10, 3) := by decide +kernel
theorem dX0_sum_61 : decode cX0_sum 61 = .ok (.aload_n 0, 1) := by decide +kernel
theorem dX0_sum_62 : decode cX0_sum 62 = .ok (.getfield 68, 3) := by decide +kernel
theorem dX0_sum_65 : decode cX0_sum 65 = .ok (.goto 4, 3) := by decide +kernel
theorem dX0_sum_68 : decode cX0_sum 68 = .ok (.iconst 0, 1) := by decide +kernel
theorem dX0_sum_69 : decode cX0_sum 69 = .ok (.iadd, 1) := by decide +kernel
theorem dX0_sum_70 : decode cX0_sum 70 = .ok (.istore 4, 2) := by decide +kernel
theorem dX0_sum_72 : decode cX0_sum 72 = .ok (.iinc 6 1, 3) := by decide +kernel
theorem dX0_sum_75 : decode cX0_sum 75 = .ok (.goto (-37), 3) := by decide +kernel
theorem dX0_sum_78 : decode cX0_sum 78 = .ok (.iload 4, 2) := by decide +kernel
theorem dX0_sum_80 : decode cX0_sum 80 = .ok (.ireturn, 1) := by decide +kernel
theorem dX0_differing_0 : decode cX0_differing 0 = .ok (.aload_n 0, 1) := by decide +kernel
theorem dX0_differing_1 : decode cX0_differing 1 = .ok (.iload_n 1, 1) := by decide +kernel
theorem dX0_differing_2 : decode cX0_differing 2 = .ok (.invokevirtual 42, 3) := by decide +kernel
theorem dX0_differing_5 : decode cX0_differing 5 = .ok (.ifCond .eq 11, 3) := by decide +kernel
theorem dX0_differing_8 : decode cX0_differing 8 = .ok (.aload_n 0, 1) := by decide +kernel
theorem dX0_differing_9 : decode cX0_differing 9 = .ok (.iload_n 2, 1) := by decide +kernel
theorem dX0_differing_10 : decode cX0_differing 10 = .ok (.invokevirtual 42, 3) := by decide +kernel
theorem dX0_differing_13 : decode cX0_differing 13 = .ok (.ifCond .ne 5, 3) := by decide +kernel
theorem dX0_differing_16 : decode cX0_differing 16 = .ok (.iconst (-1), 1) := by decide +kernel
theorem dX0_differing_17 : decode cX0_differing 17 = .ok (.ireturn, 1) := by decide +kernel
theorem dX0_differing_18 : decode cX0_differing 18 = .ok (.iconst 0, 1) := by decide +kernel
theorem dX0_differing_19 : decode cX0_differing 19 = .ok (.istore_n 3, 1) := by decide +kernel
theorem dX0_differing_20 : decode cX0_differing 20 = .ok (.iconst 0, 1) := by decide +kernel
theorem dX0_differing_21 : decode cX0_differing 21 = .ok (.istore 4, 2) := by decide +kernel
theorem dX0_differing_23 : decode cX0_differing 23 = .ok (.iload 4, 2) := by decide +kernel
theorem dX0_differing_25 : decode cX0_differing 25 = .ok (.bipush 32, 2) := by decide +kernel
theorem dX0_differing_27 : decode cX0_differing 27 = .ok (.if_icmp .ge 28, 3) := by decide +kernel
theorem dX0_differing_30 : decode cX0_differing 30 = .ok (.iload_n 3, 1) := by decide +kernel
theorem dX0_differing_31 : decode cX0_differing 31 = .ok (.aload_n 0, 1) := by decide +kernel
theorem dX0_differing_32 : decode cX0_differing 32 = .ok (.iload_n 1, 1) := by decide +kernel
theorem dX0_differing_33 : decode cX0_differing 33 = .ok (.iload_n 2, 1) := by decide +kernel
theorem dX0_differing_34 : decode cX0_differing 34 = .ok (.iload 4, 2) := by decide +kernel
theorem dX0_differing_36 : decode cX0_differing 36 = .ok (.invokevirtual 75, 3) := by decide +kernel
theorem dX0_differing_39 : decode cX0_differing 39 = .ok (.ifCond .eq 7, 3) := by decide +kernel
theorem dX0_differing_42 : decode cX0_differing 42 = .ok (.iconst 1, 1) := by decide +kernel
theorem dX0_differing_43 : decode cX0_differing 43 = .ok (.goto 4, 3) := by decide +kernel
theorem dX0_differing_46 : decode cX0_differing 46 = .ok (.iconst 0, 1) := by decide +kernel
theorem dX0_differing_47 : decode cX0_differing 47 = .ok (.iadd, 1) := by decide +kernel
theorem dX0_differing_48 : decode cX0_differing 48 = .ok (.istore_n 3, 1) := by decide +kernel
theorem dX0_differing_49 : decode cX0_differing 49 = .ok (.iinc 4 1, 3) := by decide +kernel
theorem dX0_differing_52 : decode cX0_differing 52 = .ok (.goto (-29), 3) := by decide +kernel
theorem dX0_differing_55 : decode cX0_differing 55 = .ok (.iload_n 3, 1) := by decide +kernel
theorem dX0_differing_56 : decode cX0_differing 56 = .ok (.ireturn, 1) := by decide +kernel
theorem dX0_differ_0 : decode cX0_differ 0 = .ok (.aload_n 0, 1) := by decide +kernel
theorem dX0_differ_1 : decode cX0_differ 1 = .ok (.iload_n 1, 1) := by decide +kernel
theorem dX0_differ_2 : decode cX0_differ 2 = .ok (.iload_n 3, 1) := by decide +kernel
theorem dX0_differ_3 : decode cX0_differ 3 = .ok (.invokevirtual 60, 3) := by decide +kernel
theorem dX0_differ_6 : decode cX0_differ 6 = .ok (.aload_n 0, 1) := by decide +kernel
theorem dX0_differ_7 : decode cX0_differ 7 = .ok (.getfield 64, 3) := by decide +kernel
theorem dX0_differ_10 : decode cX0_differ 10 = .ok (.istore 4, 2) := by decide +kernel
theorem dX0_differ_12 : decode cX0_differ 12 = .ok (.aload_n 0, 1) := by decide +kernel
theorem dX0_differ_13 : decode cX0_differ 13 = .ok (.getfield 68, 3) := by decide +kernel
theorem dX0_differ_16 : decode cX0_differ 16 = .ok (.istore 5, 2) := by decide +kernel
theorem dX0_differ_18 : decode cX0_differ 18 = .ok (.aload_n 0, 1) := by decide +kernel
theorem dX0_differ_19 : decode cX0_differ 19 = .ok (.iload_n 2, 1) := by decide +kernel
theorem dX0_differ_20 : decode cX0_differ 20 = .ok (.iload_n 3, 1) := by decide +kernel
theorem dX0_differ_21 : decode cX0_differ 21 = .ok (.invokevirtual 60, 3) := by decide +kernel
theorem dX0_differ_24 : decode cX0_differ 24 = .ok (.iload 4, 2) := by decide +kernel
theorem dX0_differ_26 : decode cX0_differ 26 = .ok (.aload_n 0, 1) := by decide +kernel
theorem dX0_differ_27 : decode cX0_differ 27 = .ok (.getfield 64, 3) := by decide +kernel
theorem dX0_differ_30 : decode cX0_differ 30 = .ok (.if_icmp .ne 12, 3) := by decide +kernel
theorem dX0_differ_33 : decode cX0_differ 33 = .ok (.iload 5, 2) := by decide +kernel
theorem dX0_differ_35 : decode cX0_differ 35 = .ok (.aload_n 0, 1) := by decide +kernel
theorem dX0_differ_36 : decode cX0_differ 36 = .ok (.getfield 68, 3) := by decide +kernel
theorem dX0_differ_39 : decode cX0_differ 39 = .ok (.if_icmp .eq 7, 3) := by decide +kernel
theorem dX0_differ_42 : decode cX0_differ 42 = .ok (.iconst 1, 1) := by decide +kernel
theorem dX0_differ_43 : decode cX0_differ 43 = .ok (.goto 4, 3) := by decide +kernel
theorem dX0_differ_46 : decode cX0_differ 46 = .ok (.iconst 0, 1) := by decide +kernel
theorem dX0_differ_47 : decode cX0_differ 47 = .ok (.ireturn, 1) := by decide +kernel
theorem dX0_spread_0 : decode cX0_spread 0 = .ok (.iload_n 1, 1) := by decide +kernel
theorem dX0_spread_1 : decode cX0_spread 1 = .ok (.invokestatic 46, 3) := by decide +kernel
theorem dX0_spread_4 : decode cX0_spread 4 = .ok (.ifCond .ne 5, 3) := by decide +kernel
theorem dX0_spread_7 : decode cX0_spread 7 = .ok (.iconst (-1), 1) := by decide +kernel
theorem dX0_spread_8 : decode cX0_spread 8 = .ok (.ireturn, 1) := by decide +kernel
theorem dX0_spread_9 : decode cX0_spread 9 = .ok (.iconst 0, 1) := by decide +kernel
theorem dX0_spread_10 : decode cX0_spread 10 = .ok (.istore_n 2, 1) := by decide +kernel
theorem dX0_spread_11 : decode cX0_spread 11 = .ok (.iconst (-1), 1) := by decide +kernel
theorem dX0_spread_12 : decode cX0_spread 12 = .ok (.istore_n 3, 1) := by decide +kernel
theorem dX0_spread_13 : decode cX0_spread 13 = .ok (.iconst 0, 1) := by decide +kernel
theorem dX0_spread_14 : decode cX0_spread 14 = .ok (.istore 4, 2) := by decide +kernel
theorem dX0_spread_16 : decode cX0_spread 16 = .ok (.iload 4, 2) := by decide +kernel
theorem dX0_spread_18 : decode cX0_spread 18 = .ok (.iconst (-1), 1) := by decide +kernel
theorem dX0_spread_19 : decode cX0_spread 19 = .ok (.if_icmp .eq 46, 3) := by decide +kernel
theorem dX0_spread_22 : decode cX0_spread 22 = .ok (.aload_n 0, 1) := by decide +kernel
theorem dX0_spread_23 : decode cX0_spread 23 = .ok (.iload_n 1, 1) := by decide +kernel
theorem dX0_spread_24 : decode cX0_spread 24 = .ok (.iload_n 3, 1) := by decide +kernel
theorem dX0_spread_25 : decode cX0_spread 25 = .ok (.iload 4, 2) := by decide +kernel
theorem dX0_spread_27 : decode cX0_spread 27 = .ok (.invokevirtual 79, 3) := by decide +kernel
theorem dX0_spread_30 : decode cX0_spread 30 = .ok (.istore_n 3, 1) := by decide +kernel
theorem dX0_spread_31 : decode cX0_spread 31 = .ok (.iload_n 2, 1) := by decide +kernel
theorem dX0_spread_32 : decode cX0_spread 32 = .ok (.iload_n 3, 1) := by decide +kernel
theorem dX0_spread_33 : decode cX0_spread 33 = .ok (.iconst (-1), 1) := by decide +kernel
theorem dX0_spread_34 : decode cX0_spread 34 = .ok (.if_icmp .eq 16, 3) := by decide +kernel
theorem dX0_spread_37 : decode cX0_spread 37 = .ok (.aload_n 0, 1) := by decide +kernel
theorem dX0_spread_38 : decode cX0_spread 38 = .ok (.getfield 29, 3) := by decide +kernel
theorem dX0_spread_41 : decode cX0_spread 41 = .ok (.iload_n 3, 1) := by decide +kernel
theorem dX0_spread_42 : decode cX0_spread 42 = .ok (.baload, 1) := by decide +kernel
theorem dX0_spread_43 : decode cX0_spread 43 = .ok (.ifCond .eq 7, 3) := by decide +kernel
theorem dX0_spread_46 : decode cX0_spread 46 = .ok (.iconst 1, 1) := by decide +kernel
theorem dX0_spread_47 : decode cX0_spread 47 = .ok (.goto 4, 3) := by decide +kernel
theorem dX0_spread_50 : decode cX0_spread 50 = .ok (.iconst 0, 1) := by decide +kernel
theorem dX0_spread_51 : decode cX0_spread 51 = .ok (.iadd, 1) := by decide +kernel
theorem dX0_spread_52 : decode cX0_spread 52 = .ok (.istore_n 2, 1) := by decide +kernel
theorem dX0_spread_53 : decode cX0_spread 53 = .ok (.aload_n 0, 1) := by decide +kernel
theorem dX0_spread_54 : decode cX0_spread 54 = .ok (.getfield 17, 3) := by decide +kernel
theorem dX0_spread_57 : decode cX0_spread 57 = .ok (.iload 4, 2) := by decide +kernel
theorem dX0_spread_59 : decode cX0_spread 59 = .ok (.iaload, 1) := by decide +kernel
theorem dX0_spread_60 : decode cX0_spread 60 = .ok (.istore 4, 2) := by decide +kernel
theorem dX0_spread_62 : decode cX0_spread 62 = .ok (.goto (-46), 3) := by decide +kernel
theorem dX0_spread_65 : decode cX0_spread 65 = .ok (.iload_n 2, 1) := by decide +kernel
theorem dX0_spread_66 : decode cX0_spread 66 = .ok (.ireturn, 1) := by decide +kernel
theorem dX0_changes_0 : decode cX0_changes 0 = .ok (.iload_n 1, 1) := by decide +kernel
theorem dX0_changes_1 : decode cX0_changes 1 = .ok (.invokestatic 46, 3) := by decide +kernel
theorem dX0_changes_4 : decode cX0_changes 4 = .ok (.ifCond .ne 5, 3) := by decide +kernel
theorem dX0_changes_7 : decode cX0_changes 7 = .ok (.iconst (-1), 1) := by decide +kernel
theorem dX0_changes_8 : decode cX0_changes 8 = .ok (.ireturn, 1) := by decide +kernel
theorem dX0_changes_9 : decode cX0_changes 9 = .ok (.iconst 0, 1) := by decide +kernel
theorem dX0_changes_10 : decode cX0_changes 10 = .ok (.istore_n 2, 1) := by decide +kernel
theorem dX0_changes_11 : decode cX0_changes 11 = .ok (.iconst 1, 1) := by decide +kernel
theorem dX0_changes_12 : decode cX0_changes 12 = .ok (.istore_n 3, 1) := by decide +kernel
theorem dX0_changes_13 : decode cX0_changes 13 = .ok (.iload_n 3, 1) := by decide +kernel
theorem dX0_changes_14 : decode cX0_changes 14 = .ok (.aload_n 0, 1) := by decide +kernel
theorem dX0_changes_15 : decode cX0_changes 15 = .ok (.getfield 38, 3) := by decide +kernel
theorem dX0_changes_18 : decode cX0_changes 18 = .ok (.if_icmp .ge 32, 3) := by decide +kernel
theorem dX0_changes_21 : decode cX0_changes 21 = .ok (.iload_n 2, 1) := by decide +kernel
theorem dX0_changes_22 : decode cX0_changes 22 = .ok (.aload_n 0, 1) := by decide +kernel
theorem dX0_changes_23 : decode cX0_changes 23 = .ok (.iload_n 3, 1) := by decide +kernel
theorem dX0_changes_24 : decode cX0_changes 24 = .ok (.aload_n 0, 1) := by decide +kernel
theorem dX0_changes_25 : decode cX0_changes 25 = .ok (.getfield 7, 3) := by decide +kernel
theorem dX0_changes_28 : decode cX0_changes 28 = .ok (.iload_n 3, 1) := by decide +kernel
theorem dX0_changes_29 : decode cX0_changes 29 = .ok (.iaload, 1) := by decide +kernel
theorem dX0_changes_30 : decode cX0_changes 30 = .ok (.iload_n 1, 1) := by decide +kernel
theorem dX0_changes_31 : decode cX0_changes 31 = .ok (.invokevirtual 75, 3) := by decide +kernel
theorem dX0_changes_34 : decode cX0_changes 34 = .ok (.ifCond .eq 7, 3) := by decide +kernel
theorem dX0_changes_37 : decode cX0_changes 37 = .ok (.iconst 1, 1) := by decide +kernel
theorem dX0_changes_38 : decode cX0_changes 38 = .ok (.goto 4, 3) := by decide +kernel
theorem dX0_changes_41 : decode cX0_changes 41 = .ok (.iconst 0, 1) := by decide +kernel
theorem dX0_changes_42 : decode cX0_changes 42 = .ok (.iadd, 1) := by decide +kernel
theorem dX0_changes_43 : decode cX0_changes 43 = .ok (.istore_n 2, 1) := by decide +kernel
theorem dX0_changes_44 : decode cX0_changes 44 = .ok (.iinc 3 1, 3) := by decide +kernel
theorem dX0_changes_47 : decode cX0_changes 47 = .ok (.goto (-34), 3) := by decide +kernel
theorem dX0_changes_50 : decode cX0_changes 50 = .ok (.iload_n 2, 1) := by decide +kernel
theorem dX0_changes_51 : decode cX0_changes 51 = .ok (.ireturn, 1) := by decide +kernel
end
section
set_option maxRecDepth 100000
theorem dX1_init_0 : decode cX1_init 0 = .ok (.aload_n 0, 1) := by decide +kernel
theorem dX1_init_1 : decode cX1_init 1 = .ok (.invokespecial 1, 3) := by decide +kernel
theorem dX1_init_4 : decode cX1_init 4 = .ok (.aload_n 0, 1) := by decide +kernel
theorem dX1_init_5 : decode cX1_init 5 = .ok (.iconst 1, 1) := by decide +kernel
theorem dX1_init_6 : decode cX1_init 6 = .ok (.putfield 7, 3) := by decide +kernel
theorem dX1_init_9 : decode cX1_init 9 = .ok (.aload_n 0, 1) := by decide +kernel
theorem dX1_init_10 : decode cX1_init 10 = .ok (.bipush 40, 2) := by decide +kernel
theorem dX1_init_12 : decode cX1_init 12 = .ok (.newarray .int, 2) := by decide +kernel
theorem dX1_init_14 : decode cX1_init 14 = .ok (.putfield 13, 3) := by decide +kernel
theorem dX1_init_17 : decode cX1_init 17 = .ok (.aload_n 0, 1) := by decide +kernel
theorem dX1_init_18 : decode cX1_init 18 = .ok (.sipush 1280, 3) := by decide +kernel
theorem dX1_init_21 : decode cX1_init 21 = .ok (.newarray .boolean, 2) := by decide +kernel
theorem dX1_init_23 : decode cX1_init 23 = .ok (.putfield 17, 3) := by decide +kernel
theorem dX1_init_26 : decode cX1_init 26 = .ok (.aload_n 0, 1) := by decide +kernel
theorem dX1_init_27 : decode cX1_init 27 = .ok (.sipush 1280, 3) := by decide +kernel
theorem dX1_init_30 : decode cX1_init 30 = .ok (.newarray .int, 2) := by decide +kernel
theorem dX1_init_32 : decode cX1_init 32 = .ok (.putfield 21, 3) := by decide +kernel
theorem dX1_init_35 : decode cX1_init 35 = .ok (.aload_n 0, 1) := by decide +kernel
theorem dX1_init_36 : decode cX1_init 36 = .ok (.getfield 13, 3) := by decide +kernel
theorem dX1_init_39 : decode cX1_init 39 = .ok (.iconst 0, 1) := by decide +kernel
theorem dX1_init_40 : decode cX1_init 40 = .ok (.iconst (-1), 1) := by decide +kernel
theorem dX1_init_41 : decode cX1_init 41 = .ok (.iastore, 1) := by decide +kernel
theorem dX1_init_42 : decode cX1_init 42 = .ok (.return_, 1) := by decide +kernel
theorem dX1_put_0 : decode cX1_put 0 = .ok (.aload_n 0, 1) := by decide +kernel
theorem dX1_put_1 : decode cX1_put 1 = .ok (.iload_n 1, 1) := by decide +kernel
theorem dX1_put_2 : decode cX1_put 2 = .ok (.invokevirtual 24, 3) := by decide +kernel
theorem dX1_put_5 : decode cX1_put 5 = .ok (.ifCond .eq 5, 3) := by decide +kernel
theorem dX1_put_8 : decode cX1_put 8 = .ok (.iconst (-1), 1) := by decide +kernel
theorem dX1_put_9 : decode cX1_put 9 = .ok (.ireturn, 1) := by decide +kernel
theorem dX1_put_10 : decode cX1_put 10 = .ok (.aload_n 0, 1) := by decide +kernel
theorem dX1_put_11 : decode cX1_put 11 = .ok (.iload_n 2, 1) := by decide +kernel
theorem dX1_put_12 : decode cX1_put 12 = .ok (.invokevirtual 28, 3) := by decide +kernel
theorem dX1_put_15 : decode cX1_put 15 = .ok (.ifCond .eq 6, 3) := by decide +kernel
theorem dX1_put_18 : decode cX1_put 18 = .ok (.bipush (-2), 2) := by decide +kernel
theorem dX1_put_20 : decode cX1_put 20 = .ok (.ireturn, 1) := by decide +kernel
theorem dX1_put_21 : decode cX1_put 21 = .ok (.aload_n 0, 1) := by decide +kernel
theorem dX1_put_22 : decode cX1_put 22 = .ok (.iload_n 1, 1) := by decide +kernel
theorem dX1_put_23 : decode cX1_put 23 = .ok (.invokevirtual 31, 3) := by decide +kernel
theorem dX1_put_26 : decode cX1_put 26 = .ok (.istore 4, 2) := by decide +kernel
theorem dX1_put_28 : decode cX1_put 28 = .ok (.iload 4, 2) := by decide +kernel
theorem dX1_put_30 : decode cX1_put 30 = .ok (.ifCond .lt 11, 3) := by decide +kernel
theorem dX1_put_33 : decode cX1_put 33 = .ok (.aload_n 0, 1) := by decide +kernel
theorem dX1_put_34 : decode cX1_put 34 = .ok (.iload 4, 2) := by decide +kernel
theorem dX1_put_36 : decode cX1_put 36 = .ok (.iload_n 2, 1) := by decide +kernel
theorem dX1_put_37 : decode cX1_put 37 = .ok (.iload_n 3, 1) := by decide +kernel
theorem dX1_put_38 : decode cX1_put 38 = .ok (.invokevirtual 35, 3) := by decide +kernel
theorem dX1_put_41 : decode cX1_put 41 = .ok (.iload 4, 2) := by decide +kernel
theorem dX1_put_43 : decode cX1_put 43 = .ok (.ireturn, 1) := by decide +kernel
theorem dX1_bad_0 : decode cX1_bad 0 = .ok (.iload_n 1, 1) := by decide +kernel
theorem dX1_bad_1 : decode cX1_bad 1 = .ok (.ifCond .lt 17, 3) := by decide +kernel
theorem dX1_bad_4 : decode cX1_bad 4 = .ok (.iload_n 1, 1) := by decide +kernel
theorem dX1_bad_5 : decode cX1_bad 5 = .ok (.aload_n 0, 1) := by decide +kernel
theorem dX1_bad_6 : decode cX1_bad 6 = .ok (.getfield 7, 3) := by decide +kernel
theorem dX1_bad_9 : decode cX1_bad 9 = .ok (.if_icmp .ge 9, 3) := by decide +kernel
theorem dX1_bad_12 : decode cX1_bad 12 = .ok (.iload_n 1, 1) := by decide +kernel
theorem dX1_bad_13 : decode cX1_bad 13 = .ok (.bipush 39, 2) := by decide +kernel
theorem dX1_bad_15 : decode cX1_bad 15 = .ok (.if_icmp .le 7, 3) := by decide +kernel
theorem dX1_bad_18 : decode cX1_bad 18 = .ok (.iconst 1, 1) := by decide +kernel
theorem dX1_bad_19 : decode cX1_bad 19 = .ok (.goto 4, 3) := by decide +kernel
theorem dX1_bad_22 : decode cX1_bad 22 = .ok (.iconst 0, 1) := by decide +kernel
theorem dX1_bad_23 : decode cX1_bad 23 = .ok (.ireturn, 1) := by decide +kernel
theorem dX1_badKey_0 : decode cX1_badKey 0 = .ok (.iload_n 1, 1) := by decide +kernel
theorem dX1_badKey_1 : decode cX1_badKey 1 = .ok (.ifCond .lt 9, 3) := by decide +kernel
theorem dX1_badKey_4 : decode cX1_badKey 4 = .ok (.iload_n 1, 1) := by decide +kernel
theorem dX1_badKey_5 : decode cX1_badKey 5 = .ok (.bipush 31, 2) := by decide +kernel
theorem dX1_badKey_7 : decode cX1_badKey 7 = .ok (.if_icmp .le 7, 3) := by decide +kernel
theorem dX1_badKey_10 : decode cX1_badKey 10 = .ok (.iconst 1, 1) := by decide +kernel
theorem dX1_badKey_11 : decode cX1_badKey 11 = .ok (.goto 4, 3) := by decide +kernel
theorem dX1_badKey_14 : decode cX1_badKey 14 = .ok (.iconst 0, 1) := by decide +kernel
theorem dX1_badKey_15 : decode cX1_badKey 15 = .ok (.ireturn, 1) := by decide +kernel
theorem dX1_make_0 : decode cX1_make 0 = .ok (.aload_n 0, 1) := by decide +kernel
theorem dX1_make_1 : decode cX1_make 1 = .ok (.getfield 7, 3) := by decide +kernel
theorem dX1_make_4 : decode cX1_make 4 = .ok (.istore_n 2, 1) := by decide +kernel
theorem dX1_make_5 : decode cX1_make 5 = .ok (.iload_n 2, 1) := by decide +kernel
theorem dX1_make_6 : decode cX1_make 6 = .ok (.bipush 39, 2) := by decide +kernel
theorem dX1_make_8 : decode cX1_make 8 = .ok (.if_icmp .le 6, 3) := by decide +kernel
theorem dX1_make_11 : decode cX1_make 11 = .ok (.bipush (-3), 2) := by decide +kernel
theorem dX1_make_13 : decode cX1_make 13 = .ok (.ireturn, 1) := by decide +kernel
theorem dX1_make_14 : decode cX1_make 14 = .ok (.iconst 0, 1) := by decide +kernel
theorem dX1_make_15 : decode cX1_make 15 = .ok (.istore_n 3, 1) := by decide +kernel
theorem dX1_make_16 : decode cX1_make 16 = .ok (.iload_n 3, 1) := by decide +kernel
theorem dX1_make_17 : decode cX1_make 17 = .ok (.bipush 32, 2) := by decide +kernel
theorem dX1_make_19 : decode cX1_make 19 = .ok (.if_icmp .ge 53, 3) := by decide +kernel
theorem dX1_make_22 : decode cX1_make 22 = .ok (.aload_n 0, 1) := by decide +kernel
theorem dX1_make_23 : decode cX1_make 23 = .ok (.getfield 17, 3) := by decide +kernel
theorem dX1_make_26 : decode cX1_make 26 = .ok (.bipush 32, 2) := by decide +kernel
theorem dX1_make_28 : decode cX1_make 28 = .ok (.iload_n 2, 1) := by decide +kernel
theorem dX1_make_29 : decode cX1_make 29 = .ok (.imul, 1) := by decide +kernel
theorem dX1_make_30 : decode cX1_make 30 = .ok (.iload_n 3, 1) := by decide +kernel
theorem dX1_make_31 : decode cX1_make 31 = .ok (.iadd, 1) := by decide +kernel
theorem dX1_make_32 : decode cX1_make 32 = .ok (.aload_n 0, 1) := by decide +kernel
theorem dX1_make_33 : decode cX1_make 33 = .ok (.getfield 17, 3) := by decide +kernel
theorem dX1_make_36 : decode cX1_make 36 = .ok (.bipush 32, 2) := by decide +kernel
theorem dX1_make_38 : decode cX1_make 38 = .ok (.iload_n 1, 1) := by decide +kernel
theorem dX1_make_39 : decode cX1_make 39 = .ok (.imul, 1) := by decide +kernel
theorem dX1_make_40 : decode cX1_make 40 = .ok (.iload_n 3, 1) := by decide +kernel
theorem dX1_make_41 : decode cX1_make 41 = .ok (.iadd, 1) := by decide +kernel
theorem dX1_make_42 : decode cX1_make 42 = .ok (.baload, 1) := by decide +kernel
theorem dX1_make_43 : decode cX1_make 43 = .ok (.bastore, 1) := by decide +kernel
theorem dX1_make_44 : decode cX1_make 44 = .ok (.aload_n 0, 1) := by decide +kernel
theorem dX1_make_45 : decode cX1_make 45 = .ok (.getfield 21, 3) := by decide +kernel
theorem dX1_make_48 : decode cX1_make 48 = .ok (.bipush 32, 2) := by decide +kernel
theorem dX1_make_50 : decode cX1_make 50 = .ok (.iload_n 2, 1) := by decide +kernel
theorem dX1_make_51 : decode cX1_make 51 = .ok (.imul, 1) := by decide +kernel
theorem dX1_make_52 : decode cX1_make 52 = .ok (.iload_n 3, 1) := by decide +kernel
theorem dX1_make_53 : decode cX1_make 53 = .ok (.iadd, 1) := by decide +kernel
theorem dX1_make_54 : decode cX1_make 54 = .ok (.aload_n 0, 1) := by decide +kernel
theorem dX1_make_55 : decode cX1_make 55 = .ok (.getfield 21, 3) := by decide +kernel
theorem dX1_make_58 : decode cX1_make 58 = .ok (.bipush 32, 2) := by decide +kernel
theorem dX1_make_60 : decode cX1_make 60 = .ok (.iload_n 1, 1) := by decide +kernel
theorem dX1_make_61 : decode cX1_make 61 = .ok (.imul, 1) := by decide +kernel
theorem dX1_make_62 : decode cX1_make 62 = .ok (.iload_n 3, 1) := by decide +kernel
theorem dX1_make_63 : decode cX1_make 63 = .ok (.iadd, 1) := by decide +kernel
theorem dX1_make_64 : decode cX1_make 64 = .ok (.iaload, 1) := by decide +kernel
theorem dX1_make_65 : decode cX1_make 65 = .ok (.iastore, 1) := by decide +kernel
theorem dX1_make_66 : decode cX1_make 66 = .ok (.iinc 3 1, 3) := by decide +kernel
theorem dX1_make_69 : decode cX1_make 69 = .ok (.goto (-53), 3) := by decide +kernel
theorem dX1_make_72 : decode cX1_make 72 = .ok (.aload_n 0, 1) := by decide +kernel
theorem dX1_make_73 : decode cX1_make 73 = .ok (.getfield 13, 3) := by decide +kernel
theorem dX1_make_76 : decode cX1_make 76 = .ok (.iload_n 2, 1) := by decide +kernel
theorem dX1_make_77 : decode cX1_make 77 = .ok (.iload_n 1, 1) := by decide +kernel
theorem dX1_make_78 : decode cX1_make 78 = .ok (.iastore, 1) := by decide +kernel
theorem dX1_make_79 : decode cX1_make 79 = .ok (.aload_n 0, 1) := by decide +kernel
theorem dX1_make_80 : decode cX1_make 80 = .ok (.iload_n 2, 1) := by decide +kernel
theorem dX1_make_81 : decode cX1_make 81 = .ok (.iconst 1, 1) := by decide +kernel
theorem dX1_make_82 : decode cX1_make 82 = .ok (.iadd, 1) := by decide +kernel
theorem dX1_make_83 : decode cX1_make 83 = .ok (.putfield 7, 3) := by decide +kernel
theorem dX1_make_86 : decode cX1_make 86 = .ok (.iload_n 2, 1) := by decide +kernel
theorem dX1_make_87 : decode cX1_make 87 = .ok (.ireturn, 1) := by decide +kernel
theorem dX1_give_0 : decode cX1_give 0 = .ok (.aload_n 0, 1) := by decide +kernel
theorem dX1_give_1 : decode cX1_give 1 = .ok (.getfield 17, 3) := by decide +kernel
theorem dX1_give_4 : decode cX1_give 4 = .ok (.bipush 32, 2) := by decide +kernel
theorem dX1_give_6 : decode cX1_give 6 = .ok (.iload_n 1, 1) := by decide +kernel
theorem dX1_give_7 : decode cX1_give 7 = .ok (.imul, 1) := by decide +kernel
theorem dX1_give_8 : decode cX1_give 8 = .ok (.iload_n 2, 1) := by decide +kernel
theorem dX1_give_9 : decode cX1_give 9 = .ok (.iadd, 1) := by decide +kernel
theorem dX1_give_10 : decode cX1_give 10 = .ok (.iconst 1, 1) := by decide +kernel
theorem dX1_give_11 : decode cX1_give 11 = .ok (.bastore, 1) := by decide +kernel
theorem dX1_give_12 : decode cX1_give 12 = .ok (.aload_n 0, 1) := by decide +kernel
theorem dX1_give_13 : decode cX1_give 13 = .ok (.getfield 21, 3) := by decide +kernel
theorem dX1_give_16 : decode cX1_give 16 = .ok (.bipush 32, 2) := by decide +kernel
theorem dX1_give_18 : decode cX1_give 18 = .ok (.iload_n 1, 1) := by decide +kernel
theorem dX1_give_19 : decode cX1_give 19 = .ok (.imul, 1) := by decide +kernel
theorem dX1_give_20 : decode cX1_give 20 = .ok (.iload_n 2, 1) := by decide +kernel
theorem dX1_give_21 : decode cX1_give 21 = .ok (.iadd, 1) := by decide +kernel
theorem dX1_give_22 : decode cX1_give 22 = .ok (.iload_n 3, 1) := by decide +kernel
theorem dX1_give_23 : decode cX1_give 23 = .ok (.iastore, 1) := by decide +kernel
theorem dX1_give_24 : decode cX1_give 24 = .ok (.return_, 1) := by decide +kernel
theorem dX1_remove_0 : decode cX1_remove 0 = .ok (.aload_n 0, 1) := by decide +kernel
theorem dX1_remove_1 : decode cX1_remove 1 = .ok (.iload_n 1, 1) := by decide +kernel
theorem dX1_remove_2 : decode cX1_remove 2 = .ok (.invokevirtual 24, 3) := by decide +kernel
theorem dX1_remove_5 : decode cX1_remove 5 = .ok (.ifCond .eq 5, 3) := by decide +kernel
theorem dX1_remove_8 : decode cX1_remove 8 = .ok (.iconst (-1), 1) := by decide +kernel
theorem dX1_remove_9 : decode cX1_remove 9 = .ok (.ireturn, 1) := by decide +kernel
theorem dX1_remove_10 : decode cX1_remove 10 = .ok (.aload_n 0, 1) := by decide +kernel
theorem dX1_remove_11 : decode cX1_remove 11 = .ok (.iload_n 2, 1) := by decide +kernel
theorem dX1_remove_12 : decode cX1_remove 12 = .ok (.invokevirtual 28, 3) := by decide +kernel
theorem dX1_remove_15 : decode cX1_remove 15 = .ok (.ifCond .eq 6, 3) := by decide +kernel
theorem dX1_remove_18 : decode cX1_remove 18 = .ok (.bipush (-2), 2) := by decide +kernel
theorem dX1_remove_20 : decode cX1_remove 20 = .ok (.ireturn, 1) := by decide +kernel
theorem dX1_remove_21 : decode cX1_remove 21 = .ok (.aload_n 0, 1) := by decide +kernel
theorem dX1_remove_22 : decode cX1_remove 22 = .ok (.iload_n 1, 1) := by decide +kernel
theorem dX1_remove_23 : decode cX1_remove 23 = .ok (.invokevirtual 31, 3) := by decide +kernel
theorem dX1_remove_26 : decode cX1_remove 26 = .ok (.istore_n 3, 1) := by decide +kernel
theorem dX1_remove_27 : decode cX1_remove 27 = .ok (.iload_n 3, 1) := by decide +kernel
theorem dX1_remove_28 : decode cX1_remove 28 = .ok (.ifCond .lt 15, 3) := by decide +kernel
theorem dX1_remove_31 : decode cX1_remove 31 = .ok (.aload_n 0, 1) := by decide +kernel
theorem dX1_remove_32 : decode cX1_remove 32 = .ok (.getfield 17, 3) := by decide +kernel
theorem dX1_remove_35 : decode cX1_remove 35 = .ok (.bipush 32, 2) := by decide +kernel
theorem dX1_remove_37 : decode cX1_remove 37 = .ok (.iload_n 3, 1) := by decide +kernel
theorem dX1_remove_38 : decode cX1_remove 38 = .ok (.imul, 1) := by decide +kernel
theorem dX1_remove_39 : decode cX1_remove 39 = .ok (.iload_n 2, 1) := by decide +kernel
theorem dX1_remove_40 : decode cX1_remove 40 = .ok (.iadd, 1) := by decide +kernel
theorem dX1_remove_41 : decode cX1_remove 41 = .ok (.iconst 0, 1) := by decide +kernel
theorem dX1_remove_42 : decode cX1_remove 42 = .ok (.bastore, 1) := by decide +kernel
theorem dX1_remove_43 : decode cX1_remove 43 = .ok (.iload_n 3, 1) := by decide +kernel
theorem dX1_remove_44 : decode cX1_remove 44 = .ok (.ireturn, 1) := by decide +kernel
theorem dX1_fill_0 : decode cX1_fill 0 = .ok (.aload_n 0, 1) := by decide +kernel
theorem dX1_fill_1 : decode cX1_fill 1 = .ok (.iload_n 1, 1) := by decide +kernel
theorem dX1_fill_2 : decode cX1_fill 2 = .ok (.invokevirtual 24, 3) := by decide +kernel
theorem dX1_fill_5 : decode cX1_fill 5 = .ok (.ifCond .eq 5, 3) := by decide +kernel
theorem dX1_fill_8 : decode cX1_fill 8 = .ok (.iconst (-1), 1) := by decide +kernel
theorem dX1_fill_9 : decode cX1_fill 9 = .ok (.ireturn, 1) := by decide +kernel
theorem dX1_fill_10 : decode cX1_fill 10 = .ok (.aload_n 0, 1) := by decide +kernel
theorem dX1_fill_11 : decode cX1_fill 11 = .ok (.iload_n 2, 1) := by decide +kernel
theorem dX1_fill_12 : decode cX1_fill 12 = .ok (.invokevirtual 39, 3) := by decide +kernel
theorem dX1_fill_15 : decode cX1_fill 15 = .ok (.ifCond .eq 6, 3) := by decide +kernel
theorem dX1_fill_18 : decode cX1_fill 18 = .ok (.bipush (-2), 2) := by decide +kernel
theorem dX1_fill_20 : decode cX1_fill 20 = .ok (.ireturn, 1) := by decide +kernel
theorem dX1_fill_21 : decode cX1_fill 21 = .ok (.aload_n 0, 1) := by decide +kernel
theorem dX1_fill_22 : decode cX1_fill 22 = .ok (.iload_n 1, 1) := by decide +kernel
theorem dX1_fill_23 : decode cX1_fill 23 = .ok (.invokevirtual 31, 3) := by decide +kernel
theorem dX1_fill_26 : decode cX1_fill 26 = .ok (.istore 5, 2) := by decide +kernel
theorem dX1_fill_28 : decode cX1_fill 28 = .ok (.iconst 0, 1) := by decide +kernel
theorem dX1_fill_29 : decode cX1_fill 29 = .ok (.istore 6, 2) := by decide +kernel
theorem dX1_fill_31 : decode cX1_fill 31 = .ok (.iload 6, 2) := by decide +kernel
theorem dX1_fill_33 : decode cX1_fill 33 = .ok (.iload_n 2, 1) := by decide +kernel
theorem dX1_fill_34 : decode cX1_fill 34 = .ok (.bipush 16, 2) := by decide +kernel
theorem dX1_fill_36 : decode cX1_fill 36 = .ok (.irem, 1) := by decide +kernel
theorem dX1_fill_37 : decode cX1_fill 37 = .ok (.if_icmp .ge 34, 3) := by decide +kernel
theorem dX1_fill_40 : decode cX1_fill 40 = .ok (.iload 5, 2) := by decide +kernel
theorem dX1_fill_42 : decode cX1_fill 42 = .ok (.ifCond .lt 29, 3) := by decide +kernel
theorem dX1_fill_45 : decode cX1_fill 45 = .ok (.aload_n 0, 1) := by decide +kernel
theorem dX1_fill_46 : decode cX1_fill 46 = .ok (.iload 5, 2) := by decide +kernel
theorem dX1_fill_48 : decode cX1_fill 48 = .ok (.iload_n 2, 1) := by decide +kernel
theorem dX1_fill_49 : decode cX1_fill 49 = .ok (.bipush 16, 2) := by decide +kernel
theorem dX1_fill_51 : decode cX1_fill 51 = .ok (.idiv, 1) := by decide +kernel
theorem dX1_fill_52 : decode cX1_fill 52 = .ok (.iload 6, 2) := by decide +kernel
theorem dX1_fill_54 : decode cX1_fill 54 = .ok (.iadd, 1) := by decide +kernel
theorem dX1_fill_55 : decode cX1_fill 55 = .ok (.iload_n 3, 1) := by decide +kernel
theorem dX1_fill_56 : decode cX1_fill 56 = .ok (.iload 6, 2) := by decide +kernel
theorem dX1_fill_58 : decode cX1_fill 58 = .ok (.iload 4, 2) := by decide +kernel
theorem dX1_fill_60 : decode cX1_fill 60 = .ok (.imul, 1) := by decide +kernel
theorem dX1_fill_61 : decode cX1_fill 61 = .ok (.iadd, 1) := by decide +kernel
theorem dX1_fill_62 : decode cX1_fill 62 = .ok (.invokevirtual 35, 3) := by decide +kernel
theorem dX1_fill_65 : decode cX1_fill 65 = .ok (.iinc 6 1, 3) := by decide +kernel
theorem dX1_fill_68 : decode cX1_fill 68 = .ok (.goto (-37), 3) := by decide +kernel
theorem dX1_fill_71 : decode cX1_fill 71 = .ok (.iload 5, 2) := by decide +kernel
theorem dX1_fill_73 : decode cX1_fill 73 = .ok (.ireturn, 1) := by decide +kernel
theorem dX1_badPlan_0 : decode cX1_badPlan 0 = .ok (.iload_n 1, 1) := by decide +kernel
theorem dX1_badPlan_1 : decode cX1_badPlan 1 = .ok (.ifCond .lt 29, 3) := by decide +kernel
theorem dX1_badPlan_4 : decode cX1_badPlan 4 = .ok (.iload_n 1, 1) := by decide +kernel
theorem dX1_badPlan_5 : decode cX1_badPlan 5 = .ok (.bipush 16, 2) := by decide +kernel
theorem dX1_badPlan_7 : decode cX1_badPlan 7 = .ok (.idiv, 1) := by decide +kernel
theorem dX1_badPlan_8 : decode cX1_badPlan 8 = .ok (.bipush 31, 2) := by decide +kernel
theorem dX1_badPlan_10 : decode cX1_badPlan 10 = .ok (.if_icmp .gt 20, 3) := by decide +kernel
theorem dX1_badPlan_13 : decode cX1_badPlan 13 = .ok (.iload_n 1, 1) := by decide +kernel
theorem dX1_badPlan_14 : decode cX1_badPlan 14 = .ok (.bipush 16, 2) := by decide +kernel
theorem dX1_badPlan_16 : decode cX1_badPlan 16 = .ok (.irem, 1) := by decide +kernel
theorem dX1_badPlan_17 : decode cX1_badPlan 17 = .ok (.iconst 1, 1) := by decide +kernel
theorem dX1_badPlan_18 : decode cX1_badPlan 18 = .ok (.if_icmp .lt 12, 3) := by decide +kernel
theorem dX1_badPlan_21 : decode cX1_badPlan 21 = .ok (.iload_n 1, 1) := by decide +kernel
theorem dX1_badPlan_22 : decode cX1_badPlan 22 = .ok (.bipush 16, 2) := by decide +kernel
theorem dX1_badPlan_24 : decode cX1_badPlan 24 = .ok (.irem, 1) := by decide +kernel
theorem dX1_badPlan_25 : decode cX1_badPlan 25 = .ok (.bipush 8, 2) := by decide +kernel
theorem dX1_badPlan_27 : decode cX1_badPlan 27 = .ok (.if_icmp .le 5, 3) := by decide +kernel
theorem dX1_badPlan_30 : decode cX1_badPlan 30 = .ok (.iconst 1, 1) := by decide +kernel
theorem dX1_badPlan_31 : decode cX1_badPlan 31 = .ok (.ireturn, 1) := by decide +kernel
theorem dX1_badPlan_32 : decode cX1_badPlan 32 = .ok (.iload_n 1, 1) := by decide +kernel
theorem dX1_badPlan_33 : decode cX1_badPlan 33 = .ok (.bipush 16, 2) := by decide +kernel
theorem dX1_badPlan_35 : decode cX1_badPlan 35 = .ok (.idiv, 1) := by decide +kernel
theorem dX1_badPlan_36 : decode cX1_badPlan 36 = .ok (.iload_n 1, 1) := by decide +kernel
theorem dX1_badPlan_37 : decode cX1_badPlan 37 = .ok (.bipush 16, 2) := by decide +kernel
theorem dX1_badPlan_39 : decode cX1_badPlan 39 = .ok (.irem, 1) := by decide +kernel
theorem dX1_badPlan_40 : decode cX1_badPlan 40 = .ok (.iadd, 1) := by decide +kernel
theorem dX1_badPlan_41 : decode cX1_badPlan 41 = .ok (.bipush 32, 2) := by decide +kernel
theorem dX1_badPlan_43 : decode cX1_badPlan 43 = .ok (.if_icmp .le 7, 3) := by decide +kernel
theorem dX1_badPlan_46 : decode cX1_badPlan 46 = .ok (.iconst 1, 1) := by decide +kernel
theorem dX1_badPlan_47 : decode cX1_badPlan 47 = .ok (.goto 4, 3) := by decide +kernel
theorem dX1_badPlan_50 : decode cX1_badPlan 50 = .ok (.iconst 0, 1) := by decide +kernel
theorem dX1_badPlan_51 : decode cX1_badPlan 51 = .ok (.ireturn, 1) := by decide +kernel
theorem dX1_graft_0 : decode cX1_graft 0 = .ok (.aload_n 0, 1) := by decide +kernel
theorem dX1_graft_1 : decode cX1_graft 1 = .ok (.iload_n 1, 1) := by decide +kernel
theorem dX1_graft_2 : decode cX1_graft 2 = .ok (.invokevirtual 24, 3) := by decide +kernel
theorem dX1_graft_5 : decode cX1_graft 5 = .ok (.ifCond .ne 11, 3) := by decide +kernel
theorem dX1_graft_8 : decode cX1_graft 8 = .ok (.aload_n 0, 1) := by decide +kernel
theorem dX1_graft_9 : decode cX1_graft 9 = .ok (.iload_n 2, 1) := by decide +kernel
theorem dX1_graft_10 : decode cX1_graft 10 = .ok (.invokevirtual 24, 3) := by decide +kernel
theorem dX1_graft_13 : decode cX1_graft 13 = .ok (.ifCond .eq 5, 3) := by decide +kernel
theorem dX1_graft_16 : decode cX1_graft 16 = .ok (.iconst (-1), 1) := by decide +kernel
theorem dX1_graft_17 : decode cX1_graft 17 = .ok (.ireturn, 1) := by decide +kernel
theorem dX1_graft_18 : decode cX1_graft 18 = .ok (.aload_n 0, 1) := by decide +kernel
theorem dX1_graft_19 : decode cX1_graft 19 = .ok (.iload_n 3, 1) := by decide +kernel
theorem dX1_graft_20 : decode cX1_graft 20 = .ok (.invokevirtual 39, 3) := by decide +kernel
theorem dX1_graft_23 : decode cX1_graft 23 = .ok (.ifCond .eq 6, 3) := by decide +kernel
theorem dX1_graft_26 : decode cX1_graft 26 = .ok (.bipush (-2), 2) := by decide +kernel
theorem dX1_graft_28 : decode cX1_graft 28 = .ok (.ireturn, 1) := by decide +kernel
theorem dX1_graft_29 : decode cX1_graft 29 = .ok (.aload_n 0, 1) := by decide +kernel
theorem dX1_graft_30 : decode cX1_graft 30 = .ok (.iload_n 1, 1) := by decide +kernel
theorem dX1_graft_31 : decode cX1_graft 31 = .ok (.invokevirtual 31, 3) := by decide +kernel
theorem dX1_graft_34 : decode cX1_graft 34 = .ok (.istore 4, 2) := by decide +kernel
theorem dX1_graft_36 : decode cX1_graft 36 = .ok (.iconst 0, 1) := by decide +kernel
theorem dX1_graft_37 : decode cX1_graft 37 = .ok (.istore 5, 2) := by decide +kernel
theorem dX1_graft_39 : decode cX1_graft 39 = .ok (.iload 5, 2) := by decide +kernel
theorem dX1_graft_41 : decode cX1_graft 41 = .ok (.iload_n 3, 1) := by decide +kernel
theorem dX1_graft_42 : decode cX1_graft 42 = .ok (.bipush 16, 2) := by decide +kernel
theorem dX1_graft_44 : decode cX1_graft 44 = .ok (.irem, 1) := by decide +kernel
theorem dX1_graft_45 : decode cX1_graft 45 = .ok (.if_icmp .ge 35, 3) := by decide +kernel
theorem dX1_graft_48 : decode cX1_graft 48 = .ok (.iload 4, 2) := by decide +kernel
theorem dX1_graft_50 : decode cX1_graft 50 = .ok (.ifCond .lt 30, 3) := by decide +kernel
theorem dX1_graft_53 : decode cX1_graft 53 = .ok (.aload_n 0, 1) := by decide +kernel
theorem dX1_graft_54 : decode cX1_graft 54 = .ok (.iload_n 2, 1) := by decide +kernel
theorem dX1_graft_55 : decode cX1_graft 55 = .ok (.iload_n 3, 1) := by decide +kernel
theorem dX1_graft_56 : decode cX1_graft 56 = .ok (.bipush 16, 2) := by decide +kernel
theorem dX1_graft_58 : decode cX1_graft 58 = .ok (.idiv, 1) := by decide +kernel
theorem dX1_graft_59 : decode cX1_graft 59 = .ok (.iload 5, 2) := by decide +kernel
theorem dX1_graft_61 : decode cX1_graft 61 = .ok (.iadd, 1) := by decide +kernel
theorem dX1_graft_62 : decode cX1_graft 62 = .ok (.iload 4, 2) := by decide +kernel
theorem dX1_graft_64 : decode cX1_graft 64 = .ok (.iload_n 3, 1) := by decide +kernel
theorem dX1_graft_65 : decode cX1_graft 65 = .ok (.bipush 16, 2) := by decide +kernel
theorem dX1_graft_67 : decode cX1_graft 67 = .ok (.idiv, 1) := by decide +kernel
theorem dX1_graft_68 : decode cX1_graft 68 = .ok (.iload 5, 2) := by decide +kernel
theorem dX1_graft_70 : decode cX1_graft 70 = .ok (.iadd, 1) := by decide +kernel
theorem dX1_graft_71 : decode cX1_graft 71 = .ok (.invokevirtual 42, 3) := by decide +kernel
theorem dX1_graft_74 : decode cX1_graft 74 = .ok (.iinc 5 1, 3) := by decide +kernel
theorem dX1_graft_77 : decode cX1_graft 77 = .ok (.goto (-38), 3) := by decide +kernel
theorem dX1_graft_80 : decode cX1_graft 80 = .ok (.iload 4, 2) := by decide +kernel
theorem dX1_graft_82 : decode cX1_graft 82 = .ok (.ireturn, 1) := by decide +kernel
theorem dX1_copy_0 : decode cX1_copy 0 = .ok (.aload_n 0, 1) := by decide +kernel
theorem dX1_copy_1 : decode cX1_copy 1 = .ok (.getfield 17, 3) := by decide +kernel
theorem dX1_copy_4 : decode cX1_copy 4 = .ok (.bipush 32, 2) := by decide +kernel
theorem dX1_copy_6 : decode cX1_copy 6 = .ok (.iload_n 3, 1) := by decide +kernel
theorem dX1_copy_7 : decode cX1_copy 7 = .ok (.imul, 1) := by decide +kernel
theorem dX1_copy_8 : decode cX1_copy 8 = .ok (.iload 4, 2) := by decide +kernel
theorem dX1_copy_10 : decode cX1_copy 10 = .ok (.iadd, 1) := by decide +kernel
theorem dX1_copy_11 : decode cX1_copy 11 = .ok (.aload_n 0, 1) := by decide +kernel
theorem dX1_copy_12 : decode cX1_copy 12 = .ok (.getfield 17, 3) := by decide +kernel
theorem dX1_copy_15 : decode cX1_copy 15 = .ok (.bipush 32, 2) := by decide +kernel
theorem dX1_copy_17 : decode cX1_copy 17 = .ok (.iload_n 1, 1) := by decide +kernel
theorem dX1_copy_18 : decode cX1_copy 18 = .ok (.imul, 1) := by decide +kernel
theorem dX1_copy_19 : decode cX1_copy 19 = .ok (.iload_n 2, 1) := by decide +kernel
theorem dX1_copy_20 : decode cX1_copy 20 = .ok (.iadd, 1) := by decide +kernel
theorem dX1_copy_21 : decode cX1_copy 21 = .ok (.baload, 1) := by decide +kernel
theorem dX1_copy_22 : decode cX1_copy 22 = .ok (.bastore, 1) := by decide +kernel
theorem dX1_copy_23 : decode cX1_copy 23 = .ok (.aload_n 0, 1) := by decide +kernel
theorem dX1_copy_24 : decode cX1_copy 24 = .ok (.getfield 21, 3) := by decide +kernel
theorem dX1_copy_27 : decode cX1_copy 27 = .ok (.bipush 32, 2) := by decide +kernel
theorem dX1_copy_29 : decode cX1_copy 29 = .ok (.iload_n 3, 1) := by decide +kernel
theorem dX1_copy_30 : decode cX1_copy 30 = .ok (.imul, 1) := by decide +kernel
theorem dX1_copy_31 : decode cX1_copy 31 = .ok (.iload 4, 2) := by decide +kernel
theorem dX1_copy_33 : decode cX1_copy 33 = .ok (.iadd, 1) := by decide +kernel
theorem dX1_copy_34 : decode cX1_copy 34 = .ok (.aload_n 0, 1) := by decide +kernel
theorem dX1_copy_35 : decode cX1_copy 35 = .ok (.getfield 21, 3) := by decide +kernel
theorem dX1_copy_38 : decode cX1_copy 38 = .ok (.bipush 32, 2) := by decide +kernel
theorem dX1_copy_40 : decode cX1_copy 40 = .ok (.iload_n 1, 1) := by decide +kernel
theorem dX1_copy_41 : decode cX1_copy 41 = .ok (.imul, 1) := by decide +kernel
theorem dX1_copy_42 : decode cX1_copy 42 = .ok (.iload_n 2, 1) := by decide +kernel
theorem dX1_copy_43 : decode cX1_copy 43 = .ok (.iadd, 1) := by decide +kernel
theorem dX1_copy_44 : decode cX1_copy 44 = .ok (.iaload, 1) := by decide +kernel
theorem dX1_copy_45 : decode cX1_copy 45 = .ok (.iastore, 1) := by decide +kernel
theorem dX1_copy_46 : decode cX1_copy 46 = .ok (.return_, 1) := by decide +kernel
theorem dX1_exchange_0 : decode cX1_exchange 0 = .ok (.aload_n 0, 1) := by decide +kernel
theorem dX1_exchange_1 : decode cX1_exchange 1 = .ok (.iload_n 1, 1) := by decide +kernel
theorem dX1_exchange_2 : decode cX1_exchange 2 = .ok (.invokevirtual 24, 3) := by decide +kernel
theorem dX1_exchange_5 : decode cX1_exchange 5 = .ok (.ifCond .eq 5, 3) := by decide +kernel
theorem dX1_exchange_8 : decode cX1_exchange 8 = .ok (.iconst (-1), 1) := by decide +kernel
theorem dX1_exchange_9 : decode cX1_exchange 9 = .ok (.ireturn, 1) := by decide +kernel
theorem dX1_exchange_10 : decode cX1_exchange 10 = .ok (.aload_n 0, 1) := by decide +kernel
theorem dX1_exchange_11 : decode cX1_exchange 11 = .ok (.iload_n 2, 1) := by decide +kernel
theorem dX1_exchange_12 : decode cX1_exchange 12 = .ok (.invokevirtual 28, 3) := by decide +kernel
theorem dX1_exchange_15 : decode cX1_exchange 15 = .ok (.ifCond .ne 11, 3) := by decide +kernel
theorem dX1_exchange_18 : decode cX1_exchange 18 = .ok (.aload_n 0, 1) := by decide +kernel
theorem dX1_exchange_19 : decode cX1_exchange 19 = .ok (.iload_n 3, 1) := by decide +kernel
theorem dX1_exchange_20 : decode cX1_exchange 20 = .ok (.invokevirtual 28, 3) := by decide +kernel
theorem dX1_exchange_23 : decode cX1_exchange 23 = .ok (.ifCond .eq 6, 3) := by decide +kernel
theorem dX1_exchange_26 : decode cX1_exchange 26 = .ok (.bipush (-2), 2) := by decide +kernel
theorem dX1_exchange_28 : decode cX1_exchange 28 = .ok (.ireturn, 1) := by decide +kernel
theorem dX1_exchange_29 : decode cX1_exchange 29 = .ok (.aload_n 0, 1) := by decide +kernel
theorem dX1_exchange_30 : decode cX1_exchange 30 = .ok (.iload_n 1, 1) := by decide +kernel
theorem dX1_exchange_31 : decode cX1_exchange 31 = .ok (.invokevirtual 31, 3) := by decide +kernel
theorem dX1_exchange_34 : decode cX1_exchange 34 = .ok (.istore 4, 2) := by decide +kernel
theorem dX1_exchange_36 : decode cX1_exchange 36 = .ok (.iload 4, 2) := by decide +kernel
theorem dX1_exchange_38 : decode cX1_exchange 38 = .ok (.ifCond .lt 21, 3) := by decide +kernel
theorem dX1_exchange_41 : decode cX1_exchange 41 = .ok (.aload_n 0, 1) := by decide +kernel
theorem dX1_exchange_42 : decode cX1_exchange 42 = .ok (.iload_n 1, 1) := by decide +kernel
theorem dX1_exchange_43 : decode cX1_exchange 43 = .ok (.iload_n 2, 1) := by decide +kernel
theorem dX1_exchange_44 : decode cX1_exchange 44 = .ok (.iload 4, 2) := by decide +kernel
theorem dX1_exchange_46 : decode cX1_exchange 46 = .ok (.iload_n 3, 1) := by decide +kernel
theorem dX1_exchange_47 : decode cX1_exchange 47 = .ok (.invokevirtual 42, 3) := by decide +kernel
theorem dX1_exchange_50 : decode cX1_exchange 50 = .ok (.aload_n 0, 1) := by decide +kernel
theorem dX1_exchange_51 : decode cX1_exchange 51 = .ok (.iload_n 1, 1) := by decide +kernel
theorem dX1_exchange_52 : decode cX1_exchange 52 = .ok (.iload_n 3, 1) := by decide +kernel
theorem dX1_exchange_53 : decode cX1_exchange 53 = .ok (.iload 4, 2) := by decide +kernel
theorem dX1_exchange_55 : decode cX1_exchange 55 = .ok (.iload_n 2, 1) := by decide +kernel
theorem dX1_exchange_56 : decode cX1_exchange 56 = .ok (.invokevirtual 42, 3) := by decide +kernel
theorem dX1_exchange_59 : decode cX1_exchange 59 = .ok (.iload 4, 2) := by decide +kernel
theorem dX1_exchange_61 : decode cX1_exchange 61 = .ok (.ireturn, 1) := by decide +kernel
theorem dX1_versions_0 : decode cX1_versions 0 = .ok (.aload_n 0, 1) := by decide +kernel
theorem dX1_versions_1 : decode cX1_versions 1 = .ok (.getfield 7, 3) := by decide +kernel
theorem dX1_versions_4 : decode cX1_versions 4 = .ok (.ireturn, 1) := by decide +kernel
theorem dX1_parent_0 : decode cX1_parent 0 = .ok (.aload_n 0, 1) := by decide +kernel
theorem dX1_parent_1 : decode cX1_parent 1 = .ok (.iload_n 1, 1) := by decide +kernel
theorem dX1_parent_2 : decode cX1_parent 2 = .ok (.invokevirtual 24, 3) := by decide +kernel
theorem dX1_parent_5 : decode cX1_parent 5 = .ok (.ifCond .eq 5, 3) := by decide +kernel
theorem dX1_parent_8 : decode cX1_parent 8 = .ok (.iconst (-1), 1) := by decide +kernel
theorem dX1_parent_9 : decode cX1_parent 9 = .ok (.ireturn, 1) := by decide +kernel
theorem dX1_parent_10 : decode cX1_parent 10 = .ok (.iload_n 1, 1) := by decide +kernel
theorem dX1_parent_11 : decode cX1_parent 11 = .ok (.ifCond .ne 8, 3) := by decide +kernel
theorem dX1_parent_14 : decode cX1_parent 14 = .ok (.bipush (-2), 2) := by decide +kernel
theorem dX1_parent_16 : decode cX1_parent 16 = .ok (.goto 9, 3) := by decide +kernel
theorem dX1_parent_19 : decode cX1_parent 19 = .ok (.aload_n 0, 1) := by decide +kernel
theorem dX1_parent_20 : decode cX1_parent 20 = .ok (.getfield 13, 3) := by decide +kernel
theorem dX1_parent_23 : decode cX1_parent 23 = .ok (.iload_n 1, 1) := by decide +kernel
theorem dX1_parent_24 : decode cX1_parent 24 = .ok (.iaload, 1) := by decide +kernel
theorem dX1_parent_25 : decode cX1_parent 25 = .ok (.ireturn, 1) := by decide +kernel
theorem dX1_ancestor_0 : decode cX1_ancestor 0 = .ok (.aload_n 0, 1) := by decide +kernel
theorem dX1_ancestor_1 : decode cX1_ancestor 1 = .ok (.iload_n 1, 1) := by decide +kernel
theorem dX1_ancestor_2 : decode cX1_ancestor 2 = .ok (.invokevirtual 24, 3) := by decide +kernel
theorem dX1_ancestor_5 : decode cX1_ancestor 5 = .ok (.ifCond .ne 11, 3) := by decide +kernel
theorem dX1_ancestor_8 : decode cX1_ancestor 8 = .ok (.aload_n 0, 1) := by decide +kernel
theorem dX1_ancestor_9 : decode cX1_ancestor 9 = .ok (.iload_n 2, 1) := by decide +kernel
theorem dX1_ancestor_10 : decode cX1_ancestor 10 = .ok (.invokevirtual 24, 3) := by decide +kernel
theorem dX1_ancestor_13 : decode cX1_ancestor 13 = .ok (.ifCond .eq 5, 3) := by decide +kernel
theorem dX1_ancestor_16 : decode cX1_ancestor 16 = .ok (.iconst (-1), 1) := by decide +kernel
theorem dX1_ancestor_17 : decode cX1_ancestor 17 = .ok (.ireturn, 1) := by decide +kernel
theorem dX1_ancestor_18 : decode cX1_ancestor 18 = .ok (.aload_n 0, 1) := by decide +kernel
theorem dX1_ancestor_19 : decode cX1_ancestor 19 = .ok (.iload_n 1, 1) := by decide +kernel
theorem dX1_ancestor_20 : decode cX1_ancestor 20 = .ok (.iload_n 2, 1) := by decide +kernel
theorem dX1_ancestor_21 : decode cX1_ancestor 21 = .ok (.invokevirtual 46, 3) := by decide +kernel
theorem dX1_ancestor_24 : decode cX1_ancestor 24 = .ok (.ifCond .eq 7, 3) := by decide +kernel
theorem dX1_ancestor_27 : decode cX1_ancestor 27 = .ok (.iconst 1, 1) := by decide +kernel
theorem dX1_ancestor_28 : decode cX1_ancestor 28 = .ok (.goto 4, 3) := by decide +kernel
theorem dX1_ancestor_31 : decode cX1_ancestor 31 = .ok (.iconst 0, 1) := by decide +kernel
theorem dX1_ancestor_32 : decode cX1_ancestor 32 = .ok (.ireturn, 1) := by decide +kernel
theorem dX1_leads_0 : decode cX1_leads 0 = .ok (.iload_n 2, 1) := by decide +kernel
theorem dX1_leads_1 : decode cX1_leads 1 = .ok (.istore_n 3, 1) := by decide +kernel
theorem dX1_leads_2 : decode cX1_leads 2 = .ok (.iconst 0, 1) := by decide +kernel
theorem dX1_leads_3 : decode cX1_leads 3 = .ok (.istore 4, 2) := by decide +kernel
theorem dX1_leads_5 : decode cX1_leads 5 = .ok (.iload 4, 2) := by decide +kernel
theorem dX1_leads_7 : decode cX1_leads 7 = .ok (.bipush 40, 2) := by decide +kernel
theorem dX1_leads_9 : decode cX1_leads 9 = .ok (.if_icmp .ge 21, 3) := by decide +kernel
theorem dX1_leads_12 : decode cX1_leads 12 = .ok (.iload_n 3, 1) := by decide +kernel
theorem dX1_leads_13 : decode cX1_leads 13 = .ok (.iload_n 1, 1) := by decide +kernel
theorem dX1_leads_14 : decode cX1_leads 14 = .ok (.if_icmp .le 16, 3) := by decide +kernel
theorem dX1_leads_17 : decode cX1_leads 17 = .ok (.aload_n 0, 1) := by decide +kernel
theorem dX1_leads_18 : decode cX1_leads 18 = .ok (.getfield 13, 3) := by decide +kernel
theorem dX1_leads_21 : decode cX1_leads 21 = .ok (.iload_n 3, 1) := by decide +kernel
theorem dX1_leads_22 : decode cX1_leads 22 = .ok (.iaload, 1) := by decide +kernel
theorem dX1_leads_23 : decode cX1_leads 23 = .ok (.istore_n 3, 1) := by decide +kernel
theorem dX1_leads_24 : decode cX1_leads 24 = .ok (.iinc 4 1, 3) := by decide +kernel
theorem dX1_leads_27 : decode cX1_leads 27 = .ok (.goto (-22), 3) := by decide +kernel
theorem dX1_leads_30 : decode cX1_leads 30 = .ok (.iload_n 3, 1) := by decide +kernel
theorem dX1_leads_31 : decode cX1_leads 31 = .ok (.iload_n 1, 1) := by decide +kernel
theorem dX1_leads_32 : decode cX1_leads 32 = .ok (.if_icmp .ne 7, 3) := by decide +kernel
theorem dX1_leads_35 : decode cX1_leads 35 = .ok (.iconst 1, 1) := by decide +kernel
theorem dX1_leads_36 : decode cX1_leads 36 = .ok (.goto 4, 3) := by decide +kernel
theorem dX1_leads_39 : decode cX1_leads 39 = .ok (.iconst 0, 1) := by decide +kernel
theorem dX1_leads_40 : decode cX1_leads 40 = .ok (.ireturn, 1) := by decide +kernel
theorem dX1_meet_0 : decode cX1_meet 0 = .ok (.aload_n 0, 1) := by decide +kernel
theorem dX1_meet_1 : decode cX1_meet 1 = .ok (.iload_n 1, 1) := by decide +kernel
theorem dX1_meet_2 : decode cX1_meet 2 = .ok (.invokevirtual 24, 3) := by decide +kernel
theorem dX1_meet_5 : decode cX1_meet 5 = .ok (.ifCond .ne 11, 3) := by decide +kernel
theorem dX1_meet_8 : decode cX1_meet 8 = .ok (.aload_n 0, 1) := by decide +kernel
theorem dX1_meet_9 : decode cX1_meet 9 = .ok (.iload_n 2, 1) := by decide +kernel
theorem dX1_meet_10 : decode cX1_meet 10 = .ok (.invokevirtual 24, 3) := by decide +kernel
theorem dX1_meet_13 : decode cX1_meet 13 = .ok (.ifCond .eq 5, 3) := by decide +kernel
theorem dX1_meet_16 : decode cX1_meet 16 = .ok (.iconst (-1), 1) := by decide +kernel
theorem dX1_meet_17 : decode cX1_meet 17 = .ok (.ireturn, 1) := by decide +kernel
theorem dX1_meet_18 : decode cX1_meet 18 = .ok (.iconst 0, 1) := by decide +kernel
theorem dX1_meet_19 : decode cX1_meet 19 = .ok (.istore_n 3, 1) := by decide +kernel
theorem dX1_meet_20 : decode cX1_meet 20 = .ok (.iconst 0, 1) := by decide +kernel
theorem dX1_meet_21 : decode cX1_meet 21 = .ok (.istore 4, 2) := by decide +kernel
theorem dX1_meet_23 : decode cX1_meet 23 = .ok (.iload 4, 2) := by decide +kernel
theorem dX1_meet_25 : decode cX1_meet 25 = .ok (.aload_n 0, 1) := by decide +kernel
theorem dX1_meet_26 : decode cX1_meet 26 = .ok (.getfield 7, 3) := by decide +kernel
theorem dX1_meet_29 : decode cX1_meet 29 = .ok (.if_icmp .ge 32, 3) := by decide +kernel
theorem dX1_meet_32 : decode cX1_meet 32 = .ok (.aload_n 0, 1) := by decide +kernel
theorem dX1_meet_33 : decode cX1_meet 33 = .ok (.iload 4, 2) := by decide +kernel
theorem dX1_meet_35 : decode cX1_meet 35 = .ok (.iload_n 1, 1) := by decide +kernel
theorem dX1_meet_36 : decode cX1_meet 36 = .ok (.invokevirtual 46, 3) := by decide +kernel
theorem dX1_meet_39 : decode cX1_meet 39 = .ok (.ifCond .eq 16, 3) := by decide +kernel
theorem dX1_meet_42 : decode cX1_meet 42 = .ok (.aload_n 0, 1) := by decide +kernel
theorem dX1_meet_43 : decode cX1_meet 43 = .ok (.iload 4, 2) := by decide +kernel
theorem dX1_meet_45 : decode cX1_meet 45 = .ok (.iload_n 2, 1) := by decide +kernel
theorem dX1_meet_46 : decode cX1_meet 46 = .ok (.invokevirtual 46, 3) := by decide +kernel
theorem dX1_meet_49 : decode cX1_meet 49 = .ok (.ifCond .eq 6, 3) := by decide +kernel
theorem dX1_meet_52 : decode cX1_meet 52 = .ok (.iload 4, 2) := by decide +kernel
theorem dX1_meet_54 : decode cX1_meet 54 = .ok (.istore_n 3, 1) := by decide +kernel
theorem dX1_meet_55 : decode cX1_meet 55 = .ok (.iinc 4 1, 3) := by decide +kernel
theorem dX1_meet_58 : decode cX1_meet 58 = .ok (.goto (-35), 3) := by decide +kernel
theorem dX1_meet_61 : decode cX1_meet 61 = .ok (.iload_n 3, 1) := by decide +kernel
theorem dX1_meet_62 : decode cX1_meet 62 = .ok (.ireturn, 1) := by decide +kernel
theorem dX1_family_0 : decode cX1_family 0 = .ok (.aload_n 0, 1) := by decide +kernel
theorem dX1_family_1 : decode cX1_family 1 = .ok (.iload_n 1, 1) := by decide +kernel
theorem dX1_family_2 : decode cX1_family 2 = .ok (.invokevirtual 24, 3) := by decide +kernel
theorem dX1_family_5 : decode cX1_family 5 = .ok (.ifCond .eq 5, 3) := by decide +kernel
theorem dX1_family_8 : decode cX1_family 8 = .ok (.iconst (-1), 1) := by decide +kernel
theorem dX1_family_9 : decode cX1_family 9 = .ok (.ireturn, 1) := by decide +kernel
theorem dX1_family_10 : decode cX1_family 10 = .ok (.iconst 0, 1) := by decide +kernel
theorem dX1_family_11 : decode cX1_family 11 = .ok (.istore_n 2, 1) := by decide +kernel
theorem dX1_family_12 : decode cX1_family 12 = .ok (.iconst 0, 1) := by decide +kernel
theorem dX1_family_13 : decode cX1_family 13 = .ok (.istore_n 3, 1) := by decide +kernel
theorem dX1_family_14 : decode cX1_family 14 = .ok (.iload_n 3, 1) := by decide +kernel
theorem dX1_family_15 : decode cX1_family 15 = .ok (.aload_n 0, 1) := by decide +kernel
theorem dX1_family_16 : decode cX1_family 16 = .ok (.getfield 7, 3) := by decide +kernel
theorem dX1_family_19 : decode cX1_family 19 = .ok (.if_icmp .ge 21, 3) := by decide +kernel
theorem dX1_family_22 : decode cX1_family 22 = .ok (.aload_n 0, 1) := by decide +kernel
theorem dX1_family_23 : decode cX1_family 23 = .ok (.iload_n 1, 1) := by decide +kernel
theorem dX1_family_24 : decode cX1_family 24 = .ok (.iload_n 3, 1) := by decide +kernel
theorem dX1_family_25 : decode cX1_family 25 = .ok (.invokevirtual 46, 3) := by decide +kernel
theorem dX1_family_28 : decode cX1_family 28 = .ok (.ifCond .eq 6, 3) := by decide +kernel
theorem dX1_family_31 : decode cX1_family 31 = .ok (.iinc 2 1, 3) := by decide +kernel
theorem dX1_family_34 : decode cX1_family 34 = .ok (.iinc 3 1, 3) := by decide +kernel
theorem dX1_family_37 : decode cX1_family 37 = .ok (.goto (-23), 3) := by decide +kernel
theorem dX1_family_40 : decode cX1_family 40 = .ok (.iload_n 2, 1) := by decide +kernel
theorem dX1_family_41 : decode cX1_family 41 = .ok (.ireturn, 1) := by decide +kernel
theorem dX1_has_0 : decode cX1_has 0 = .ok (.aload_n 0, 1) := by decide +kernel
theorem dX1_has_1 : decode cX1_has 1 = .ok (.iload_n 1, 1) := by decide +kernel
theorem dX1_has_2 : decode cX1_has 2 = .ok (.invokevirtual 24, 3) := by decide +kernel
theorem dX1_has_5 : decode cX1_has 5 = .ok (.ifCond .eq 5, 3) := by decide +kernel
theorem dX1_has_8 : decode cX1_has 8 = .ok (.iconst (-1), 1) := by decide +kernel
theorem dX1_has_9 : decode cX1_has 9 = .ok (.ireturn, 1) := by decide +kernel
theorem dX1_has_10 : decode cX1_has 10 = .ok (.aload_n 0, 1) := by decide +kernel
theorem dX1_has_11 : decode cX1_has 11 = .ok (.iload_n 2, 1) := by decide +kernel
theorem dX1_has_12 : decode cX1_has 12 = .ok (.invokevirtual 28, 3) := by decide +kernel
theorem dX1_has_15 : decode cX1_has 15 = .ok (.ifCond .eq 6, 3) := by decide +kernel
theorem dX1_has_18 : decode cX1_has 18 = .ok (.bipush (-2), 2) := by decide +kernel
theorem dX1_has_20 : decode cX1_has 20 = .ok (.ireturn, 1) := by decide +kernel
theorem dX1_has_21 : decode cX1_has 21 = .ok (.aload_n 0, 1) := by decide +kernel
theorem dX1_has_22 : decode cX1_has 22 = .ok (.getfield 17, 3) := by decide +kernel
theorem dX1_has_25 : decode cX1_has 25 = .ok (.bipush 32, 2) := by decide +kernel
theorem dX1_has_27 : decode cX1_has 27 = .ok (.iload_n 1, 1) := by decide +kernel
theorem dX1_has_28 : decode cX1_has 28 = .ok (.imul, 1) := by decide +kernel
theorem dX1_has_29 : decode cX1_has 29 = .ok (.iload_n 2, 1) := by decide +kernel
theorem dX1_has_30 : decode cX1_has 30 = .ok (.iadd, 1) := by decide +kernel
theorem dX1_has_31 : decode cX1_has 31 = .ok (.baload, 1) := by decide +kernel
theorem dX1_has_32 : decode cX1_has 32 = .ok (.ifCond .eq 7, 3) := by decide +kernel
theorem dX1_has_35 : decode cX1_has 35 = .ok (.iconst 1, 1) := by decide +kernel
theorem dX1_has_36 : decode cX1_has 36 = .ok (.goto 4, 3) := by decide +kernel
theorem dX1_has_39 : decode cX1_has 39 = .ok (.iconst 0, 1) := by decide +kernel
theorem dX1_has_40 : decode cX1_has 40 = .ok (.ireturn, 1) := by decide +kernel
theorem dX1_get_0 : decode cX1_get 0 = .ok (.aload_n 0, 1) := by decide +kernel
theorem dX1_get_1 : decode cX1_get 1 = .ok (.iload_n 1, 1) := by decide +kernel
theorem dX1_get_2 : decode cX1_get 2 = .ok (.invokevirtual 24, 3) := by decide +kernel
theorem dX1_get_5 : decode cX1_get 5 = .ok (.ifCond .ne 11, 3) := by decide +kernel
theorem dX1_get_8 : decode cX1_get 8 = .ok (.aload_n 0, 1) := by decide +kernel
theorem dX1_get_9 : decode cX1_get 9 = .ok (.iload_n 2, 1) := by decide +kernel
theorem dX1_get_10 : decode cX1_get 10 = .ok (.invokevirtual 28, 3) := by decide +kernel
theorem dX1_get_13 : decode cX1_get 13 = .ok (.ifCond .eq 5, 3) := by decide +kernel
theorem dX1_get_16 : decode cX1_get 16 = .ok (.iconst 0, 1) := by decide +kernel
theorem dX1_get_17 : decode cX1_get 17 = .ok (.ireturn, 1) := by decide +kernel
theorem dX1_get_18 : decode cX1_get 18 = .ok (.aload_n 0, 1) := by decide +kernel
theorem dX1_get_19 : decode cX1_get 19 = .ok (.getfield 17, 3) := by decide +kernel
theorem dX1_get_22 : decode cX1_get 22 = .ok (.bipush 32, 2) := by decide +kernel
theorem dX1_get_24 : decode cX1_get 24 = .ok (.iload_n 1, 1) := by decide +kernel
theorem dX1_get_25 : decode cX1_get 25 = .ok (.imul, 1) := by decide +kernel
theorem dX1_get_26 : decode cX1_get 26 = .ok (.iload_n 2, 1) := by decide +kernel
theorem dX1_get_27 : decode cX1_get 27 = .ok (.iadd, 1) := by decide +kernel
theorem dX1_get_28 : decode cX1_get 28 = .ok (.baload, 1) := by decide +kernel
theorem dX1_get_29 : decode cX1_get 29 = .ok (.ifCond .eq 17, 3) := by decide +kernel
theorem dX1_get_32 : decode cX1_get 32 = .ok (.aload_n 0, 1) := by decide +kernel
theorem dX1_get_33 : decode cX1_get 33 = .ok (.getfield 21, 3) := by decide +kernel
theorem dX1_get_36 : decode cX1_get 36 = .ok (.bipush 32, 2) := by decide +kernel
theorem dX1_get_38 : decode cX1_get 38 = .ok (.iload_n 1, 1) := by decide +kernel
theorem dX1_get_39 : decode cX1_get 39 = .ok (.imul, 1) := by decide +kernel
theorem dX1_get_40 : decode cX1_get 40 = .ok (.iload_n 2, 1) := by decide +kernel
theorem dX1_get_41 : decode cX1_get 41 = .ok (.iadd, 1) := by decide +kernel
theorem dX1_get_42 : decode cX1_get 42 = .ok (.iaload, 1) := by decide +kernel
theorem dX1_get_43 : decode cX1_get 43 = .ok (.goto 4, 3) := by decide +kernel
theorem dX1_get_46 : decode cX1_get 46 = .ok (.iconst 0, 1) := by decide +kernel
theorem dX1_get_47 : decode cX1_get 47 = .ok (.ireturn, 1) := by decide +kernel
theorem dX1_size_0 : decode cX1_size 0 = .ok (.aload_n 0, 1) := by decide +kernel
theorem dX1_size_1 : decode cX1_size 1 = .ok (.iload_n 1, 1) := by decide +kernel
theorem dX1_size_2 : decode cX1_size 2 = .ok (.invokevirtual 24, 3) := by decide +kernel
theorem dX1_size_5 : decode cX1_size 5 = .ok (.ifCond .eq 5, 3) := by decide +kernel
theorem dX1_size_8 : decode cX1_size 8 = .ok (.iconst (-1), 1) := by decide +kernel
theorem dX1_size_9 : decode cX1_size 9 = .ok (.ireturn, 1) := by decide +kernel
theorem dX1_size_10 : decode cX1_size 10 = .ok (.iconst 0, 1) := by decide +kernel
theorem dX1_size_11 : decode cX1_size 11 = .ok (.istore_n 2, 1) := by decide +kernel
theorem dX1_size_12 : decode cX1_size 12 = .ok (.iconst 0, 1) := by decide +kernel
theorem dX1_size_13 : decode cX1_size 13 = .ok (.istore_n 3, 1) := by decide +kernel
theorem dX1_size_14 : decode cX1_size 14 = .ok (.iload_n 3, 1) := by decide +kernel
theorem dX1_size_15 : decode cX1_size 15 = .ok (.bipush 32, 2) := by decide +kernel
theorem dX1_size_17 : decode cX1_size 17 = .ok (.if_icmp .ge 26, 3) := by decide +kernel
theorem dX1_size_20 : decode cX1_size 20 = .ok (.aload_n 0, 1) := by decide +kernel
theorem dX1_size_21 : decode cX1_size 21 = .ok (.getfield 17, 3) := by decide +kernel
theorem dX1_size_24 : decode cX1_size 24 = .ok (.bipush 32, 2) := by decide +kernel
theorem dX1_size_26 : decode cX1_size 26 = .ok (.iload_n 1, 1) := by decide +kernel
theorem dX1_size_27 : decode cX1_size 27 = .ok (.imul, 1) := by decide +kernel
theorem dX1_size_28 : decode cX1_size 28 = .ok (.iload_n 3, 1) := by decide +kernel
theorem dX1_size_29 : decode cX1_size 29 = .ok (.iadd, 1) := by decide +kernel
theorem dX1_size_30 : decode cX1_size 30 = .ok (.baload, 1) := by decide +kernel
theorem dX1_size_31 : decode cX1_size 31 = .ok (.ifCond .eq 6, 3) := by decide +kernel
theorem dX1_size_34 : decode cX1_size 34 = .ok (.iinc 2 1, 3) := by decide +kernel
theorem dX1_size_37 : decode cX1_size 37 = .ok (.iinc 3 1, 3) := by decide +kernel
theorem dX1_size_40 : decode cX1_size 40 = .ok (.goto (-26), 3) := by decide +kernel
theorem dX1_size_43 : decode cX1_size 43 = .ok (.iload_n 2, 1) := by decide +kernel
theorem dX1_size_44 : decode cX1_size 44 = .ok (.ireturn, 1) := by decide +kernel
theorem dX1_next_0 : decode cX1_next 0 = .ok (.aload_n 0, 1) := by decide +kernel
theorem dX1_next_1 : decode cX1_next 1 = .ok (.iload_n 1, 1) := by decide +kernel
theorem dX1_next_2 : decode cX1_next 2 = .ok (.invokevirtual 24, 3) := by decide +kernel
theorem dX1_next_5 : decode cX1_next 5 = .ok (.ifCond .eq 5, 3) := by decide +kernel
theorem dX1_next_8 : decode cX1_next 8 = .ok (.iconst (-1), 1) := by decide +kernel
theorem dX1_next_9 : decode cX1_next 9 = .ok (.ireturn, 1) := by decide +kernel
theorem dX1_next_10 : decode cX1_next 10 = .ok (.iconst 0, 1) := by decide +kernel
theorem dX1_next_11 : decode cX1_next 11 = .ok (.istore_n 3, 1) := by decide +kernel
theorem dX1_next_12 : decode cX1_next 12 = .ok (.iload_n 3, 1) := by decide +kernel
theorem dX1_next_13 : decode cX1_next 13 = .ok (.bipush 32, 2) := by decide +kernel
theorem dX1_next_15 : decode cX1_next 15 = .ok (.if_icmp .ge 30, 3) := by decide +kernel
theorem dX1_next_18 : decode cX1_next 18 = .ok (.iload_n 3, 1) := by decide +kernel
theorem dX1_next_19 : decode cX1_next 19 = .ok (.iload_n 2, 1) := by decide +kernel
theorem dX1_next_20 : decode cX1_next 20 = .ok (.if_icmp .lt 19, 3) := by decide +kernel
theorem dX1_next_23 : decode cX1_next 23 = .ok (.aload_n 0, 1) := by decide +kernel
theorem dX1_next_24 : decode cX1_next 24 = .ok (.getfield 17, 3) := by decide +kernel
theorem dX1_next_27 : decode cX1_next 27 = .ok (.bipush 32, 2) := by decide +kernel
theorem dX1_next_29 : decode cX1_next 29 = .ok (.iload_n 1, 1) := by decide +kernel
theorem dX1_next_30 : decode cX1_next 30 = .ok (.imul, 1) := by decide +kernel
theorem dX1_next_31 : decode cX1_next 31 = .ok (.iload_n 3, 1) := by decide +kernel
theorem dX1_next_32 : decode cX1_next 32 = .ok (.iadd, 1) := by decide +kernel
theorem dX1_next_33 : decode cX1_next 33 = .ok (.baload, 1) := by decide +kernel
theorem dX1_next_34 : decode cX1_next 34 = .ok (.ifCond .eq 5, 3) := by decide +kernel
theorem dX1_next_37 : decode cX1_next 37 = .ok (.iload_n 3, 1) := by decide +kernel
theorem dX1_next_38 : decode cX1_next 38 = .ok (.ireturn, 1) := by decide +kernel
theorem dX1_next_39 : decode cX1_next 39 = .ok (.iinc 3 1, 3) := by decide +kernel
theorem dX1_next_42 : decode cX1_next 42 = .ok (.goto (-30), 3) := by decide +kernel
theorem dX1_next_45 : decode cX1_next 45 = .ok (.bipush (-2), 2) := by decide +kernel
theorem dX1_next_47 : decode cX1_next 47 = .ok (.ireturn, 1) := by decide +kernel
theorem dX1_previous_0 : decode cX1_previous 0 = .ok (.aload_n 0, 1) := by decide +kernel
theorem dX1_previous_1 : decode cX1_previous 1 = .ok (.iload_n 1, 1) := by decide +kernel
theorem dX1_previous_2 : decode cX1_previous 2 = .ok (.invokevirtual 24, 3) := by decide +kernel
theorem dX1_previous_5 : decode cX1_previous 5 = .ok (.ifCond .eq 5, 3) := by decide +kernel
theorem dX1_previous_8 : decode cX1_previous 8 = .ok (.iconst (-1), 1) := by decide +kernel
theorem dX1_previous_9 : decode cX1_previous 9 = .ok (.ireturn, 1) := by decide +kernel
theorem dX1_previous_10 : decode cX1_previous 10 = .ok (.bipush 31, 2) := by decide +kernel
theorem dX1_previous_12 : decode cX1_previous 12 = .ok (.istore_n 3, 1) := by decide +kernel
theorem dX1_previous_13 : decode cX1_previous 13 = .ok (.iload_n 3, 1) := by decide +kernel
theorem dX1_previous_14 : decode cX1_previous 14 = .ok (.ifCond .lt 30, 3) := by decide +kernel
theorem dX1_previous_17 : decode cX1_previous 17 = .ok (.iload_n 3, 1) := by decide +kernel
theorem dX1_previous_18 : decode cX1_previous 18 = .ok (.iload_n 2, 1) := by decide +kernel
theorem dX1_previous_19 : decode cX1_previous 19 = .ok (.if_icmp .gt 19, 3) := by decide +kernel
theorem dX1_previous_22 : decode cX1_previous 22 = .ok (.aload_n 0, 1) := by decide +kernel
theorem dX1_previous_23 : decode cX1_previous 23 = .ok (.getfield 17, 3) := by decide +kernel
theorem dX1_previous_26 : decode cX1_previous 26 = .ok (.bipush 32, 2) := by decide +kernel
theorem dX1_previous_28 : decode cX1_previous 28 = .ok (.iload_n 1, 1) := by decide +kernel
theorem dX1_previous_29 : decode cX1_previous 29 = .ok (.imul, 1) := by decide +kernel
theorem dX1_previous_30 : decode cX1_previous 30 = .ok (.iload_n 3, 1) := by decide +kernel
theorem dX1_previous_31 : decode cX1_previous 31 = .ok (.iadd, 1) := by decide +kernel
theorem dX1_previous_32 : decode cX1_previous 32 = .ok (.baload, 1) := by decide +kernel
theorem dX1_previous_33 : decode cX1_previous 33 = .ok (.ifCond .eq 5, 3) := by decide +kernel
theorem dX1_previous_36 : decode cX1_previous 36 = .ok (.iload_n 3, 1) := by decide +kernel
theorem dX1_previous_37 : decode cX1_previous 37 = .ok (.ireturn, 1) := by decide +kernel
theorem dX1_previous_38 : decode cX1_previous 38 = .ok (.iinc 3 (-1), 3) := by decide +kernel
theorem dX1_previous_41 : decode cX1_previous 41 = .ok (.goto (-28), 3) := by decide +kernel
theorem dX1_previous_44 : decode cX1_previous 44 = .ok (.bipush (-2), 2) := by decide +kernel
theorem dX1_previous_46 : decode cX1_previous 46 = .ok (.ireturn, 1) := by decide +kernel
theorem dX1_select_0 : decode cX1_select 0 = .ok (.aload_n 0, 1) := by decide +kernel
theorem dX1_select_1 : decode cX1_select 1 = .ok (.iload_n 1, 1) := by decide +kernel
theorem dX1_select_2 : decode cX1_select 2 = .ok (.invokevirtual 24, 3) := by decide +kernel
theorem dX1_select_5 : decode cX1_select 5 = .ok (.ifCond .eq 5, 3) := by decide +kernel
theorem dX1_select_8 : decode cX1_select 8 = .ok (.iconst (-1), 1) := by decide +kernel
theorem dX1_select_9 : decode cX1_select 9 = .ok (.ireturn, 1) := by decide +kernel
theorem dX1_select_10 : decode cX1_select 10 = .ok (.iconst 0, 1) := by decide +kernel
theorem dX1_select_11 : decode cX1_select 11 = .ok (.istore_n 3, 1) := by decide +kernel
theorem dX1_select_12 : decode cX1_select 12 = .ok (.iconst 0, 1) := by decide +kernel
theorem dX1_select_13 : decode cX1_select 13 = .ok (.istore 4, 2) := by decide +kernel
theorem dX1_select_15 : decode cX1_select 15 = .ok (.iload 4, 2) := by decide +kernel
theorem dX1_select_17 : decode cX1_select 17 = .ok (.bipush 32, 2) := by decide +kernel
theorem dX1_select_19 : decode cX1_select 19 = .ok (.if_icmp .ge 35, 3) := by decide +kernel
theorem dX1_select_22 : decode cX1_select 22 = .ok (.aload_n 0, 1) := by decide +kernel
theorem dX1_select_23 : decode cX1_select 23 = .ok (.getfield 17, 3) := by decide +kernel
theorem dX1_select_26 : decode cX1_select 26 = .ok (.bipush 32, 2) := by decide +kernel
theorem dX1_select_28 : decode cX1_select 28 = .ok (.iload_n 1, 1) := by decide +kernel
theorem dX1_select_29 : decode cX1_select 29 = .ok (.imul, 1) := by decide +kernel
theorem dX1_select_30 : decode cX1_select 30 = .ok (.iload 4, 2) := by decide +kernel
theorem dX1_select_32 : decode cX1_select 32 = .ok (.iadd, 1) := by decide +kernel
theorem dX1_select_33 : decode cX1_select 33 = .ok (.baload, 1) := by decide +kernel
theorem dX1_select_34 : decode cX1_select 34 = .ok (.ifCond .eq 14, 3) := by decide +kernel
theorem dX1_select_37 : decode cX1_select 37 = .ok (.iload_n 3, 1) := by decide +kernel
theorem dX1_select_38 : decode cX1_select 38 = .ok (.iload_n 2, 1) := by decide +kernel
theorem dX1_select_39 : decode cX1_select 39 = .ok (.if_icmp .ne 6, 3) := by decide +kernel
theorem dX1_select_42 : decode cX1_select 42 = .ok (.iload 4, 2) := by decide +kernel
theorem dX1_select_44 : decode cX1_select 44 = .ok (.ireturn, 1) := by decide +kernel
theorem dX1_select_45 : decode cX1_select 45 = .ok (.iinc 3 1, 3) := by decide +kernel
theorem dX1_select_48 : decode cX1_select 48 = .ok (.iinc 4 1, 3) := by decide +kernel
theorem dX1_select_51 : decode cX1_select 51 = .ok (.goto (-36), 3) := by decide +kernel
theorem dX1_select_54 : decode cX1_select 54 = .ok (.bipush (-2), 2) := by decide +kernel
theorem dX1_select_56 : decode cX1_select 56 = .ok (.ireturn, 1) := by decide +kernel
theorem dX1_sum_0 : decode cX1_sum 0 = .ok (.aload_n 0, 1) := by decide +kernel
theorem dX1_sum_1 : decode cX1_sum 1 = .ok (.iload_n 1, 1) := by decide +kernel
theorem dX1_sum_2 : decode cX1_sum 2 = .ok (.invokevirtual 24, 3) := by decide +kernel
theorem dX1_sum_5 : decode cX1_sum 5 = .ok (.ifCond .eq 5, 3) := by decide +kernel
theorem dX1_sum_8 : decode cX1_sum 8 = .ok (.iconst 0, 1) := by decide +kernel
theorem dX1_sum_9 : decode cX1_sum 9 = .ok (.ireturn, 1) := by decide +kernel
theorem dX1_sum_10 : decode cX1_sum 10 = .ok (.iconst 0, 1) := by decide +kernel
theorem dX1_sum_11 : decode cX1_sum 11 = .ok (.istore 4, 2) := by decide +kernel
theorem dX1_sum_13 : decode cX1_sum 13 = .ok (.iconst 0, 1) := by decide +kernel
theorem dX1_sum_14 : decode cX1_sum 14 = .ok (.istore 5, 2) := by decide +kernel
theorem dX1_sum_16 : decode cX1_sum 16 = .ok (.iload 5, 2) := by decide +kernel
theorem dX1_sum_18 : decode cX1_sum 18 = .ok (.bipush 32, 2) := by decide +kernel
theorem dX1_sum_20 : decode cX1_sum 20 = .ok (.if_icmp .ge 53, 3) := by decide +kernel
theorem dX1_sum_23 : decode cX1_sum 23 = .ok (.iload 5, 2) := by decide +kernel
theorem dX1_sum_25 : decode cX1_sum 25 = .ok (.iload_n 2, 1) := by decide +kernel
theorem dX1_sum_26 : decode cX1_sum 26 = .ok (.if_icmp .lt 41, 3) := by decide +kernel
theorem dX1_sum_29 : decode cX1_sum 29 = .ok (.iload 5, 2) := by decide +kernel
theorem dX1_sum_31 : decode cX1_sum 31 = .ok (.iload_n 3, 1) := by decide +kernel
theorem dX1_sum_32 : decode cX1_sum 32 = .ok (.if_icmp .gt 35, 3) := by decide +kernel
theorem dX1_sum_35 : decode cX1_sum 35 = .ok (.aload_n 0, 1) := by decide +kernel
theorem dX1_sum_36 : decode cX1_sum 36 = .ok (.getfield 17, 3) := by decide +kernel
theorem dX1_sum_39 : decode cX1_sum 39 = .ok (.bipush 32, 2) := by decide +kernel
theorem dX1_sum_41 : decode cX1_sum 41 = .ok (.iload_n 1, 1) := by decide +kernel
theorem dX1_sum_42 : decode cX1_sum 42 = .ok (.imul, 1) := by decide +kernel
theorem dX1_sum_43 : decode cX1_sum 43 = .ok (.iload 5, 2) := by decide +kernel
theorem dX1_sum_45 : decode cX1_sum 45 = .ok (.iadd, 1) := by decide +kernel
theorem dX1_sum_46 : decode cX1_sum 46 = .ok (.baload, 1) := by decide +kernel
theorem dX1_sum_47 : decode cX1_sum 47 = .ok (.ifCond .eq 20, 3) := by decide +kernel
theorem dX1_sum_50 : decode cX1_sum 50 = .ok (.iload 4, 2) := by decide +kernel
theorem dX1_sum_52 : decode cX1_sum 52 = .ok (.aload_n 0, 1) := by decide +kernel
theorem dX1_sum_53 : decode cX1_sum 53 = .ok (.getfield 21, 3) := by decide +kernel
theorem dX1_sum_56 : decode cX1_sum 56 = .ok (.bipush 32, 2) := by decide +kernel
theorem dX1_sum_58 : decode cX1_sum 58 = .ok (.iload_n 1, 1) := by decide +kernel
theorem dX1_sum_59 : decode cX1_sum 59 = .ok (.imul, 1) := by decide +kernel
theorem dX1_sum_60 : decode cX1_sum 60 = .ok (.iload 5, 2) := by decide +kernel
theorem dX1_sum_62 : decode cX1_sum 62 = .ok (.iadd, 1) := by decide +kernel
theorem dX1_sum_63 : decode cX1_sum 63 = .ok (.iaload, 1) := by decide +kernel
theorem dX1_sum_64 : decode cX1_sum 64 = .ok (.iadd, 1) := by decide +kernel
theorem dX1_sum_65 : decode cX1_sum 65 = .ok (.istore 4, 2) := by decide +kernel
theorem dX1_sum_67 : decode cX1_sum 67 = .ok (.iinc 5 1, 3) := by decide +kernel
theorem dX1_sum_70 : decode cX1_sum 70 = .ok (.goto (-54), 3) := by decide +kernel
theorem dX1_sum_73 : decode cX1_sum 73 = .ok (.iload 4, 2) := by decide +kernel
theorem dX1_sum_75 : decode cX1_sum 75 = .ok (.ireturn, 1) := by decide +kernel
theorem dX1_differing_0 : decode cX1_differing 0 = .ok (.aload_n 0, 1) := by decide +kernel
theorem dX1_differing_1 : decode cX1_differing 1 = .ok (.iload_n 1, 1) := by decide +kernel
theorem dX1_differing_2 : decode cX1_differing 2 = .ok (.invokevirtual 24, 3) := by decide +kernel
theorem dX1_differing_5 : decode cX1_differing 5 = .ok (.ifCond .ne 11, 3) := by decide +kernel
theorem dX1_differing_8 : decode cX1_differing 8 = .ok (.aload_n 0, 1) := by decide +kernel
theorem dX1_differing_9 : decode cX1_differing 9 = .ok (.iload_n 2, 1) := by decide +kernel
theorem dX1_differing_10 : decode cX1_differing 10 = .ok (.invokevirtual 24, 3) := by decide +kernel
theorem dX1_differing_13 : decode cX1_differing 13 = .ok (.ifCond .eq 5, 3) := by decide +kernel
theorem dX1_differing_16 : decode cX1_differing 16 = .ok (.iconst (-1), 1) := by decide +kernel
theorem dX1_differing_17 : decode cX1_differing 17 = .ok (.ireturn, 1) := by decide +kernel
theorem dX1_differing_18 : decode cX1_differing 18 = .ok (.iconst 0, 1) := by decide +kernel
theorem dX1_differing_19 : decode cX1_differing 19 = .ok (.istore_n 3, 1) := by decide +kernel
theorem dX1_differing_20 : decode cX1_differing 20 = .ok (.iconst 0, 1) := by decide +kernel
theorem dX1_differing_21 : decode cX1_differing 21 = .ok (.istore 4, 2) := by decide +kernel
theorem dX1_differing_23 : decode cX1_differing 23 = .ok (.iload 4, 2) := by decide +kernel
theorem dX1_differing_25 : decode cX1_differing 25 = .ok (.bipush 32, 2) := by decide +kernel
theorem dX1_differing_27 : decode cX1_differing 27 = .ok (.if_icmp .ge 23, 3) := by decide +kernel
theorem dX1_differing_30 : decode cX1_differing 30 = .ok (.aload_n 0, 1) := by decide +kernel
theorem dX1_differing_31 : decode cX1_differing 31 = .ok (.iload_n 1, 1) := by decide +kernel
theorem dX1_differing_32 : decode cX1_differing 32 = .ok (.iload_n 2, 1) := by decide +kernel
theorem dX1_differing_33 : decode cX1_differing 33 = .ok (.iload 4, 2) := by decide +kernel
theorem dX1_differing_35 : decode cX1_differing 35 = .ok (.invokevirtual 50, 3) := by decide +kernel
theorem dX1_differing_38 : decode cX1_differing 38 = .ok (.ifCond .ne 6, 3) := by decide +kernel
theorem dX1_differing_41 : decode cX1_differing 41 = .ok (.iinc 3 1, 3) := by decide +kernel
theorem dX1_differing_44 : decode cX1_differing 44 = .ok (.iinc 4 1, 3) := by decide +kernel
theorem dX1_differing_47 : decode cX1_differing 47 = .ok (.goto (-24), 3) := by decide +kernel
theorem dX1_differing_50 : decode cX1_differing 50 = .ok (.iload_n 3, 1) := by decide +kernel
theorem dX1_differing_51 : decode cX1_differing 51 = .ok (.ireturn, 1) := by decide +kernel
theorem dX1_agree_0 : decode cX1_agree 0 = .ok (.aload_n 0, 1) := by decide +kernel
theorem dX1_agree_1 : decode cX1_agree 1 = .ok (.getfield 17, 3) := by decide +kernel
theorem dX1_agree_4 : decode cX1_agree 4 = .ok (.bipush 32, 2) := by decide +kernel
theorem dX1_agree_6 : decode cX1_agree 6 = .ok (.iload_n 1, 1) := by decide +kernel
theorem dX1_agree_7 : decode cX1_agree 7 = .ok (.imul, 1) := by decide +kernel
theorem dX1_agree_8 : decode cX1_agree 8 = .ok (.iload_n 3, 1) := by decide +kernel
theorem dX1_agree_9 : decode cX1_agree 9 = .ok (.iadd, 1) := by decide +kernel
theorem dX1_agree_10 : decode cX1_agree 10 = .ok (.baload, 1) := by decide +kernel
theorem dX1_agree_11 : decode cX1_agree 11 = .ok (.aload_n 0, 1) := by decide +kernel
theorem dX1_agree_12 : decode cX1_agree 12 = .ok (.getfield 17, 3) := by decide +kernel
theorem dX1_agree_15 : decode cX1_agree 15 = .ok (.bipush 32, 2) := by decide +kernel
theorem dX1_agree_17 : decode cX1_agree 17 = .ok (.iload_n 2, 1) := by decide +kernel
theorem dX1_agree_18 : decode cX1_agree 18 = .ok (.imul, 1) := by decide +kernel
theorem dX1_agree_19 : decode cX1_agree 19 = .ok (.iload_n 3, 1) := by decide +kernel
theorem dX1_agree_20 : decode cX1_agree 20 = .ok (.iadd, 1) := by decide +kernel
theorem dX1_agree_21 : decode cX1_agree 21 = .ok (.baload, 1) := by decide +kernel
theorem dX1_agree_22 : decode cX1_agree 22 = .ok (.if_icmp .eq 5, 3) := by decide +kernel
theorem dX1_agree_25 : decode cX1_agree 25 = .ok (.iconst 0, 1) := by decide +kernel
theorem dX1_agree_26 : decode cX1_agree 26 = .ok (.ireturn, 1) := by decide +kernel
theorem dX1_agree_27 : decode cX1_agree 27 = .ok (.aload_n 0, 1) := by decide +kernel
theorem dX1_agree_28 : decode cX1_agree 28 = .ok (.getfield 17, 3) := by decide +kernel
theorem dX1_agree_31 : decode cX1_agree 31 = .ok (.bipush 32, 2) := by decide +kernel
theorem dX1_agree_33 : decode cX1_agree 33 = .ok (.iload_n 1, 1) := by decide +kernel
theorem dX1_agree_34 : decode cX1_agree 34 = .ok (.imul, 1) := by decide +kernel
theorem dX1_agree_35 : decode cX1_agree 35 = .ok (.iload_n 3, 1) := by decide +kernel
theorem dX1_agree_36 : decode cX1_agree 36 = .ok (.iadd, 1) := by decide +kernel
theorem dX1_agree_37 : decode cX1_agree 37 = .ok (.baload, 1) := by decide +kernel
theorem dX1_agree_38 : decode cX1_agree 38 = .ok (.ifCond .eq 28, 3) := by decide +kernel
theorem dX1_agree_41 : decode cX1_agree 41 = .ok (.aload_n 0, 1) := by decide +kernel
theorem dX1_agree_42 : decode cX1_agree 42 = .ok (.getfield 21, 3) := by decide +kernel
theorem dX1_agree_45 : decode cX1_agree 45 = .ok (.bipush 32, 2) := by decide +kernel
theorem dX1_agree_47 : decode cX1_agree 47 = .ok (.iload_n 1, 1) := by decide +kernel
theorem dX1_agree_48 : decode cX1_agree 48 = .ok (.imul, 1) := by decide +kernel
theorem dX1_agree_49 : decode cX1_agree 49 = .ok (.iload_n 3, 1) := by decide +kernel
theorem dX1_agree_50 : decode cX1_agree 50 = .ok (.iadd, 1) := by decide +kernel
theorem dX1_agree_51 : decode cX1_agree 51 = .ok (.iaload, 1) := by decide +kernel
theorem dX1_agree_52 : decode cX1_agree 52 = .ok (.aload_n 0, 1) := by decide +kernel
theorem dX1_agree_53 : decode cX1_agree 53 = .ok (.getfield 21, 3) := by decide +kernel
theorem dX1_agree_56 : decode cX1_agree 56 = .ok (.bipush 32, 2) := by decide +kernel
theorem dX1_agree_58 : decode cX1_agree 58 = .ok (.iload_n 2, 1) := by decide +kernel
theorem dX1_agree_59 : decode cX1_agree 59 = .ok (.imul, 1) := by decide +kernel
theorem dX1_agree_60 : decode cX1_agree 60 = .ok (.iload_n 3, 1) := by decide +kernel
theorem dX1_agree_61 : decode cX1_agree 61 = .ok (.iadd, 1) := by decide +kernel
theorem dX1_agree_62 : decode cX1_agree 62 = .ok (.iaload, 1) := by decide +kernel
theorem dX1_agree_63 : decode cX1_agree 63 = .ok (.if_icmp .ne 7, 3) := by decide +kernel
theorem dX1_agree_66 : decode cX1_agree 66 = .ok (.iconst 1, 1) := by decide +kernel
theorem dX1_agree_67 : decode cX1_agree 67 = .ok (.goto 4, 3) := by decide +kernel
theorem dX1_agree_70 : decode cX1_agree 70 = .ok (.iconst 0, 1) := by decide +kernel
theorem dX1_agree_71 : decode cX1_agree 71 = .ok (.ireturn, 1) := by decide +kernel
theorem dX1_spread_0 : decode cX1_spread 0 = .ok (.aload_n 0, 1) := by decide +kernel
theorem dX1_spread_1 : decode cX1_spread 1 = .ok (.iload_n 1, 1) := by decide +kernel
theorem dX1_spread_2 : decode cX1_spread 2 = .ok (.invokevirtual 28, 3) := by decide +kernel
theorem dX1_spread_5 : decode cX1_spread 5 = .ok (.ifCond .eq 5, 3) := by decide +kernel
theorem dX1_spread_8 : decode cX1_spread 8 = .ok (.iconst (-1), 1) := by decide +kernel
theorem dX1_spread_9 : decode cX1_spread 9 = .ok (.ireturn, 1) := by decide +kernel
theorem dX1_spread_10 : decode cX1_spread 10 = .ok (.iconst 0, 1) := by decide +kernel
theorem dX1_spread_11 : decode cX1_spread 11 = .ok (.istore_n 2, 1) := by decide +kernel
theorem dX1_spread_12 : decode cX1_spread 12 = .ok (.iconst 0, 1) := by decide +kernel
theorem dX1_spread_13 : decode cX1_spread 13 = .ok (.istore_n 3, 1) := by decide +kernel
theorem dX1_spread_14 : decode cX1_spread 14 = .ok (.iload_n 3, 1) := by decide +kernel
theorem dX1_spread_15 : decode cX1_spread 15 = .ok (.aload_n 0, 1) := by decide +kernel
theorem dX1_spread_16 : decode cX1_spread 16 = .ok (.getfield 7, 3) := by decide +kernel
theorem dX1_spread_19 : decode cX1_spread 19 = .ok (.if_icmp .ge 32, 3) := by decide +kernel
theorem dX1_spread_22 : decode cX1_spread 22 = .ok (.iload_n 3, 1) := by decide +kernel
theorem dX1_spread_23 : decode cX1_spread 23 = .ok (.bipush 40, 2) := by decide +kernel
theorem dX1_spread_25 : decode cX1_spread 25 = .ok (.if_icmp .ge 26, 3) := by decide +kernel
theorem dX1_spread_28 : decode cX1_spread 28 = .ok (.aload_n 0, 1) := by decide +kernel
theorem dX1_spread_29 : decode cX1_spread 29 = .ok (.getfield 17, 3) := by decide +kernel
theorem dX1_spread_32 : decode cX1_spread 32 = .ok (.bipush 32, 2) := by decide +kernel
theorem dX1_spread_34 : decode cX1_spread 34 = .ok (.iload_n 3, 1) := by decide +kernel
theorem dX1_spread_35 : decode cX1_spread 35 = .ok (.imul, 1) := by decide +kernel
theorem dX1_spread_36 : decode cX1_spread 36 = .ok (.iload_n 1, 1) := by decide +kernel
theorem dX1_spread_37 : decode cX1_spread 37 = .ok (.iadd, 1) := by decide +kernel
theorem dX1_spread_38 : decode cX1_spread 38 = .ok (.baload, 1) := by decide +kernel
theorem dX1_spread_39 : decode cX1_spread 39 = .ok (.ifCond .eq 6, 3) := by decide +kernel
theorem dX1_spread_42 : decode cX1_spread 42 = .ok (.iinc 2 1, 3) := by decide +kernel
theorem dX1_spread_45 : decode cX1_spread 45 = .ok (.iinc 3 1, 3) := by decide +kernel
theorem dX1_spread_48 : decode cX1_spread 48 = .ok (.goto (-34), 3) := by decide +kernel
theorem dX1_spread_51 : decode cX1_spread 51 = .ok (.iload_n 2, 1) := by decide +kernel
theorem dX1_spread_52 : decode cX1_spread 52 = .ok (.ireturn, 1) := by decide +kernel
theorem dX1_changes_0 : decode cX1_changes 0 = .ok (.aload_n 0, 1) := by decide +kernel
theorem dX1_changes_1 : decode cX1_changes 1 = .ok (.iload_n 1, 1) := by decide +kernel
theorem dX1_changes_2 : decode cX1_changes 2 = .ok (.invokevirtual 28, 3) := by decide +kernel
theorem dX1_changes_5 : decode cX1_changes 5 = .ok (.ifCond .eq 5, 3) := by decide +kernel
theorem dX1_changes_8 : decode cX1_changes 8 = .ok (.iconst (-1), 1) := by decide +kernel
theorem dX1_changes_9 : decode cX1_changes 9 = .ok (.ireturn, 1) := by decide +kernel
theorem dX1_changes_10 : decode cX1_changes 10 = .ok (.iconst 0, 1) := by decide +kernel
theorem dX1_changes_11 : decode cX1_changes 11 = .ok (.istore_n 2, 1) := by decide +kernel
theorem dX1_changes_12 : decode cX1_changes 12 = .ok (.iconst 1, 1) := by decide +kernel
theorem dX1_changes_13 : decode cX1_changes 13 = .ok (.istore_n 3, 1) := by decide +kernel
theorem dX1_changes_14 : decode cX1_changes 14 = .ok (.iload_n 3, 1) := by decide +kernel
theorem dX1_changes_15 : decode cX1_changes 15 = .ok (.aload_n 0, 1) := by decide +kernel
theorem dX1_changes_16 : decode cX1_changes 16 = .ok (.getfield 7, 3) := by decide +kernel
theorem dX1_changes_19 : decode cX1_changes 19 = .ok (.if_icmp .ge 33, 3) := by decide +kernel
theorem dX1_changes_22 : decode cX1_changes 22 = .ok (.iload_n 3, 1) := by decide +kernel
theorem dX1_changes_23 : decode cX1_changes 23 = .ok (.bipush 40, 2) := by decide +kernel
theorem dX1_changes_25 : decode cX1_changes 25 = .ok (.if_icmp .ge 27, 3) := by decide +kernel
theorem dX1_changes_28 : decode cX1_changes 28 = .ok (.aload_n 0, 1) := by decide +kernel
theorem dX1_changes_29 : decode cX1_changes 29 = .ok (.iload_n 3, 1) := by decide +kernel
theorem dX1_changes_30 : decode cX1_changes 30 = .ok (.aload_n 0, 1) := by decide +kernel
theorem dX1_changes_31 : decode cX1_changes 31 = .ok (.getfield 13, 3) := by decide +kernel
theorem dX1_changes_34 : decode cX1_changes 34 = .ok (.iload_n 3, 1) := by decide +kernel
theorem dX1_changes_35 : decode cX1_changes 35 = .ok (.iaload, 1) := by decide +kernel
theorem dX1_changes_36 : decode cX1_changes 36 = .ok (.iload_n 1, 1) := by decide +kernel
theorem dX1_changes_37 : decode cX1_changes 37 = .ok (.invokevirtual 50, 3) := by decide +kernel
theorem dX1_changes_40 : decode cX1_changes 40 = .ok (.ifCond .ne 6, 3) := by decide +kernel
theorem dX1_changes_43 : decode cX1_changes 43 = .ok (.iinc 2 1, 3) := by decide +kernel
theorem dX1_changes_46 : decode cX1_changes 46 = .ok (.iinc 3 1, 3) := by decide +kernel
theorem dX1_changes_49 : decode cX1_changes 49 = .ok (.goto (-35), 3) := by decide +kernel
theorem dX1_changes_52 : decode cX1_changes 52 = .ok (.iload_n 2, 1) := by decide +kernel
theorem dX1_changes_53 : decode cX1_changes 53 = .ok (.ireturn, 1) := by decide +kernel
end
section
/-! ===== the walker's own kit: worlds as functions of a state; contracts, entry, return, call ===== -/
abbrev pm_cl : List vw_C := [(RX0, TX0, 12), (RX1, TX1, 4)]
abbrev pm_Ty : Type := List (ClassId × FieldType)
/-- the walker's world: the classes are known, the cells hold the state u, they are apart, nothing else has changed -/
def pm_X {S : Type} (D : va_G) (A : Nat → Prop) (s : State) (tys : pm_Ty) (w : S → va_W) (u : S) (H : Heap) (locs : List Loc) : Prop :=
  va_K D pm_cl tys s ∧ va_P D pm_cl (w u) H ∧ va_D A (w u) ∧ va_S A s.heap H locs
def pm_Pre {S : Type} (D : va_G) (tys : pm_Ty) (w : S → va_W) (u : S) (sz : Nat) (U : State) : Prop :=
  U.heap.size = sz ∧ va_P D pm_cl (w u) U.heap ∧ va_K D pm_cl tys U ∧ va_D (fun _ => True) (w u)
def pm_Po {S : Type} (D : va_G) (tys : pm_Ty) (w : S → va_W) (A : Nat → Prop) (u : S) (t : State) : Prop :=
  va_P D pm_cl (w u) t.heap ∧ va_K D pm_cl tys t ∧ va_D A (w u)
/-- the contract of a method that answers an int (or a truth value) -/
def pm_Mi {S : Type} (l : Launch) (y : MethodName) (cc : ByteArray) (maxL : Nat) (ty : FieldType) (rm : Room) (D : va_G) (tys : pm_Ty) (w : S → va_W) (As : List Value) (u : S) (post : Int32 → S → Prop) : Prop :=
  ∀ sz : Nat, Met l y (ws_ y cc maxL (some ty)) rm (va_Pc As (pm_Pre D tys w u sz)) (va_Qi post (pm_Po D tys w (va_A (w u) sz)) (va_A (w u) sz)) 0 0 (va_A (w u) sz)
/-- the contract of a method that answers nothing -/
def pm_Mv {S : Type} (l : Launch) (y : MethodName) (cc : ByteArray) (maxL : Nat) (rm : Room) (D : va_G) (tys : pm_Ty) (w : S → va_W) (As : List Value) (u : S) (post : S → Prop) : Prop :=
  ∀ sz : Nat, Met l y (ws_ y cc maxL none) rm (va_Pc As (pm_Pre D tys w u sz)) (va_Qv post (pm_Po D tys w (va_A (w u) sz)) (va_A (w u) sz)) 0 0 (va_A (w u) sz)
/-- the contract of a static method over ints alone -/
def pm_Ms (l : Launch) (y : MethodName) (cc : ByteArray) (maxL : Nat) (ty : FieldType) (rm : Room) (As : List Value) (r : Int32) : Prop :=
  Met l y (ws_ y cc maxL (some ty)) rm (fun v _ => v = As.toArray) (QcRead r) 0 0 (fun _ => False)
abbrev pm_rm (k : Nat) : Room := { frames := k, cells := 0, slots := 0, locals := 32 * k }
theorem pm_Mi_of {S : Type} {l : Launch} {y : MethodName} {cc : ByteArray} {maxL : Nat} {ty : FieldType} {rm : Room} {D : va_G} {tys : pm_Ty} {w : S → va_W} {As : List Value} {u : S} {post : Int32 → S → Prop}
    (hy : plainName y.cls = true) (hn : (lg_sl As).length ≤ maxL)
    (body : ∀ (p : Program) (e : Env) (s : State) (m : MethodId) (below : List Frame) (meth : Method) (c : Code) (A : Nat → Prop) (args : Array Value) (Q : State → Prop) (ls : Array Slot),
      CallFix p m c cc maxL s args lw_all y.cls → (∀ q : Nat, s.heap.size ≤ q → A q) →
      (∀ (r : Int32) (u' : S) (H : Heap) (locs : List Loc) (pc : Nat) (ls : Array Slot), pm_X D A s tys w u' H locs → post r u' → narrow ty (.int r) = .int r → decode cc pc = .ok (.ireturn, 1) → W p l e rm s m args below meth c H locs 0 0 Q (F0 m pc ls [.int r])) →
      pm_X D A s tys w u s.heap [] → lv_has ls maxL (lv_args 0 As) → W p l e rm s m args below meth c s.heap [] 0 0 Q (F0 m 0 ls [])) :
    pm_Mi l y cc maxL ty rm D tys w As u post := by
  intro sz
  refine Met.ofW (cc := cc) (maxL := maxL) (ret := some ty) hy rfl ?_
  intro p e s m args below meth c s₁ B hml hv
  obtain ⟨rfl, hsz, hP, hK, hD0⟩ := hv
  have hx := B.exec
  have hb := B.bytes
  have hr := B.returns
  have hts := atoms_spec (ws := ws_ y cc maxL (some ty)) B.pre
  have hts : ∀ w ∈ lw_all, w.before _ s = true := fun w h => hts w (List.mem_cons_of_mem _ h)
  have hown : s.vm.findClass y.cls = some m.cls := findClass_of_methodNamed B.named
  have hlocks := B.notSynchronized
  subst hsz
  have hD := hD0.self (sz := s.heap.size)
  have hl := lv_entry As (n := maxL) hn
  rw [lg_entry_eq]
  refine body p e s m below meth c (va_A (w u) s.heap.size) _ _ _ ⟨hx, hb, hml, hown, hts⟩ (fun q h => Or.inr h) ?_ ⟨hK, hP, hD, va_S.rf⟩ hl
  intro r u' H locs pc ls hX hpost hnr hdg
  obtain ⟨hK', hP', hD', hS'⟩ := hX
  exact W.zret hx hb hr hnr (fun t ht hW => ⟨⟨r, u', rfl, hpost, by rw [ht]; exact hP', va_K.moved hW.alike hK', hD'⟩, hS'.F ht⟩) hS'.2.2 hdg
theorem pm_Mv_of {S : Type} {l : Launch} {y : MethodName} {cc : ByteArray} {maxL : Nat} {rm : Room} {D : va_G} {tys : pm_Ty} {w : S → va_W} {As : List Value} {u : S} {post : S → Prop}
    (hy : plainName y.cls = true) (hn : (lg_sl As).length ≤ maxL)
    (body : ∀ (p : Program) (e : Env) (s : State) (m : MethodId) (below : List Frame) (meth : Method) (c : Code) (A : Nat → Prop) (args : Array Value) (Q : State → Prop) (ls : Array Slot),
      CallFix p m c cc maxL s args lw_all y.cls → (∀ q : Nat, s.heap.size ≤ q → A q) →
      (∀ (u' : S) (H : Heap) (locs : List Loc) (pc : Nat) (ls : Array Slot), pm_X D A s tys w u' H locs → post u' → decode cc pc = .ok (.return_, 1) → W p l e rm s m args below meth c H locs 0 0 Q (F0 m pc ls [])) →
      pm_X D A s tys w u s.heap [] → lv_has ls maxL (lv_args 0 As) → W p l e rm s m args below meth c s.heap [] 0 0 Q (F0 m 0 ls [])) :
    pm_Mv l y cc maxL rm D tys w As u post := by
  intro sz
  refine Met.ofW (cc := cc) (maxL := maxL) (ret := none) hy rfl ?_
  intro p e s m args below meth c s₁ B hml hv
  obtain ⟨rfl, hsz, hP, hK, hD0⟩ := hv
  have hx := B.exec
  have hb := B.bytes
  have hr := B.returns
  have hts := atoms_spec (ws := ws_ y cc maxL none) B.pre
  have hts : ∀ w ∈ lw_all, w.before _ s = true := fun w h => hts w (List.mem_cons_of_mem _ h)
  have hown : s.vm.findClass y.cls = some m.cls := findClass_of_methodNamed B.named
  have hlocks := B.notSynchronized
  subst hsz
  have hD := hD0.self (sz := s.heap.size)
  have hl := lv_entry As (n := maxL) hn
  rw [lg_entry_eq]
  refine body p e s m below meth c (va_A (w u) s.heap.size) _ _ _ ⟨hx, hb, hml, hown, hts⟩ (fun q h => Or.inr h) ?_ ⟨hK, hP, hD, va_S.rf⟩ hl
  intro u' H locs pc ls hX hpost hdg
  obtain ⟨hK', hP', hD', hS'⟩ := hX
  exact W.vret hx hb hr (fun t ht hW => ⟨⟨u', rfl, hpost, by rw [ht]; exact hP', va_K.moved hW.alike hK', hD'⟩, hS'.F ht⟩) hS'.2.2 hdg
theorem pm_Ms_of {l : Launch} {y : MethodName} {cc : ByteArray} {maxL : Nat} {ty : FieldType} {rm : Room} {As : List Value} {r0 : Int32}
    (hy : plainName y.cls = true) (hn : (lg_sl As).length ≤ maxL)
    (body : ∀ (p : Program) (e : Env) (s : State) (m : MethodId) (below : List Frame) (meth : Method) (c : Code) (args : Array Value) (Q : State → Prop) (ls : Array Slot),
      CallFix p m c cc maxL s args lw_all y.cls →
      (∀ (r : Int32) (pc : Nat) (ls : Array Slot), r = r0 → narrow ty (.int r) = .int r → decode cc pc = .ok (.ireturn, 1) → W p l e rm s m args below meth c s.heap [] 0 0 Q (F0 m pc ls [.int r])) →
      lv_has ls maxL (lv_args 0 As) → W p l e rm s m args below meth c s.heap [] 0 0 Q (F0 m 0 ls [])) :
    pm_Ms l y cc maxL ty rm As r0 := by
  refine Met.ofW (cc := cc) (maxL := maxL) (ret := some ty) hy rfl ?_
  intro p e s m args below meth c s₁ B hml hv
  have hv : args = As.toArray := hv
  subst hv
  have hx := B.exec
  have hb := B.bytes
  have hr := B.returns
  have hts := atoms_spec (ws := ws_ y cc maxL (some ty)) B.pre
  have hts : ∀ w ∈ lw_all, w.before _ s = true := fun w h => hts w (List.mem_cons_of_mem _ h)
  have hown : s.vm.findClass y.cls = some m.cls := findClass_of_methodNamed B.named
  have hlocks := B.notSynchronized
  have hl := lv_entry As (n := maxL) hn
  rw [lg_entry_eq]
  refine body p e s m below meth c _ _ _ ⟨hx, hb, hml, hown, hts⟩ ?_ hl
  intro r pc ls hpost hnr hdg
  subst hpost
  exact W.zret hx hb hr hnr (fun t ht hW => ⟨rfl, ht⟩) (fun q hq => by cases hq) hdg
section PMC
variable {p : Program} {l : Launch} {e : Env} {R : Room} {s : State} {m : MethodId} {args : Array Value} {below : List Frame} {meth : Method} {c : Code} {H : Heap} {locs : List Loc} {cells slots : Nat} {Q : State → Prop}
variable {cc : ByteArray} {pc nL : Nat} {ls : Array Slot} {rest st : List Value} {D : va_G} {A : Nat → Prop} {tys : pm_Ty} {own : String}
/-- the top of the stack by another name -/
theorem pm_top {x y : Int32} (h : x = y) (k : W p l e R s m args below meth c H locs cells slots Q (F0 m pc ls (.int y :: rest))) : W p l e R s m args below meth c H locs cells slots Q (F0 m pc ls (.int x :: rest)) := by
  rw [h]; exact k
theorem pm_topl {x y : Int64} (h : x = y) (k : W p l e R s m args below meth c H locs cells slots Q (F0 m pc ls (.long y :: rest))) : W p l e R s m args below meth c H locs cells slots Q (F0 m pc ls (.long x :: rest)) := by
  rw [h]; exact k
theorem pm_fr {S : Type} {w : S → va_W} {u : S} (hA : ∀ q : Nat, s.heap.size ≤ q → A q) (hX : pm_X D A s tys w u H locs) : ∀ q, va_A (w u) H.size q → A q := by
  intro q hq
  rcases hq with ⟨k, e', hk⟩ | hq
  · exact hX.2.2.1.2 k _ hk
  · exact hA q (Nat.le_trans hX.2.2.2.1 hq)
/-- a call on the object of the world itself, an int comes back -/
theorem pm_calli {S : Type} {w : S → va_W} {u : S} {b ci n idx : Nat} {fs : List Value} {C : vw_C} {y : MethodName} {bytes : ByteArray} {maxL : Nat} {ty : FieldType} {rm : Room} {As : List Value} {post : Int32 → S → Prop}
    (F : CallFix p m c cc nL s args lw_all own) (hA : ∀ q : Nat, s.heap.size ≤ q → A q) (hX : pm_X D A s tys w u H locs)
    (hM : pm_Mi l y bytes maxL ty rm D tys w (.ref b :: As) u post) (hrec : (w u)[0]? = some (b, .inr (ci, fs))) (hci : pm_cl[ci]? = some C)
    (hG : GoodIn lw_all (wsV own idx C.1 y (ws_ y bytes maxL (some ty))))
    (hd : y.cls = C.1 ∧ y.cls ≠ "java/lang/invoke/MethodHandle" ∧ y.cls ≠ "java/lang/invoke/VarHandle" ∧ (parseMethodDescriptor y.desc).map (fun d => d.parameters.length) = some n)
    (hR : (rm.cells = 0 ∧ rm.slots = 0) ∧ rm.frames + 1 ≤ R.frames ∧ 8 + (maxL + 11) + rm.locals ≤ R.locals) (hst : st = As.reverse ++ .ref b :: rest) (hn : As.length = n) (hsz : ls.size = nL) (hW : (rest.map fun v => v.category).sum ≤ 8)
    (hdg : decode cc pc = .ok (.invokevirtual idx, 3)) (hcs : cells ≤ R.cells ∧ slots ≤ R.slots)
    (kk : ∀ (r : Int32) (u' : S) (H1 : Heap) (locs1 : List Loc), post r u' → pm_X D A s tys w u' H1 locs1 → W p l e R s m args below meth c H1 locs1 cells slots Q (F0 m (pc + 3) ls (.int r :: rest))) :
    W p l e R s m args below meth c H locs cells slots Q (F0 m pc ls st) := by
  have hFc := pm_fr hA hX
  obtain ⟨hK, hP, hD, hS⟩ := hX
  refine va_calli (va_runV (As := As) (rest := rest) F (hM H.size) (cwV n F.2.2.2.2 hG rfl hR.1.1 hR.1.2 hd hR.2) ⟨fun a U g mk q => ?_, va_recv hK hP hci hrec, fun U hU hW => ⟨rfl, by rw [hU], by rw [hU]; exact hP, va_K.moved hW.alike hK, hD.weaken (fun _ _ _ _ => trivial)⟩⟩ rfl hn hsz hst (lv_room hW) hdg hcs) hS (fun q _ h => hFc q h) hFc (fun r u' t H1 locs1 ht hvm hw hB hz1 hk1 hS1 => ?_)
  · obtain ⟨q0, q1, qP, qK, qD⟩ := q
    exact ⟨q0, q1, qP, va_K.moved (u := U) (U := U.calling g mk a) (Vm.Alike.refl U.vm) qK, qD⟩
  · obtain ⟨hP1, hK1, hD1⟩ := hB
    rw [ht] at hP1
    exact kk r u' H1 locs1 hw ⟨va_K.moved hvm.symm hK1, hP1, hD1.weaken (fun _ _ _ h => hFc _ h), hS1⟩
/-- a call on the object of the world itself, nothing comes back -/
theorem pm_callv {S : Type} {w : S → va_W} {u : S} {b ci n idx : Nat} {fs : List Value} {C : vw_C} {y : MethodName} {bytes : ByteArray} {maxL : Nat} {rm : Room} {As : List Value} {post : S → Prop}
    (F : CallFix p m c cc nL s args lw_all own) (hA : ∀ q : Nat, s.heap.size ≤ q → A q) (hX : pm_X D A s tys w u H locs)
    (hM : pm_Mv l y bytes maxL rm D tys w (.ref b :: As) u post) (hrec : (w u)[0]? = some (b, .inr (ci, fs))) (hci : pm_cl[ci]? = some C)
    (hG : GoodIn lw_all (wsV own idx C.1 y (ws_ y bytes maxL none)))
    (hd : y.cls = C.1 ∧ y.cls ≠ "java/lang/invoke/MethodHandle" ∧ y.cls ≠ "java/lang/invoke/VarHandle" ∧ (parseMethodDescriptor y.desc).map (fun d => d.parameters.length) = some n)
    (hR : (rm.cells = 0 ∧ rm.slots = 0) ∧ rm.frames + 1 ≤ R.frames ∧ 8 + (maxL + 11) + rm.locals ≤ R.locals) (hst : st = As.reverse ++ .ref b :: rest) (hn : As.length = n) (hsz : ls.size = nL) (hW : (rest.map fun v => v.category).sum ≤ 8)
    (hdg : decode cc pc = .ok (.invokevirtual idx, 3)) (hcs : cells ≤ R.cells ∧ slots ≤ R.slots)
    (kk : ∀ (u' : S) (H1 : Heap) (locs1 : List Loc), post u' → pm_X D A s tys w u' H1 locs1 → W p l e R s m args below meth c H1 locs1 cells slots Q (F0 m (pc + 3) ls rest)) :
    W p l e R s m args below meth c H locs cells slots Q (F0 m pc ls st) := by
  have hFc := pm_fr hA hX
  obtain ⟨hK, hP, hD, hS⟩ := hX
  refine va_callv (va_runV (As := As) (rest := rest) F (hM H.size) (cwV n F.2.2.2.2 hG rfl hR.1.1 hR.1.2 hd hR.2) ⟨fun a U g mk q => ?_, va_recv hK hP hci hrec, fun U hU hW => ⟨rfl, by rw [hU], by rw [hU]; exact hP, va_K.moved hW.alike hK, hD.weaken (fun _ _ _ _ => trivial)⟩⟩ rfl hn hsz hst (lv_room hW) hdg hcs) hS (fun q _ h => hFc q h) hFc (fun u' t H1 locs1 ht hvm hw hB hz1 hk1 hS1 => ?_)
  · obtain ⟨q0, q1, qP, qK, qD⟩ := q
    exact ⟨q0, q1, qP, va_K.moved (u := U) (U := U.calling g mk a) (Vm.Alike.refl U.vm) qK, qD⟩
  · obtain ⟨hP1, hK1, hD1⟩ := hB
    rw [ht] at hP1
    exact kk u' H1 locs1 hw ⟨va_K.moved hvm.symm hK1, hP1, hD1.weaken (fun _ _ _ h => hFc _ h), hS1⟩
/-- a static call over ints -/
theorem pm_calls {n idx : Nat} {y : MethodName} {bytes : ByteArray} {maxL : Nat} {ty : FieldType} {rm : Room} {As : List Value} {r : Int32}
    (F : CallFix p m c cc nL s args lw_all own) (hM : pm_Ms l y bytes maxL ty rm As r)
    (hG : GoodIn lw_all (va_wsS own idx y (ws_ y bytes maxL (some ty))))
    (hd : y.cls ≠ "java/lang/invoke/MethodHandle" ∧ y.cls ≠ "java/lang/invoke/VarHandle" ∧ (parseMethodDescriptor y.desc).map (fun d => d.parameters.length) = some n)
    (hR : (rm.cells = 0 ∧ rm.slots = 0) ∧ rm.frames + 1 ≤ R.frames ∧ 8 + (maxL + 11) + rm.locals ≤ R.locals) (hst : st = As.reverse ++ rest) (hn : As.length = n) (hsz : ls.size = nL) (hW : (rest.map fun v => v.category).sum ≤ 8)
    (hdg : decode cc pc = .ok (.invokestatic idx, 3)) (hcs : cells ≤ R.cells ∧ slots ≤ R.slots)
    (kk : W p l e R s m args below meth c H locs cells slots Q (F0 m (pc + 3) ls (.int r :: rest))) :
    W p l e R s m args below meth c H locs cells slots Q (F0 m pc ls st) :=
  W.callR (W.runS (As := As) (rest := rest) F hM (va_cwS n F.2.2.2.2 hG rfl hR.1.1 hR.1.2 hd hR.2) preEq rfl hn hsz hst (lv_room hW) hdg hcs) kk
end PMC
/-- a truth value and what it says -/
def pm_bl (r : Int32) (P : Prop) : Prop := (r = 1 ∧ P) ∨ (r = 0 ∧ ¬ P)
theorem pm_bl.yes {r : Int32} {P : Prop} (h : pm_bl r P) (c : ¬ r = 0) : P := by
  rcases h with ⟨_, h⟩ | ⟨h, _⟩
  · exact h
  · exact absurd h c
theorem pm_bl.no {r : Int32} {P : Prop} (h : pm_bl r P) (c : r = 0) : ¬ P := by
  rcases h with ⟨h, _⟩ | ⟨_, h⟩
  · rw [c] at h; exact absurd h (by decide)
  · exact h
theorem pm_bl.nar {r : Int32} {P : Prop} (h : pm_bl r P) : narrow .boolean (.int r) = .int r := by
  rcases h with ⟨rfl, _⟩ | ⟨rfl, _⟩ <;> rfl
theorem pm_bl.bit {r : Int32} {P : Prop} (h : pm_bl r P) : r = 0 ∨ r = 1 := by
  rcases h with ⟨h, _⟩ | ⟨h, _⟩
  · exact Or.inr h
  · exact Or.inl h
theorem pm_bl.one {P : Prop} (h : P) : pm_bl 1 P := Or.inl ⟨rfl, h⟩
theorem pm_bl.zero {P : Prop} (h : ¬ P) : pm_bl 0 P := Or.inr ⟨rfl, h⟩
theorem pm_bl.iff {r : Int32} {P P' : Prop} (h : pm_bl r P) (e : P ↔ P') : pm_bl r P' := by
  rcases h with ⟨h, h'⟩ | ⟨h, h'⟩
  · exact Or.inl ⟨h, e.mp h'⟩
  · exact Or.inr ⟨h, fun z => h' (e.mpr z)⟩
theorem pm_bl.uniq {r r' : Int32} {P : Prop} (h : pm_bl r P) (h' : pm_bl r' P) : r = r' := by
  rcases h with ⟨rfl, h⟩ | ⟨rfl, h⟩ <;> rcases h' with ⟨rfl, h'⟩ | ⟨rfl, h'⟩
  · rfl
  · exact absurd h h'
  · exact absurd h' h
  · rfl
theorem pm_nar01 {x : Int32} (h : x = 0 ∨ x = 1) : narrow .boolean (.int x) = .int x ∧ fits .boolean (.int x) = true ∧ vp_nar .boolean x = x := by
  rcases h with rfl | rfl
  · exact ⟨rfl, by decide, rfl⟩
  · exact ⟨rfl, by decide, rfl⟩
end
section
/-! ===== the two classes' states, worlds, and a row for each field and array ===== -/
/-- PersistentMap's core: parents, labels, follower, heads, entryVersion, entryValue, entryThere, entryNext, count, entries -/
abbrev pm_K0 : Type := (Nat → Int32) × (Nat → Int64) × (Nat → Int32) × (Nat → Int32) × (Nat → Int32) × (Nat → Int32) × (Nat → Int32) × (Nat → Int32) × Int32 × Int32
/-- the core, thereNow, valueNow -/
abbrev pm_S0 : Type := pm_K0 × Int32 × Int32
abbrev k_pa (k : pm_K0) : Nat → Int32 := k.1
abbrev k_la (k : pm_K0) : Nat → Int64 := k.2.1
abbrev k_fo (k : pm_K0) : Nat → Int32 := k.2.2.1
abbrev k_he (k : pm_K0) : Nat → Int32 := k.2.2.2.1
abbrev k_ev (k : pm_K0) : Nat → Int32 := k.2.2.2.2.1
abbrev k_ea (k : pm_K0) : Nat → Int32 := k.2.2.2.2.2.1
abbrev k_et (k : pm_K0) : Nat → Int32 := k.2.2.2.2.2.2.1
abbrev k_en (k : pm_K0) : Nat → Int32 := k.2.2.2.2.2.2.2.1
abbrev k_cn (k : pm_K0) : Int32 := k.2.2.2.2.2.2.2.2.1
abbrev k_es (k : pm_K0) : Int32 := k.2.2.2.2.2.2.2.2.2
abbrev k_spa (k : pm_K0) (f : Nat → Int32) : pm_K0 := (f, k.2.1, k.2.2.1, k.2.2.2.1, k.2.2.2.2.1, k.2.2.2.2.2.1, k.2.2.2.2.2.2.1, k.2.2.2.2.2.2.2.1, k.2.2.2.2.2.2.2.2.1, k.2.2.2.2.2.2.2.2.2)
abbrev k_sla (k : pm_K0) (f : Nat → Int64) : pm_K0 := (k.1, f, k.2.2.1, k.2.2.2.1, k.2.2.2.2.1, k.2.2.2.2.2.1, k.2.2.2.2.2.2.1, k.2.2.2.2.2.2.2.1, k.2.2.2.2.2.2.2.2.1, k.2.2.2.2.2.2.2.2.2)
abbrev k_sfo (k : pm_K0) (f : Nat → Int32) : pm_K0 := (k.1, k.2.1, f, k.2.2.2.1, k.2.2.2.2.1, k.2.2.2.2.2.1, k.2.2.2.2.2.2.1, k.2.2.2.2.2.2.2.1, k.2.2.2.2.2.2.2.2.1, k.2.2.2.2.2.2.2.2.2)
abbrev k_she (k : pm_K0) (f : Nat → Int32) : pm_K0 := (k.1, k.2.1, k.2.2.1, f, k.2.2.2.2.1, k.2.2.2.2.2.1, k.2.2.2.2.2.2.1, k.2.2.2.2.2.2.2.1, k.2.2.2.2.2.2.2.2.1, k.2.2.2.2.2.2.2.2.2)
abbrev k_sev (k : pm_K0) (f : Nat → Int32) : pm_K0 := (k.1, k.2.1, k.2.2.1, k.2.2.2.1, f, k.2.2.2.2.2.1, k.2.2.2.2.2.2.1, k.2.2.2.2.2.2.2.1, k.2.2.2.2.2.2.2.2.1, k.2.2.2.2.2.2.2.2.2)
abbrev k_sea (k : pm_K0) (f : Nat → Int32) : pm_K0 := (k.1, k.2.1, k.2.2.1, k.2.2.2.1, k.2.2.2.2.1, f, k.2.2.2.2.2.2.1, k.2.2.2.2.2.2.2.1, k.2.2.2.2.2.2.2.2.1, k.2.2.2.2.2.2.2.2.2)
abbrev k_set (k : pm_K0) (f : Nat → Int32) : pm_K0 := (k.1, k.2.1, k.2.2.1, k.2.2.2.1, k.2.2.2.2.1, k.2.2.2.2.2.1, f, k.2.2.2.2.2.2.2.1, k.2.2.2.2.2.2.2.2.1, k.2.2.2.2.2.2.2.2.2)
abbrev k_sen (k : pm_K0) (f : Nat → Int32) : pm_K0 := (k.1, k.2.1, k.2.2.1, k.2.2.2.1, k.2.2.2.2.1, k.2.2.2.2.2.1, k.2.2.2.2.2.2.1, f, k.2.2.2.2.2.2.2.2.1, k.2.2.2.2.2.2.2.2.2)
abbrev k_scn (k : pm_K0) (f : Int32) : pm_K0 := (k.1, k.2.1, k.2.2.1, k.2.2.2.1, k.2.2.2.2.1, k.2.2.2.2.2.1, k.2.2.2.2.2.2.1, k.2.2.2.2.2.2.2.1, f, k.2.2.2.2.2.2.2.2.2)
abbrev k_ses (k : pm_K0) (f : Int32) : pm_K0 := (k.1, k.2.1, k.2.2.1, k.2.2.2.1, k.2.2.2.2.1, k.2.2.2.2.2.1, k.2.2.2.2.2.2.1, k.2.2.2.2.2.2.2.1, k.2.2.2.2.2.2.2.2.1, f)
def pm_w0 (q : Nat → Nat) (a : Nat → ClassId) (u : pm_S0) : va_W := [(q 0, .inr (0, [.ref (q 1), .ref (q 2), .ref (q 3), .ref (q 4), .ref (q 5), .ref (q 6), .ref (q 7), .ref (q 8), .int (k_cn u.1), .int (k_es u.1), .int u.2.1, .int u.2.2])), (q 1, .inl (a 1, 40, .inl (k_pa u.1))), (q 2, .inl (a 2, 40, .inr (.inl (k_la u.1)))), (q 3, .inl (a 3, 40, .inl (k_fo u.1))), (q 4, .inl (a 4, 32, .inl (k_he u.1))), (q 5, .inl (a 5, 640, .inl (k_ev u.1))), (q 6, .inl (a 6, 640, .inl (k_ea u.1))), (q 7, .inl (a 7, 640, .inl (k_et u.1))), (q 8, .inl (a 8, 640, .inl (k_en u.1)))]
def pm_t0 (a : Nat → ClassId) : pm_Ty := [(a 1, .int), (a 2, .long), (a 3, .int), (a 4, .int), (a 5, .int), (a 6, .int), (a 7, .boolean), (a 8, .int)]
/-- PersistentMapModel's state: parents, there, worth, count -/
abbrev pm_S1 : Type := (Nat → Int32) × (Nat → Int32) × (Nat → Int32) × Int32
abbrev r_pa (k : pm_S1) : Nat → Int32 := k.1
abbrev r_th (k : pm_S1) : Nat → Int32 := k.2.1
abbrev r_wo (k : pm_S1) : Nat → Int32 := k.2.2.1
abbrev r_cn (k : pm_S1) : Int32 := k.2.2.2
abbrev r_spa (k : pm_S1) (f : Nat → Int32) : pm_S1 := (f, k.2.1, k.2.2.1, k.2.2.2)
abbrev r_sth (k : pm_S1) (f : Nat → Int32) : pm_S1 := (k.1, f, k.2.2.1, k.2.2.2)
abbrev r_swo (k : pm_S1) (f : Nat → Int32) : pm_S1 := (k.1, k.2.1, f, k.2.2.2)
abbrev r_scn (k : pm_S1) (f : Int32) : pm_S1 := (k.1, k.2.1, k.2.2.1, f)
def pm_w1 (q : Nat → Nat) (a : Nat → ClassId) (u : pm_S1) : va_W := [(q 0, .inr (1, [.int (r_cn u), .ref (q 1), .ref (q 2), .ref (q 3)])), (q 1, .inl (a 1, 40, .inl (r_pa u))), (q 2, .inl (a 2, 1280, .inl (r_th u))), (q 3, .inl (a 3, 1280, .inl (r_wo u)))]
def pm_t1 (a : Nat → ClassId) : pm_Ty := [(a 1, .int), (a 2, .boolean), (a 3, .int)]
section PMR
variable {p : Program} {l : Launch} {e : Env} {R : Room} {s : State} {m : MethodId} {args : Array Value} {below : List Frame} {meth : Method} {c : Code} {H : Heap} {locs : List Loc} {cells slots : Nat} {Q : State → Prop}
variable {cc : ByteArray} {pc nL : Nat} {ls : Array Slot} {rest : List Value} {D : va_G} {A : Nat → Prop} {q : Nat → Nat} {a : Nat → ClassId}
theorem x0_gpa {u : pm_S0} (F : CallFix p m c cc nL s args lw_all RX0) (hX : pm_X D A s (pm_t0 a) (pm_w0 q a) u H locs) (hdg : decode cc pc = .ok (.getfield 7, 3))
    (kk : W p l e R s m args below meth c H locs cells slots Q (F0 m (pc + 3) ls (.ref (q 1) :: rest))) : W p l e R s m args below meth c H locs cells slots Q (F0 m pc ls (.ref (q 0) :: rest)) := by
  obtain ⟨hK, hP, hD, hS⟩ := hX
  exact va_get (D := D) (ci := 0) (v := .ref (q 1)) (C := RX0) (T := TX0) (N := 12) F.1 F.2.1 F.2.2.2.2 in_X0 F.2.2.2.1 hK hP 0 rfl rfl 0 (by decide) (F.2.2.2.2 _ q29) (fun _ h9 => h9) rfl hdg kk
theorem x0_gla {u : pm_S0} (F : CallFix p m c cc nL s args lw_all RX0) (hX : pm_X D A s (pm_t0 a) (pm_w0 q a) u H locs) (hdg : decode cc pc = .ok (.getfield 13, 3))
    (kk : W p l e R s m args below meth c H locs cells slots Q (F0 m (pc + 3) ls (.ref (q 2) :: rest))) : W p l e R s m args below meth c H locs cells slots Q (F0 m pc ls (.ref (q 0) :: rest)) := by
  obtain ⟨hK, hP, hD, hS⟩ := hX
  exact va_get (D := D) (ci := 0) (v := .ref (q 2)) (C := RX0) (T := TX0) (N := 12) F.1 F.2.1 F.2.2.2.2 in_X0 F.2.2.2.1 hK hP 0 rfl rfl 1 (by decide) (F.2.2.2.2 _ q30) (fun _ h9 => h9) rfl hdg kk
theorem x0_gfo {u : pm_S0} (F : CallFix p m c cc nL s args lw_all RX0) (hX : pm_X D A s (pm_t0 a) (pm_w0 q a) u H locs) (hdg : decode cc pc = .ok (.getfield 17, 3))
    (kk : W p l e R s m args below meth c H locs cells slots Q (F0 m (pc + 3) ls (.ref (q 3) :: rest))) : W p l e R s m args below meth c H locs cells slots Q (F0 m pc ls (.ref (q 0) :: rest)) := by
  obtain ⟨hK, hP, hD, hS⟩ := hX
  exact va_get (D := D) (ci := 0) (v := .ref (q 3)) (C := RX0) (T := TX0) (N := 12) F.1 F.2.1 F.2.2.2.2 in_X0 F.2.2.2.1 hK hP 0 rfl rfl 2 (by decide) (F.2.2.2.2 _ q31) (fun _ h9 => h9) rfl hdg kk
theorem x0_ghe {u : pm_S0} (F : CallFix p m c cc nL s args lw_all RX0) (hX : pm_X D A s (pm_t0 a) (pm_w0 q a) u H locs) (hdg : decode cc pc = .ok (.getfield 20, 3))
    (kk : W p l e R s m args below meth c H locs cells slots Q (F0 m (pc + 3) ls (.ref (q 4) :: rest))) : W p l e R s m args below meth c H locs cells slots Q (F0 m pc ls (.ref (q 0) :: rest)) := by
  obtain ⟨hK, hP, hD, hS⟩ := hX
  exact va_get (D := D) (ci := 0) (v := .ref (q 4)) (C := RX0) (T := TX0) (N := 12) F.1 F.2.1 F.2.2.2.2 in_X0 F.2.2.2.1 hK hP 0 rfl rfl 3 (by decide) (F.2.2.2.2 _ q32) (fun _ h9 => h9) rfl hdg kk
theorem x0_gev {u : pm_S0} (F : CallFix p m c cc nL s args lw_all RX0) (hX : pm_X D A s (pm_t0 a) (pm_w0 q a) u H locs) (hdg : decode cc pc = .ok (.getfield 23, 3))
    (kk : W p l e R s m args below meth c H locs cells slots Q (F0 m (pc + 3) ls (.ref (q 5) :: rest))) : W p l e R s m args below meth c H locs cells slots Q (F0 m pc ls (.ref (q 0) :: rest)) := by
  obtain ⟨hK, hP, hD, hS⟩ := hX
  exact va_get (D := D) (ci := 0) (v := .ref (q 5)) (C := RX0) (T := TX0) (N := 12) F.1 F.2.1 F.2.2.2.2 in_X0 F.2.2.2.1 hK hP 0 rfl rfl 4 (by decide) (F.2.2.2.2 _ q33) (fun _ h9 => h9) rfl hdg kk
theorem x0_gea {u : pm_S0} (F : CallFix p m c cc nL s args lw_all RX0) (hX : pm_X D A s (pm_t0 a) (pm_w0 q a) u H locs) (hdg : decode cc pc = .ok (.getfield 26, 3))
    (kk : W p l e R s m args below meth c H locs cells slots Q (F0 m (pc + 3) ls (.ref (q 6) :: rest))) : W p l e R s m args below meth c H locs cells slots Q (F0 m pc ls (.ref (q 0) :: rest)) := by
  obtain ⟨hK, hP, hD, hS⟩ := hX
  exact va_get (D := D) (ci := 0) (v := .ref (q 6)) (C := RX0) (T := TX0) (N := 12) F.1 F.2.1 F.2.2.2.2 in_X0 F.2.2.2.1 hK hP 0 rfl rfl 5 (by decide) (F.2.2.2.2 _ q34) (fun _ h9 => h9) rfl hdg kk
theorem x0_get {u : pm_S0} (F : CallFix p m c cc nL s args lw_all RX0) (hX : pm_X D A s (pm_t0 a) (pm_w0 q a) u H locs) (hdg : decode cc pc = .ok (.getfield 29, 3))
    (kk : W p l e R s m args below meth c H locs cells slots Q (F0 m (pc + 3) ls (.ref (q 7) :: rest))) : W p l e R s m args below meth c H locs cells slots Q (F0 m pc ls (.ref (q 0) :: rest)) := by
  obtain ⟨hK, hP, hD, hS⟩ := hX
  exact va_get (D := D) (ci := 0) (v := .ref (q 7)) (C := RX0) (T := TX0) (N := 12) F.1 F.2.1 F.2.2.2.2 in_X0 F.2.2.2.1 hK hP 0 rfl rfl 6 (by decide) (F.2.2.2.2 _ q35) (fun _ h9 => h9) rfl hdg kk
theorem x0_gen {u : pm_S0} (F : CallFix p m c cc nL s args lw_all RX0) (hX : pm_X D A s (pm_t0 a) (pm_w0 q a) u H locs) (hdg : decode cc pc = .ok (.getfield 33, 3))
    (kk : W p l e R s m args below meth c H locs cells slots Q (F0 m (pc + 3) ls (.ref (q 8) :: rest))) : W p l e R s m args below meth c H locs cells slots Q (F0 m pc ls (.ref (q 0) :: rest)) := by
  obtain ⟨hK, hP, hD, hS⟩ := hX
  exact va_get (D := D) (ci := 0) (v := .ref (q 8)) (C := RX0) (T := TX0) (N := 12) F.1 F.2.1 F.2.2.2.2 in_X0 F.2.2.2.1 hK hP 0 rfl rfl 7 (by decide) (F.2.2.2.2 _ q36) (fun _ h9 => h9) rfl hdg kk
theorem x0_gcn {u : pm_S0} (F : CallFix p m c cc nL s args lw_all RX0) (hX : pm_X D A s (pm_t0 a) (pm_w0 q a) u H locs) (hdg : decode cc pc = .ok (.getfield 38, 3))
    (kk : W p l e R s m args below meth c H locs cells slots Q (F0 m (pc + 3) ls (.int (k_cn u.1) :: rest))) : W p l e R s m args below meth c H locs cells slots Q (F0 m pc ls (.ref (q 0) :: rest)) := by
  obtain ⟨hK, hP, hD, hS⟩ := hX
  exact va_get (D := D) (ci := 0) (v := .int (k_cn u.1)) (C := RX0) (T := TX0) (N := 12) F.1 F.2.1 F.2.2.2.2 in_X0 F.2.2.2.1 hK hP 0 rfl rfl 8 (by decide) (F.2.2.2.2 _ q37) (fun _ h9 => h9) rfl hdg kk
theorem x0_ges {u : pm_S0} (F : CallFix p m c cc nL s args lw_all RX0) (hX : pm_X D A s (pm_t0 a) (pm_w0 q a) u H locs) (hdg : decode cc pc = .ok (.getfield 96, 3))
    (kk : W p l e R s m args below meth c H locs cells slots Q (F0 m (pc + 3) ls (.int (k_es u.1) :: rest))) : W p l e R s m args below meth c H locs cells slots Q (F0 m pc ls (.ref (q 0) :: rest)) := by
  obtain ⟨hK, hP, hD, hS⟩ := hX
  exact va_get (D := D) (ci := 0) (v := .int (k_es u.1)) (C := RX0) (T := TX0) (N := 12) F.1 F.2.1 F.2.2.2.2 in_X0 F.2.2.2.1 hK hP 0 rfl rfl 9 (by decide) (F.2.2.2.2 _ q38) (fun _ h9 => h9) rfl hdg kk
theorem x0_gtn {u : pm_S0} (F : CallFix p m c cc nL s args lw_all RX0) (hX : pm_X D A s (pm_t0 a) (pm_w0 q a) u H locs) (hdg : decode cc pc = .ok (.getfield 64, 3))
    (kk : W p l e R s m args below meth c H locs cells slots Q (F0 m (pc + 3) ls (.int u.2.1 :: rest))) : W p l e R s m args below meth c H locs cells slots Q (F0 m pc ls (.ref (q 0) :: rest)) := by
  obtain ⟨hK, hP, hD, hS⟩ := hX
  exact va_get (D := D) (ci := 0) (v := .int u.2.1) (C := RX0) (T := TX0) (N := 12) F.1 F.2.1 F.2.2.2.2 in_X0 F.2.2.2.1 hK hP 0 rfl rfl 10 (by decide) (F.2.2.2.2 _ q39) (fun _ h9 => h9) rfl hdg kk
theorem x0_gvn {u : pm_S0} (F : CallFix p m c cc nL s args lw_all RX0) (hX : pm_X D A s (pm_t0 a) (pm_w0 q a) u H locs) (hdg : decode cc pc = .ok (.getfield 68, 3))
    (kk : W p l e R s m args below meth c H locs cells slots Q (F0 m (pc + 3) ls (.int u.2.2 :: rest))) : W p l e R s m args below meth c H locs cells slots Q (F0 m pc ls (.ref (q 0) :: rest)) := by
  obtain ⟨hK, hP, hD, hS⟩ := hX
  exact va_get (D := D) (ci := 0) (v := .int u.2.2) (C := RX0) (T := TX0) (N := 12) F.1 F.2.1 F.2.2.2.2 in_X0 F.2.2.2.1 hK hP 0 rfl rfl 11 (by decide) (F.2.2.2.2 _ q40) (fun _ h9 => h9) rfl hdg kk
theorem x0_pcn {u : pm_S0} {v : Int32} (F : CallFix p m c cc nL s args lw_all RX0) (hX : pm_X D A s (pm_t0 a) (pm_w0 q a) u H locs) (hdg : decode cc pc = .ok (.putfield 38, 3))
    (kk : ∀ (H1 : Heap) (locs1 : List Loc), pm_X D A s (pm_t0 a) (pm_w0 q a) ((k_scn u.1 v, u.2)) H1 locs1 → W p l e R s m args below meth c H1 locs1 cells slots Q (F0 m (pc + 3) ls rest)) : W p l e R s m args below meth c H locs cells slots Q (F0 m pc ls (.int v :: .ref (q 0) :: rest)) := by
  obtain ⟨hK, hP, hD, hS⟩ := hX
  exact va_put (D := D) (ci := 0) (v := .int v) (ty := .int) (C := RX0) (T := TX0) (N := 12) F.1 F.2.1 F.2.2.2.2 in_X0 tyX0 tyX0_ok nmX0 F.2.2.2.1 hK hP hD hS 0 rfl rfl 8 (by decide) (F.2.2.2.2 _ q37) (fun _ h9 => h9) rfl (by decide +kernel) rfl rfl (Nat.le_of_ble_eq_true rfl) hdg (fun H1 locs1 hP hD hS => kk H1 locs1 ⟨hK, hP, hD, hS⟩)
theorem x0_pes {u : pm_S0} {v : Int32} (F : CallFix p m c cc nL s args lw_all RX0) (hX : pm_X D A s (pm_t0 a) (pm_w0 q a) u H locs) (hdg : decode cc pc = .ok (.putfield 96, 3))
    (kk : ∀ (H1 : Heap) (locs1 : List Loc), pm_X D A s (pm_t0 a) (pm_w0 q a) ((k_ses u.1 v, u.2)) H1 locs1 → W p l e R s m args below meth c H1 locs1 cells slots Q (F0 m (pc + 3) ls rest)) : W p l e R s m args below meth c H locs cells slots Q (F0 m pc ls (.int v :: .ref (q 0) :: rest)) := by
  obtain ⟨hK, hP, hD, hS⟩ := hX
  exact va_put (D := D) (ci := 0) (v := .int v) (ty := .int) (C := RX0) (T := TX0) (N := 12) F.1 F.2.1 F.2.2.2.2 in_X0 tyX0 tyX0_ok nmX0 F.2.2.2.1 hK hP hD hS 0 rfl rfl 9 (by decide) (F.2.2.2.2 _ q38) (fun _ h9 => h9) rfl (by decide +kernel) rfl rfl (Nat.le_of_ble_eq_true rfl) hdg (fun H1 locs1 hP hD hS => kk H1 locs1 ⟨hK, hP, hD, hS⟩)
theorem x0_ptn {u : pm_S0} {v : Int32} (F : CallFix p m c cc nL s args lw_all RX0) (hX : pm_X D A s (pm_t0 a) (pm_w0 q a) u H locs) (hv : v = 0 ∨ v = 1) (hdg : decode cc pc = .ok (.putfield 64, 3))
    (kk : ∀ (H1 : Heap) (locs1 : List Loc), pm_X D A s (pm_t0 a) (pm_w0 q a) ((u.1, v, u.2.2)) H1 locs1 → W p l e R s m args below meth c H1 locs1 cells slots Q (F0 m (pc + 3) ls rest)) : W p l e R s m args below meth c H locs cells slots Q (F0 m pc ls (.int v :: .ref (q 0) :: rest)) := by
  obtain ⟨hK, hP, hD, hS⟩ := hX
  exact va_put (D := D) (ci := 0) (v := .int v) (ty := .boolean) (C := RX0) (T := TX0) (N := 12) F.1 F.2.1 F.2.2.2.2 in_X0 tyX0 tyX0_ok nmX0 F.2.2.2.1 hK hP hD hS 0 rfl rfl 10 (by decide) (F.2.2.2.2 _ q39) (fun _ h9 => h9) rfl (by decide +kernel) (pm_nar01 hv).1 (pm_nar01 hv).2.1 (Nat.le_of_ble_eq_true rfl) hdg (fun H1 locs1 hP hD hS => kk H1 locs1 ⟨hK, hP, hD, hS⟩)
theorem x0_pvn {u : pm_S0} {v : Int32} (F : CallFix p m c cc nL s args lw_all RX0) (hX : pm_X D A s (pm_t0 a) (pm_w0 q a) u H locs) (hdg : decode cc pc = .ok (.putfield 68, 3))
    (kk : ∀ (H1 : Heap) (locs1 : List Loc), pm_X D A s (pm_t0 a) (pm_w0 q a) ((u.1, u.2.1, v)) H1 locs1 → W p l e R s m args below meth c H1 locs1 cells slots Q (F0 m (pc + 3) ls rest)) : W p l e R s m args below meth c H locs cells slots Q (F0 m pc ls (.int v :: .ref (q 0) :: rest)) := by
  obtain ⟨hK, hP, hD, hS⟩ := hX
  exact va_put (D := D) (ci := 0) (v := .int v) (ty := .int) (C := RX0) (T := TX0) (N := 12) F.1 F.2.1 F.2.2.2.2 in_X0 tyX0 tyX0_ok nmX0 F.2.2.2.1 hK hP hD hS 0 rfl rfl 11 (by decide) (F.2.2.2.2 _ q40) (fun _ h9 => h9) rfl (by decide +kernel) rfl rfl (Nat.le_of_ble_eq_true rfl) hdg (fun H1 locs1 hP hD hS => kk H1 locs1 ⟨hK, hP, hD, hS⟩)
theorem x0_lpa {u : pm_S0} {j : Nat} (F : CallFix p m c cc nL s args lw_all RX0) (hX : pm_X D A s (pm_t0 a) (pm_w0 q a) u H locs) (hj : j < 40) (hdg : decode cc pc = .ok (.iaload, 1))
    (kk : W p l e R s m args below meth c H locs cells slots Q (F0 m (pc + 1) ls (.int (k_pa u.1 j) :: rest))) : W p l e R s m args below meth c H locs cells slots Q (F0 m pc ls (.int (nI j) :: .ref (q 1) :: rest)) := by
  obtain ⟨hK, hP, hD, hS⟩ := hX
  refine va_iald F.1 F.2.1 hK hP 1 0 rfl rfl (vp_in_nI hj (by decide)) hdg ?_
  rw [nI_clamp (by omega)]
  exact kk
theorem x0_spa {u : pm_S0} {j : Nat} {v : Int32} (F : CallFix p m c cc nL s args lw_all RX0) (hX : pm_X D A s (pm_t0 a) (pm_w0 q a) u H locs) (hj : j < 40) (hdg : decode cc pc = .ok (.iastore, 1))
    (kk : ∀ (H1 : Heap) (locs1 : List Loc), pm_X D A s (pm_t0 a) (pm_w0 q a) ((k_spa u.1 (upd (k_pa u.1) j v), u.2)) H1 locs1 → W p l e R s m args below meth c H1 locs1 cells slots Q (F0 m (pc + 1) ls rest)) : W p l e R s m args below meth c H locs cells slots Q (F0 m pc ls (.int v :: .int (nI j) :: .ref (q 1) :: rest)) := by
  obtain ⟨hK, hP, hD, hS⟩ := hX
  refine va_iast F.1 F.2.1 hK hP hD hS 1 0 rfl rfl (vp_in_nI hj (by decide)) hdg (fun H1 locs1 hP hD hS => ?_)
  rw [nI_clamp (by omega)] at hP hD
  exact kk H1 locs1 ⟨hK, hP, hD, hS⟩
theorem x0_lla {u : pm_S0} {j : Nat} (F : CallFix p m c cc nL s args lw_all RX0) (hX : pm_X D A s (pm_t0 a) (pm_w0 q a) u H locs) (hj : j < 40) (hdg : decode cc pc = .ok (.laload, 1))
    (kk : W p l e R s m args below meth c H locs cells slots Q (F0 m (pc + 1) ls (.long (k_la u.1 j) :: rest))) : W p l e R s m args below meth c H locs cells slots Q (F0 m pc ls (.int (nI j) :: .ref (q 2) :: rest)) := by
  obtain ⟨hK, hP, hD, hS⟩ := hX
  refine va_lald F.1 F.2.1 hK hP 2 1 rfl rfl (vp_in_nI hj (by decide)) hdg ?_
  rw [nI_clamp (by omega)]
  exact kk
theorem x0_sla {u : pm_S0} {j : Nat} {v : Int64} (F : CallFix p m c cc nL s args lw_all RX0) (hX : pm_X D A s (pm_t0 a) (pm_w0 q a) u H locs) (hj : j < 40) (hdg : decode cc pc = .ok (.lastore, 1))
    (kk : ∀ (H1 : Heap) (locs1 : List Loc), pm_X D A s (pm_t0 a) (pm_w0 q a) ((k_sla u.1 (vp_updL (k_la u.1) j v), u.2)) H1 locs1 → W p l e R s m args below meth c H1 locs1 cells slots Q (F0 m (pc + 1) ls rest)) : W p l e R s m args below meth c H locs cells slots Q (F0 m pc ls (.long v :: .int (nI j) :: .ref (q 2) :: rest)) := by
  obtain ⟨hK, hP, hD, hS⟩ := hX
  refine va_last F.1 F.2.1 hK hP hD hS 2 1 rfl rfl (vp_in_nI hj (by decide)) hdg (fun H1 locs1 hP hD hS => ?_)
  rw [nI_clamp (by omega)] at hP hD
  exact kk H1 locs1 ⟨hK, hP, hD, hS⟩
theorem x0_lfo {u : pm_S0} {j : Nat} (F : CallFix p m c cc nL s args lw_all RX0) (hX : pm_X D A s (pm_t0 a) (pm_w0 q a) u H locs) (hj : j < 40) (hdg : decode cc pc = .ok (.iaload, 1))
    (kk : W p l e R s m args below meth c H locs cells slots Q (F0 m (pc + 1) ls (.int (k_fo u.1 j) :: rest))) : W p l e R s m args below meth c H locs cells slots Q (F0 m pc ls (.int (nI j) :: .ref (q 3) :: rest)) := by
  obtain ⟨hK, hP, hD, hS⟩ := hX
  refine va_iald F.1 F.2.1 hK hP 3 2 rfl rfl (vp_in_nI hj (by decide)) hdg ?_
  rw [nI_clamp (by omega)]
  exact kk
theorem x0_sfo {u : pm_S0} {j : Nat} {v : Int32} (F : CallFix p m c cc nL s args lw_all RX0) (hX : pm_X D A s (pm_t0 a) (pm_w0 q a) u H locs) (hj : j < 40) (hdg : decode cc pc = .ok (.iastore, 1))
    (kk : ∀ (H1 : Heap) (locs1 : List Loc), pm_X D A s (pm_t0 a) (pm_w0 q a) ((k_sfo u.1 (upd (k_fo u.1) j v), u.2)) H1 locs1 → W p l e R s m args below meth c H1 locs1 cells slots Q (F0 m (pc + 1) ls rest)) : W p l e R s m args below meth c H locs cells slots Q (F0 m pc ls (.int v :: .int (nI j) :: .ref (q 3) :: rest)) := by
  obtain ⟨hK, hP, hD, hS⟩ := hX
  refine va_iast F.1 F.2.1 hK hP hD hS 3 2 rfl rfl (vp_in_nI hj (by decide)) hdg (fun H1 locs1 hP hD hS => ?_)
  rw [nI_clamp (by omega)] at hP hD
  exact kk H1 locs1 ⟨hK, hP, hD, hS⟩
theorem x0_lhe {u : pm_S0} {j : Nat} (F : CallFix p m c cc nL s args lw_all RX0) (hX : pm_X D A s (pm_t0 a) (pm_w0 q a) u H locs) (hj : j < 32) (hdg : decode cc pc = .ok (.iaload, 1))
    (kk : W p l e R s m args below meth c H locs cells slots Q (F0 m (pc + 1) ls (.int (k_he u.1 j) :: rest))) : W p l e R s m args below meth c H locs cells slots Q (F0 m pc ls (.int (nI j) :: .ref (q 4) :: rest)) := by
  obtain ⟨hK, hP, hD, hS⟩ := hX
  refine va_iald F.1 F.2.1 hK hP 4 3 rfl rfl (vp_in_nI hj (by decide)) hdg ?_
  rw [nI_clamp (by omega)]
  exact kk
theorem x0_she {u : pm_S0} {j : Nat} {v : Int32} (F : CallFix p m c cc nL s args lw_all RX0) (hX : pm_X D A s (pm_t0 a) (pm_w0 q a) u H locs) (hj : j < 32) (hdg : decode cc pc = .ok (.iastore, 1))
    (kk : ∀ (H1 : Heap) (locs1 : List Loc), pm_X D A s (pm_t0 a) (pm_w0 q a) ((k_she u.1 (upd (k_he u.1) j v), u.2)) H1 locs1 → W p l e R s m args below meth c H1 locs1 cells slots Q (F0 m (pc + 1) ls rest)) : W p l e R s m args below meth c H locs cells slots Q (F0 m pc ls (.int v :: .int (nI j) :: .ref (q 4) :: rest)) := by
  obtain ⟨hK, hP, hD, hS⟩ := hX
  refine va_iast F.1 F.2.1 hK hP hD hS 4 3 rfl rfl (vp_in_nI hj (by decide)) hdg (fun H1 locs1 hP hD hS => ?_)
  rw [nI_clamp (by omega)] at hP hD
  exact kk H1 locs1 ⟨hK, hP, hD, hS⟩
theorem x0_lev {u : pm_S0} {j : Nat} (F : CallFix p m c cc nL s args lw_all RX0) (hX : pm_X D A s (pm_t0 a) (pm_w0 q a) u H locs) (hj : j < 640) (hdg : decode cc pc = .ok (.iaload, 1))
    (kk : W p l e R s m args below meth c H locs cells slots Q (F0 m (pc + 1) ls (.int (k_ev u.1 j) :: rest))) : W p l e R s m args below meth c H locs cells slots Q (F0 m pc ls (.int (nI j) :: .ref (q 5) :: rest)) := by
  obtain ⟨hK, hP, hD, hS⟩ := hX
  refine va_iald F.1 F.2.1 hK hP 5 4 rfl rfl (vp_in_nI hj (by decide)) hdg ?_
  rw [nI_clamp (by omega)]
  exact kk
theorem x0_sev {u : pm_S0} {j : Nat} {v : Int32} (F : CallFix p m c cc nL s args lw_all RX0) (hX : pm_X D A s (pm_t0 a) (pm_w0 q a) u H locs) (hj : j < 640) (hdg : decode cc pc = .ok (.iastore, 1))
    (kk : ∀ (H1 : Heap) (locs1 : List Loc), pm_X D A s (pm_t0 a) (pm_w0 q a) ((k_sev u.1 (upd (k_ev u.1) j v), u.2)) H1 locs1 → W p l e R s m args below meth c H1 locs1 cells slots Q (F0 m (pc + 1) ls rest)) : W p l e R s m args below meth c H locs cells slots Q (F0 m pc ls (.int v :: .int (nI j) :: .ref (q 5) :: rest)) := by
  obtain ⟨hK, hP, hD, hS⟩ := hX
  refine va_iast F.1 F.2.1 hK hP hD hS 5 4 rfl rfl (vp_in_nI hj (by decide)) hdg (fun H1 locs1 hP hD hS => ?_)
  rw [nI_clamp (by omega)] at hP hD
  exact kk H1 locs1 ⟨hK, hP, hD, hS⟩
theorem x0_lea {u : pm_S0} {j : Nat} (F : CallFix p m c cc nL s args lw_all RX0) (hX : pm_X D A s (pm_t0 a) (pm_w0 q a) u H locs) (hj : j < 640) (hdg : decode cc pc = .ok (.iaload, 1))
    (kk : W p l e R s m args below meth c H locs cells slots Q (F0 m (pc + 1) ls (.int (k_ea u.1 j) :: rest))) : W p l e R s m args below meth c H locs cells slots Q (F0 m pc ls (.int (nI j) :: .ref (q 6) :: rest)) := by
  obtain ⟨hK, hP, hD, hS⟩ := hX
  refine va_iald F.1 F.2.1 hK hP 6 5 rfl rfl (vp_in_nI hj (by decide)) hdg ?_
  rw [nI_clamp (by omega)]
  exact kk
theorem x0_sea {u : pm_S0} {j : Nat} {v : Int32} (F : CallFix p m c cc nL s args lw_all RX0) (hX : pm_X D A s (pm_t0 a) (pm_w0 q a) u H locs) (hj : j < 640) (hdg : decode cc pc = .ok (.iastore, 1))
    (kk : ∀ (H1 : Heap) (locs1 : List Loc), pm_X D A s (pm_t0 a) (pm_w0 q a) ((k_sea u.1 (upd (k_ea u.1) j v), u.2)) H1 locs1 → W p l e R s m args below meth c H1 locs1 cells slots Q (F0 m (pc + 1) ls rest)) : W p l e R s m args below meth c H locs cells slots Q (F0 m pc ls (.int v :: .int (nI j) :: .ref (q 6) :: rest)) := by
  obtain ⟨hK, hP, hD, hS⟩ := hX
  refine va_iast F.1 F.2.1 hK hP hD hS 6 5 rfl rfl (vp_in_nI hj (by decide)) hdg (fun H1 locs1 hP hD hS => ?_)
  rw [nI_clamp (by omega)] at hP hD
  exact kk H1 locs1 ⟨hK, hP, hD, hS⟩
theorem x0_let {u : pm_S0} {j : Nat} (F : CallFix p m c cc nL s args lw_all RX0) (hX : pm_X D A s (pm_t0 a) (pm_w0 q a) u H locs) (hj : j < 640) (hdg : decode cc pc = .ok (.baload, 1))
    (kk : W p l e R s m args below meth c H locs cells slots Q (F0 m (pc + 1) ls (.int (k_et u.1 j) :: rest))) : W p l e R s m args below meth c H locs cells slots Q (F0 m pc ls (.int (nI j) :: .ref (q 7) :: rest)) := by
  obtain ⟨hK, hP, hD, hS⟩ := hX
  refine va_zald F.1 F.2.1 hK hP 7 6 rfl rfl (vp_in_nI hj (by decide)) hdg ?_
  rw [nI_clamp (by omega)]
  exact kk
theorem x0_set {u : pm_S0} {j : Nat} {v : Int32} (F : CallFix p m c cc nL s args lw_all RX0) (hX : pm_X D A s (pm_t0 a) (pm_w0 q a) u H locs) (hj : j < 640) (hv : v = 0 ∨ v = 1) (hdg : decode cc pc = .ok (.bastore, 1))
    (kk : ∀ (H1 : Heap) (locs1 : List Loc), pm_X D A s (pm_t0 a) (pm_w0 q a) ((k_set u.1 (upd (k_et u.1) j v), u.2)) H1 locs1 → W p l e R s m args below meth c H1 locs1 cells slots Q (F0 m (pc + 1) ls rest)) : W p l e R s m args below meth c H locs cells slots Q (F0 m pc ls (.int v :: .int (nI j) :: .ref (q 7) :: rest)) := by
  obtain ⟨hK, hP, hD, hS⟩ := hX
  refine va_zast F.1 F.2.1 hK hP hD hS 7 6 rfl rfl (vp_in_nI hj (by decide)) hdg (fun H1 locs1 hP hD hS => ?_)
  rw [nI_clamp (by omega), (pm_nar01 hv).2.2] at hP hD
  exact kk H1 locs1 ⟨hK, hP, hD, hS⟩
theorem x0_len {u : pm_S0} {j : Nat} (F : CallFix p m c cc nL s args lw_all RX0) (hX : pm_X D A s (pm_t0 a) (pm_w0 q a) u H locs) (hj : j < 640) (hdg : decode cc pc = .ok (.iaload, 1))
    (kk : W p l e R s m args below meth c H locs cells slots Q (F0 m (pc + 1) ls (.int (k_en u.1 j) :: rest))) : W p l e R s m args below meth c H locs cells slots Q (F0 m pc ls (.int (nI j) :: .ref (q 8) :: rest)) := by
  obtain ⟨hK, hP, hD, hS⟩ := hX
  refine va_iald F.1 F.2.1 hK hP 8 7 rfl rfl (vp_in_nI hj (by decide)) hdg ?_
  rw [nI_clamp (by omega)]
  exact kk
theorem x0_sen {u : pm_S0} {j : Nat} {v : Int32} (F : CallFix p m c cc nL s args lw_all RX0) (hX : pm_X D A s (pm_t0 a) (pm_w0 q a) u H locs) (hj : j < 640) (hdg : decode cc pc = .ok (.iastore, 1))
    (kk : ∀ (H1 : Heap) (locs1 : List Loc), pm_X D A s (pm_t0 a) (pm_w0 q a) ((k_sen u.1 (upd (k_en u.1) j v), u.2)) H1 locs1 → W p l e R s m args below meth c H1 locs1 cells slots Q (F0 m (pc + 1) ls rest)) : W p l e R s m args below meth c H locs cells slots Q (F0 m pc ls (.int v :: .int (nI j) :: .ref (q 8) :: rest)) := by
  obtain ⟨hK, hP, hD, hS⟩ := hX
  refine va_iast F.1 F.2.1 hK hP hD hS 8 7 rfl rfl (vp_in_nI hj (by decide)) hdg (fun H1 locs1 hP hD hS => ?_)
  rw [nI_clamp (by omega)] at hP hD
  exact kk H1 locs1 ⟨hK, hP, hD, hS⟩
theorem x1_gcn {u : pm_S1} (F : CallFix p m c cc nL s args lw_all RX1) (hX : pm_X D A s (pm_t1 a) (pm_w1 q a) u H locs) (hdg : decode cc pc = .ok (.getfield 7, 3))
    (kk : W p l e R s m args below meth c H locs cells slots Q (F0 m (pc + 3) ls (.int (r_cn u) :: rest))) : W p l e R s m args below meth c H locs cells slots Q (F0 m pc ls (.ref (q 0) :: rest)) := by
  obtain ⟨hK, hP, hD, hS⟩ := hX
  exact va_get (D := D) (ci := 1) (v := .int (r_cn u)) (C := RX1) (T := TX1) (N := 4) F.1 F.2.1 F.2.2.2.2 in_X1 F.2.2.2.1 hK hP 0 rfl rfl 0 (by decide) (F.2.2.2.2 _ q200) (fun _ h9 => h9) rfl hdg kk
theorem x1_gpa {u : pm_S1} (F : CallFix p m c cc nL s args lw_all RX1) (hX : pm_X D A s (pm_t1 a) (pm_w1 q a) u H locs) (hdg : decode cc pc = .ok (.getfield 13, 3))
    (kk : W p l e R s m args below meth c H locs cells slots Q (F0 m (pc + 3) ls (.ref (q 1) :: rest))) : W p l e R s m args below meth c H locs cells slots Q (F0 m pc ls (.ref (q 0) :: rest)) := by
  obtain ⟨hK, hP, hD, hS⟩ := hX
  exact va_get (D := D) (ci := 1) (v := .ref (q 1)) (C := RX1) (T := TX1) (N := 4) F.1 F.2.1 F.2.2.2.2 in_X1 F.2.2.2.1 hK hP 0 rfl rfl 1 (by decide) (F.2.2.2.2 _ q201) (fun _ h9 => h9) rfl hdg kk
theorem x1_gth {u : pm_S1} (F : CallFix p m c cc nL s args lw_all RX1) (hX : pm_X D A s (pm_t1 a) (pm_w1 q a) u H locs) (hdg : decode cc pc = .ok (.getfield 17, 3))
    (kk : W p l e R s m args below meth c H locs cells slots Q (F0 m (pc + 3) ls (.ref (q 2) :: rest))) : W p l e R s m args below meth c H locs cells slots Q (F0 m pc ls (.ref (q 0) :: rest)) := by
  obtain ⟨hK, hP, hD, hS⟩ := hX
  exact va_get (D := D) (ci := 1) (v := .ref (q 2)) (C := RX1) (T := TX1) (N := 4) F.1 F.2.1 F.2.2.2.2 in_X1 F.2.2.2.1 hK hP 0 rfl rfl 2 (by decide) (F.2.2.2.2 _ q202) (fun _ h9 => h9) rfl hdg kk
theorem x1_gwo {u : pm_S1} (F : CallFix p m c cc nL s args lw_all RX1) (hX : pm_X D A s (pm_t1 a) (pm_w1 q a) u H locs) (hdg : decode cc pc = .ok (.getfield 21, 3))
    (kk : W p l e R s m args below meth c H locs cells slots Q (F0 m (pc + 3) ls (.ref (q 3) :: rest))) : W p l e R s m args below meth c H locs cells slots Q (F0 m pc ls (.ref (q 0) :: rest)) := by
  obtain ⟨hK, hP, hD, hS⟩ := hX
  exact va_get (D := D) (ci := 1) (v := .ref (q 3)) (C := RX1) (T := TX1) (N := 4) F.1 F.2.1 F.2.2.2.2 in_X1 F.2.2.2.1 hK hP 0 rfl rfl 3 (by decide) (F.2.2.2.2 _ q203) (fun _ h9 => h9) rfl hdg kk
theorem x1_pcn {u : pm_S1} {v : Int32} (F : CallFix p m c cc nL s args lw_all RX1) (hX : pm_X D A s (pm_t1 a) (pm_w1 q a) u H locs) (hdg : decode cc pc = .ok (.putfield 7, 3))
    (kk : ∀ (H1 : Heap) (locs1 : List Loc), pm_X D A s (pm_t1 a) (pm_w1 q a) (r_scn u v) H1 locs1 → W p l e R s m args below meth c H1 locs1 cells slots Q (F0 m (pc + 3) ls rest)) : W p l e R s m args below meth c H locs cells slots Q (F0 m pc ls (.int v :: .ref (q 0) :: rest)) := by
  obtain ⟨hK, hP, hD, hS⟩ := hX
  exact va_put (D := D) (ci := 1) (v := .int v) (ty := .int) (C := RX1) (T := TX1) (N := 4) F.1 F.2.1 F.2.2.2.2 in_X1 tyX1 tyX1_ok nmX1 F.2.2.2.1 hK hP hD hS 0 rfl rfl 0 (by decide) (F.2.2.2.2 _ q200) (fun _ h9 => h9) rfl (by decide +kernel) rfl rfl (Nat.le_of_ble_eq_true rfl) hdg (fun H1 locs1 hP hD hS => kk H1 locs1 ⟨hK, hP, hD, hS⟩)
theorem x1_lpa {u : pm_S1} {j : Nat} (F : CallFix p m c cc nL s args lw_all RX1) (hX : pm_X D A s (pm_t1 a) (pm_w1 q a) u H locs) (hj : j < 40) (hdg : decode cc pc = .ok (.iaload, 1))
    (kk : W p l e R s m args below meth c H locs cells slots Q (F0 m (pc + 1) ls (.int (r_pa u j) :: rest))) : W p l e R s m args below meth c H locs cells slots Q (F0 m pc ls (.int (nI j) :: .ref (q 1) :: rest)) := by
  obtain ⟨hK, hP, hD, hS⟩ := hX
  refine va_iald F.1 F.2.1 hK hP 1 0 rfl rfl (vp_in_nI hj (by decide)) hdg ?_
  rw [nI_clamp (by omega)]
  exact kk
theorem x1_spa {u : pm_S1} {j : Nat} {v : Int32} (F : CallFix p m c cc nL s args lw_all RX1) (hX : pm_X D A s (pm_t1 a) (pm_w1 q a) u H locs) (hj : j < 40) (hdg : decode cc pc = .ok (.iastore, 1))
    (kk : ∀ (H1 : Heap) (locs1 : List Loc), pm_X D A s (pm_t1 a) (pm_w1 q a) ((r_spa u (upd (r_pa u) j v))) H1 locs1 → W p l e R s m args below meth c H1 locs1 cells slots Q (F0 m (pc + 1) ls rest)) : W p l e R s m args below meth c H locs cells slots Q (F0 m pc ls (.int v :: .int (nI j) :: .ref (q 1) :: rest)) := by
  obtain ⟨hK, hP, hD, hS⟩ := hX
  refine va_iast F.1 F.2.1 hK hP hD hS 1 0 rfl rfl (vp_in_nI hj (by decide)) hdg (fun H1 locs1 hP hD hS => ?_)
  rw [nI_clamp (by omega)] at hP hD
  exact kk H1 locs1 ⟨hK, hP, hD, hS⟩
theorem x1_lth {u : pm_S1} {j : Nat} (F : CallFix p m c cc nL s args lw_all RX1) (hX : pm_X D A s (pm_t1 a) (pm_w1 q a) u H locs) (hj : j < 1280) (hdg : decode cc pc = .ok (.baload, 1))
    (kk : W p l e R s m args below meth c H locs cells slots Q (F0 m (pc + 1) ls (.int (r_th u j) :: rest))) : W p l e R s m args below meth c H locs cells slots Q (F0 m pc ls (.int (nI j) :: .ref (q 2) :: rest)) := by
  obtain ⟨hK, hP, hD, hS⟩ := hX
  refine va_zald F.1 F.2.1 hK hP 2 1 rfl rfl (vp_in_nI hj (by decide)) hdg ?_
  rw [nI_clamp (by omega)]
  exact kk
theorem x1_sth {u : pm_S1} {j : Nat} {v : Int32} (F : CallFix p m c cc nL s args lw_all RX1) (hX : pm_X D A s (pm_t1 a) (pm_w1 q a) u H locs) (hj : j < 1280) (hv : v = 0 ∨ v = 1) (hdg : decode cc pc = .ok (.bastore, 1))
    (kk : ∀ (H1 : Heap) (locs1 : List Loc), pm_X D A s (pm_t1 a) (pm_w1 q a) ((r_sth u (upd (r_th u) j v))) H1 locs1 → W p l e R s m args below meth c H1 locs1 cells slots Q (F0 m (pc + 1) ls rest)) : W p l e R s m args below meth c H locs cells slots Q (F0 m pc ls (.int v :: .int (nI j) :: .ref (q 2) :: rest)) := by
  obtain ⟨hK, hP, hD, hS⟩ := hX
  refine va_zast F.1 F.2.1 hK hP hD hS 2 1 rfl rfl (vp_in_nI hj (by decide)) hdg (fun H1 locs1 hP hD hS => ?_)
  rw [nI_clamp (by omega), (pm_nar01 hv).2.2] at hP hD
  exact kk H1 locs1 ⟨hK, hP, hD, hS⟩
theorem x1_lwo {u : pm_S1} {j : Nat} (F : CallFix p m c cc nL s args lw_all RX1) (hX : pm_X D A s (pm_t1 a) (pm_w1 q a) u H locs) (hj : j < 1280) (hdg : decode cc pc = .ok (.iaload, 1))
    (kk : W p l e R s m args below meth c H locs cells slots Q (F0 m (pc + 1) ls (.int (r_wo u j) :: rest))) : W p l e R s m args below meth c H locs cells slots Q (F0 m pc ls (.int (nI j) :: .ref (q 3) :: rest)) := by
  obtain ⟨hK, hP, hD, hS⟩ := hX
  refine va_iald F.1 F.2.1 hK hP 3 2 rfl rfl (vp_in_nI hj (by decide)) hdg ?_
  rw [nI_clamp (by omega)]
  exact kk
theorem x1_swo {u : pm_S1} {j : Nat} {v : Int32} (F : CallFix p m c cc nL s args lw_all RX1) (hX : pm_X D A s (pm_t1 a) (pm_w1 q a) u H locs) (hj : j < 1280) (hdg : decode cc pc = .ok (.iastore, 1))
    (kk : ∀ (H1 : Heap) (locs1 : List Loc), pm_X D A s (pm_t1 a) (pm_w1 q a) ((r_swo u (upd (r_wo u) j v))) H1 locs1 → W p l e R s m args below meth c H1 locs1 cells slots Q (F0 m (pc + 1) ls rest)) : W p l e R s m args below meth c H locs cells slots Q (F0 m pc ls (.int v :: .int (nI j) :: .ref (q 3) :: rest)) := by
  obtain ⟨hK, hP, hD, hS⟩ := hX
  refine va_iast F.1 F.2.1 hK hP hD hS 3 2 rfl rfl (vp_in_nI hj (by decide)) hdg (fun H1 locs1 hP hD hS => ?_)
  rw [nI_clamp (by omega)] at hP hD
  exact kk H1 locs1 ⟨hK, hP, hD, hS⟩
end PMR
end
section
/-! ===== what a call of a private method asks ===== -/
set_option maxRecDepth 100000
theorem hd0_init : yX0_init.cls ≠ "java/lang/invoke/MethodHandle" ∧ yX0_init.cls ≠ "java/lang/invoke/VarHandle" ∧ (parseMethodDescriptor yX0_init.desc).map (fun d => d.parameters.length) = some 0 := by decide +kernel
theorem hd0_put : yX0_put.cls = RX0 ∧ yX0_put.cls ≠ "java/lang/invoke/MethodHandle" ∧ yX0_put.cls ≠ "java/lang/invoke/VarHandle" ∧ (parseMethodDescriptor yX0_put.desc).map (fun d => d.parameters.length) = some 3 := by decide +kernel
theorem hd0_isVersion : yX0_isVersion.cls = RX0 ∧ yX0_isVersion.cls ≠ "java/lang/invoke/MethodHandle" ∧ yX0_isVersion.cls ≠ "java/lang/invoke/VarHandle" ∧ (parseMethodDescriptor yX0_isVersion.desc).map (fun d => d.parameters.length) = some 1 := by decide +kernel
theorem hG0_isVersion : GoodIn lw_all (wsV RX0 42 RX0 yX0_isVersion (ws_ yX0_isVersion cX0_isVersion 2 (some .boolean))) := lw_V q73 q75 qs0 q18 q76
theorem hd0_isKey : yX0_isKey.cls ≠ "java/lang/invoke/MethodHandle" ∧ yX0_isKey.cls ≠ "java/lang/invoke/VarHandle" ∧ (parseMethodDescriptor yX0_isKey.desc).map (fun d => d.parameters.length) = some 1 := by decide +kernel
theorem hG0_isKey : GoodIn lw_all (va_wsS RX0 46 yX0_isKey (ws_ yX0_isKey cX0_isKey 1 (some .boolean))) := lw_S q77 q78 q18 q79
theorem hd0_open : yX0_open.cls = RX0 ∧ yX0_open.cls ≠ "java/lang/invoke/MethodHandle" ∧ yX0_open.cls ≠ "java/lang/invoke/VarHandle" ∧ (parseMethodDescriptor yX0_open.desc).map (fun d => d.parameters.length) = some 1 := by decide +kernel
theorem hG0_open : GoodIn lw_all (wsV RX0 49 RX0 yX0_open (ws_ yX0_open cX0_open 7 (some .int))) := lw_V q80 q82 qs1 q18 q83
theorem hd0_spreadLabels : yX0_spreadLabels.cls = RX0 ∧ yX0_spreadLabels.cls ≠ "java/lang/invoke/MethodHandle" ∧ yX0_spreadLabels.cls ≠ "java/lang/invoke/VarHandle" ∧ (parseMethodDescriptor yX0_spreadLabels.desc).map (fun d => d.parameters.length) = some 0 := by decide +kernel
theorem hG0_spreadLabels : GoodIn lw_all (wsV RX0 87 RX0 yX0_spreadLabels (ws_ yX0_spreadLabels cX0_spreadLabels 4 none)) := lw_V q86 q88 qs2 q18 q89
theorem hd0_write : yX0_write.cls = RX0 ∧ yX0_write.cls ≠ "java/lang/invoke/MethodHandle" ∧ yX0_write.cls ≠ "java/lang/invoke/VarHandle" ∧ (parseMethodDescriptor yX0_write.desc).map (fun d => d.parameters.length) = some 4 := by decide +kernel
theorem hG0_write : GoodIn lw_all (wsV RX0 53 RX0 yX0_write (ws_ yX0_write cX0_write 12 none)) := lw_V q91 q93 qs3 q18 q94
theorem hd0_advance : yX0_advance.cls = RX0 ∧ yX0_advance.cls ≠ "java/lang/invoke/MethodHandle" ∧ yX0_advance.cls ≠ "java/lang/invoke/VarHandle" ∧ (parseMethodDescriptor yX0_advance.desc).map (fun d => d.parameters.length) = some 3 := by decide +kernel
theorem hG0_advance : GoodIn lw_all (wsV RX0 79 RX0 yX0_advance (ws_ yX0_advance cX0_advance 6 (some .int))) := lw_V q95 q97 qs4 q18 q98
theorem hd0_insert : yX0_insert.cls = RX0 ∧ yX0_insert.cls ≠ "java/lang/invoke/MethodHandle" ∧ yX0_insert.cls ≠ "java/lang/invoke/VarHandle" ∧ (parseMethodDescriptor yX0_insert.desc).map (fun d => d.parameters.length) = some 5 := by decide +kernel
theorem hG0_insert : GoodIn lw_all (wsV RX0 92 RX0 yX0_insert (ws_ yX0_insert cX0_insert 7 (some .int))) := lw_V q99 q101 qs5 q18 q102
theorem hd0_remove : yX0_remove.cls = RX0 ∧ yX0_remove.cls ≠ "java/lang/invoke/MethodHandle" ∧ yX0_remove.cls ≠ "java/lang/invoke/VarHandle" ∧ (parseMethodDescriptor yX0_remove.desc).map (fun d => d.parameters.length) = some 2 := by decide +kernel
theorem hd0_fill : yX0_fill.cls = RX0 ∧ yX0_fill.cls ≠ "java/lang/invoke/MethodHandle" ∧ yX0_fill.cls ≠ "java/lang/invoke/VarHandle" ∧ (parseMethodDescriptor yX0_fill.desc).map (fun d => d.parameters.length) = some 4 := by decide +kernel
theorem hd0_isPlan : yX0_isPlan.cls ≠ "java/lang/invoke/MethodHandle" ∧ yX0_isPlan.cls ≠ "java/lang/invoke/VarHandle" ∧ (parseMethodDescriptor yX0_isPlan.desc).map (fun d => d.parameters.length) = some 1 := by decide +kernel
theorem hG0_isPlan : GoodIn lw_all (va_wsS RX0 57 yX0_isPlan (ws_ yX0_isPlan cX0_isPlan 2 (some .boolean))) := lw_S q111 q112 q18 q113
theorem hd0_graft : yX0_graft.cls = RX0 ∧ yX0_graft.cls ≠ "java/lang/invoke/MethodHandle" ∧ yX0_graft.cls ≠ "java/lang/invoke/VarHandle" ∧ (parseMethodDescriptor yX0_graft.desc).map (fun d => d.parameters.length) = some 3 := by decide +kernel
theorem hd0_look : yX0_look.cls = RX0 ∧ yX0_look.cls ≠ "java/lang/invoke/MethodHandle" ∧ yX0_look.cls ≠ "java/lang/invoke/VarHandle" ∧ (parseMethodDescriptor yX0_look.desc).map (fun d => d.parameters.length) = some 2 := by decide +kernel
theorem hG0_look : GoodIn lw_all (wsV RX0 60 RX0 yX0_look (ws_ yX0_look cX0_look 4 none)) := lw_V q118 q120 qs6 q18 q121
theorem hd0_exchange : yX0_exchange.cls = RX0 ∧ yX0_exchange.cls ≠ "java/lang/invoke/MethodHandle" ∧ yX0_exchange.cls ≠ "java/lang/invoke/VarHandle" ∧ (parseMethodDescriptor yX0_exchange.desc).map (fun d => d.parameters.length) = some 3 := by decide +kernel
theorem hd0_versions : yX0_versions.cls = RX0 ∧ yX0_versions.cls ≠ "java/lang/invoke/MethodHandle" ∧ yX0_versions.cls ≠ "java/lang/invoke/VarHandle" ∧ (parseMethodDescriptor yX0_versions.desc).map (fun d => d.parameters.length) = some 0 := by decide +kernel
theorem hd0_parent : yX0_parent.cls = RX0 ∧ yX0_parent.cls ≠ "java/lang/invoke/MethodHandle" ∧ yX0_parent.cls ≠ "java/lang/invoke/VarHandle" ∧ (parseMethodDescriptor yX0_parent.desc).map (fun d => d.parameters.length) = some 1 := by decide +kernel
theorem hd0_ancestor : yX0_ancestor.cls = RX0 ∧ yX0_ancestor.cls ≠ "java/lang/invoke/MethodHandle" ∧ yX0_ancestor.cls ≠ "java/lang/invoke/VarHandle" ∧ (parseMethodDescriptor yX0_ancestor.desc).map (fun d => d.parameters.length) = some 2 := by decide +kernel
theorem hd0_isAncestor : yX0_isAncestor.cls = RX0 ∧ yX0_isAncestor.cls ≠ "java/lang/invoke/MethodHandle" ∧ yX0_isAncestor.cls ≠ "java/lang/invoke/VarHandle" ∧ (parseMethodDescriptor yX0_isAncestor.desc).map (fun d => d.parameters.length) = some 2 := by decide +kernel
theorem hG0_isAncestor : GoodIn lw_all (wsV RX0 71 RX0 yX0_isAncestor (ws_ yX0_isAncestor cX0_isAncestor 5 (some .boolean))) := lw_V q138 q140 qs7 q18 q141
theorem hd0_meet : yX0_meet.cls = RX0 ∧ yX0_meet.cls ≠ "java/lang/invoke/MethodHandle" ∧ yX0_meet.cls ≠ "java/lang/invoke/VarHandle" ∧ (parseMethodDescriptor yX0_meet.desc).map (fun d => d.parameters.length) = some 2 := by decide +kernel
theorem hd0_family : yX0_family.cls = RX0 ∧ yX0_family.cls ≠ "java/lang/invoke/MethodHandle" ∧ yX0_family.cls ≠ "java/lang/invoke/VarHandle" ∧ (parseMethodDescriptor yX0_family.desc).map (fun d => d.parameters.length) = some 1 := by decide +kernel
theorem hd0_has : yX0_has.cls = RX0 ∧ yX0_has.cls ≠ "java/lang/invoke/MethodHandle" ∧ yX0_has.cls ≠ "java/lang/invoke/VarHandle" ∧ (parseMethodDescriptor yX0_has.desc).map (fun d => d.parameters.length) = some 2 := by decide +kernel
theorem hd0_get : yX0_get.cls = RX0 ∧ yX0_get.cls ≠ "java/lang/invoke/MethodHandle" ∧ yX0_get.cls ≠ "java/lang/invoke/VarHandle" ∧ (parseMethodDescriptor yX0_get.desc).map (fun d => d.parameters.length) = some 2 := by decide +kernel
theorem hd0_size : yX0_size.cls = RX0 ∧ yX0_size.cls ≠ "java/lang/invoke/MethodHandle" ∧ yX0_size.cls ≠ "java/lang/invoke/VarHandle" ∧ (parseMethodDescriptor yX0_size.desc).map (fun d => d.parameters.length) = some 1 := by decide +kernel
theorem hd0_next : yX0_next.cls = RX0 ∧ yX0_next.cls ≠ "java/lang/invoke/MethodHandle" ∧ yX0_next.cls ≠ "java/lang/invoke/VarHandle" ∧ (parseMethodDescriptor yX0_next.desc).map (fun d => d.parameters.length) = some 2 := by decide +kernel
theorem hd0_previous : yX0_previous.cls = RX0 ∧ yX0_previous.cls ≠ "java/lang/invoke/MethodHandle" ∧ yX0_previous.cls ≠ "java/lang/invoke/VarHandle" ∧ (parseMethodDescriptor yX0_previous.desc).map (fun d => d.parameters.length) = some 2 := by decide +kernel
theorem hd0_select : yX0_select.cls = RX0 ∧ yX0_select.cls ≠ "java/lang/invoke/MethodHandle" ∧ yX0_select.cls ≠ "java/lang/invoke/VarHandle" ∧ (parseMethodDescriptor yX0_select.desc).map (fun d => d.parameters.length) = some 2 := by decide +kernel
theorem hd0_sum : yX0_sum.cls = RX0 ∧ yX0_sum.cls ≠ "java/lang/invoke/MethodHandle" ∧ yX0_sum.cls ≠ "java/lang/invoke/VarHandle" ∧ (parseMethodDescriptor yX0_sum.desc).map (fun d => d.parameters.length) = some 3 := by decide +kernel
theorem hd0_differing : yX0_differing.cls = RX0 ∧ yX0_differing.cls ≠ "java/lang/invoke/MethodHandle" ∧ yX0_differing.cls ≠ "java/lang/invoke/VarHandle" ∧ (parseMethodDescriptor yX0_differing.desc).map (fun d => d.parameters.length) = some 2 := by decide +kernel
theorem hd0_differ : yX0_differ.cls = RX0 ∧ yX0_differ.cls ≠ "java/lang/invoke/MethodHandle" ∧ yX0_differ.cls ≠ "java/lang/invoke/VarHandle" ∧ (parseMethodDescriptor yX0_differ.desc).map (fun d => d.parameters.length) = some 3 := by decide +kernel
theorem hG0_differ : GoodIn lw_all (wsV RX0 75 RX0 yX0_differ (ws_ yX0_differ cX0_differ 6 (some .boolean))) := lw_V q182 q184 qs8 q18 q185
theorem hd0_spread : yX0_spread.cls = RX0 ∧ yX0_spread.cls ≠ "java/lang/invoke/MethodHandle" ∧ yX0_spread.cls ≠ "java/lang/invoke/VarHandle" ∧ (parseMethodDescriptor yX0_spread.desc).map (fun d => d.parameters.length) = some 1 := by decide +kernel
theorem hd0_changes : yX0_changes.cls = RX0 ∧ yX0_changes.cls ≠ "java/lang/invoke/MethodHandle" ∧ yX0_changes.cls ≠ "java/lang/invoke/VarHandle" ∧ (parseMethodDescriptor yX0_changes.desc).map (fun d => d.parameters.length) = some 1 := by decide +kernel
theorem hd1_init : yX1_init.cls ≠ "java/lang/invoke/MethodHandle" ∧ yX1_init.cls ≠ "java/lang/invoke/VarHandle" ∧ (parseMethodDescriptor yX1_init.desc).map (fun d => d.parameters.length) = some 0 := by decide +kernel
theorem hd1_put : yX1_put.cls = RX1 ∧ yX1_put.cls ≠ "java/lang/invoke/MethodHandle" ∧ yX1_put.cls ≠ "java/lang/invoke/VarHandle" ∧ (parseMethodDescriptor yX1_put.desc).map (fun d => d.parameters.length) = some 3 := by decide +kernel
theorem hd1_bad : yX1_bad.cls = RX1 ∧ yX1_bad.cls ≠ "java/lang/invoke/MethodHandle" ∧ yX1_bad.cls ≠ "java/lang/invoke/VarHandle" ∧ (parseMethodDescriptor yX1_bad.desc).map (fun d => d.parameters.length) = some 1 := by decide +kernel
theorem hG1_bad : GoodIn lw_all (wsV RX1 24 RX1 yX1_bad (ws_ yX1_bad cX1_bad 2 (some .boolean))) := lw_V q217 q219 qs9 q19 q220
theorem hd1_badKey : yX1_badKey.cls = RX1 ∧ yX1_badKey.cls ≠ "java/lang/invoke/MethodHandle" ∧ yX1_badKey.cls ≠ "java/lang/invoke/VarHandle" ∧ (parseMethodDescriptor yX1_badKey.desc).map (fun d => d.parameters.length) = some 1 := by decide +kernel
theorem hG1_badKey : GoodIn lw_all (wsV RX1 28 RX1 yX1_badKey (ws_ yX1_badKey cX1_badKey 2 (some .boolean))) := lw_V q221 q223 qs10 q19 q224
theorem hd1_make : yX1_make.cls = RX1 ∧ yX1_make.cls ≠ "java/lang/invoke/MethodHandle" ∧ yX1_make.cls ≠ "java/lang/invoke/VarHandle" ∧ (parseMethodDescriptor yX1_make.desc).map (fun d => d.parameters.length) = some 1 := by decide +kernel
theorem hG1_make : GoodIn lw_all (wsV RX1 31 RX1 yX1_make (ws_ yX1_make cX1_make 4 (some .int))) := lw_V q225 q227 qs11 q19 q228
theorem hd1_give : yX1_give.cls = RX1 ∧ yX1_give.cls ≠ "java/lang/invoke/MethodHandle" ∧ yX1_give.cls ≠ "java/lang/invoke/VarHandle" ∧ (parseMethodDescriptor yX1_give.desc).map (fun d => d.parameters.length) = some 3 := by decide +kernel
theorem hG1_give : GoodIn lw_all (wsV RX1 35 RX1 yX1_give (ws_ yX1_give cX1_give 4 none)) := lw_V q229 q231 qs12 q19 q232
theorem hd1_remove : yX1_remove.cls = RX1 ∧ yX1_remove.cls ≠ "java/lang/invoke/MethodHandle" ∧ yX1_remove.cls ≠ "java/lang/invoke/VarHandle" ∧ (parseMethodDescriptor yX1_remove.desc).map (fun d => d.parameters.length) = some 2 := by decide +kernel
theorem hd1_fill : yX1_fill.cls = RX1 ∧ yX1_fill.cls ≠ "java/lang/invoke/MethodHandle" ∧ yX1_fill.cls ≠ "java/lang/invoke/VarHandle" ∧ (parseMethodDescriptor yX1_fill.desc).map (fun d => d.parameters.length) = some 4 := by decide +kernel
theorem hd1_badPlan : yX1_badPlan.cls = RX1 ∧ yX1_badPlan.cls ≠ "java/lang/invoke/MethodHandle" ∧ yX1_badPlan.cls ≠ "java/lang/invoke/VarHandle" ∧ (parseMethodDescriptor yX1_badPlan.desc).map (fun d => d.parameters.length) = some 1 := by decide +kernel
theorem hG1_badPlan : GoodIn lw_all (wsV RX1 39 RX1 yX1_badPlan (ws_ yX1_badPlan cX1_badPlan 2 (some .boolean))) := lw_V q241 q243 qs13 q19 q244
theorem hd1_graft : yX1_graft.cls = RX1 ∧ yX1_graft.cls ≠ "java/lang/invoke/MethodHandle" ∧ yX1_graft.cls ≠ "java/lang/invoke/VarHandle" ∧ (parseMethodDescriptor yX1_graft.desc).map (fun d => d.parameters.length) = some 3 := by decide +kernel
theorem hd1_copy : yX1_copy.cls = RX1 ∧ yX1_copy.cls ≠ "java/lang/invoke/MethodHandle" ∧ yX1_copy.cls ≠ "java/lang/invoke/VarHandle" ∧ (parseMethodDescriptor yX1_copy.desc).map (fun d => d.parameters.length) = some 4 := by decide +kernel
theorem hG1_copy : GoodIn lw_all (wsV RX1 42 RX1 yX1_copy (ws_ yX1_copy cX1_copy 5 none)) := lw_V q249 q251 qs14 q19 q252
theorem hd1_exchange : yX1_exchange.cls = RX1 ∧ yX1_exchange.cls ≠ "java/lang/invoke/MethodHandle" ∧ yX1_exchange.cls ≠ "java/lang/invoke/VarHandle" ∧ (parseMethodDescriptor yX1_exchange.desc).map (fun d => d.parameters.length) = some 3 := by decide +kernel
theorem hd1_versions : yX1_versions.cls = RX1 ∧ yX1_versions.cls ≠ "java/lang/invoke/MethodHandle" ∧ yX1_versions.cls ≠ "java/lang/invoke/VarHandle" ∧ (parseMethodDescriptor yX1_versions.desc).map (fun d => d.parameters.length) = some 0 := by decide +kernel
theorem hd1_parent : yX1_parent.cls = RX1 ∧ yX1_parent.cls ≠ "java/lang/invoke/MethodHandle" ∧ yX1_parent.cls ≠ "java/lang/invoke/VarHandle" ∧ (parseMethodDescriptor yX1_parent.desc).map (fun d => d.parameters.length) = some 1 := by decide +kernel
theorem hd1_ancestor : yX1_ancestor.cls = RX1 ∧ yX1_ancestor.cls ≠ "java/lang/invoke/MethodHandle" ∧ yX1_ancestor.cls ≠ "java/lang/invoke/VarHandle" ∧ (parseMethodDescriptor yX1_ancestor.desc).map (fun d => d.parameters.length) = some 2 := by decide +kernel
theorem hd1_leads : yX1_leads.cls = RX1 ∧ yX1_leads.cls ≠ "java/lang/invoke/MethodHandle" ∧ yX1_leads.cls ≠ "java/lang/invoke/VarHandle" ∧ (parseMethodDescriptor yX1_leads.desc).map (fun d => d.parameters.length) = some 2 := by decide +kernel
theorem hG1_leads : GoodIn lw_all (wsV RX1 46 RX1 yX1_leads (ws_ yX1_leads cX1_leads 5 (some .boolean))) := lw_V q269 q271 qs15 q19 q272
theorem hd1_meet : yX1_meet.cls = RX1 ∧ yX1_meet.cls ≠ "java/lang/invoke/MethodHandle" ∧ yX1_meet.cls ≠ "java/lang/invoke/VarHandle" ∧ (parseMethodDescriptor yX1_meet.desc).map (fun d => d.parameters.length) = some 2 := by decide +kernel
theorem hd1_family : yX1_family.cls = RX1 ∧ yX1_family.cls ≠ "java/lang/invoke/MethodHandle" ∧ yX1_family.cls ≠ "java/lang/invoke/VarHandle" ∧ (parseMethodDescriptor yX1_family.desc).map (fun d => d.parameters.length) = some 1 := by decide +kernel
theorem hd1_has : yX1_has.cls = RX1 ∧ yX1_has.cls ≠ "java/lang/invoke/MethodHandle" ∧ yX1_has.cls ≠ "java/lang/invoke/VarHandle" ∧ (parseMethodDescriptor yX1_has.desc).map (fun d => d.parameters.length) = some 2 := by decide +kernel
theorem hd1_get : yX1_get.cls = RX1 ∧ yX1_get.cls ≠ "java/lang/invoke/MethodHandle" ∧ yX1_get.cls ≠ "java/lang/invoke/VarHandle" ∧ (parseMethodDescriptor yX1_get.desc).map (fun d => d.parameters.length) = some 2 := by decide +kernel
theorem hd1_size : yX1_size.cls = RX1 ∧ yX1_size.cls ≠ "java/lang/invoke/MethodHandle" ∧ yX1_size.cls ≠ "java/lang/invoke/VarHandle" ∧ (parseMethodDescriptor yX1_size.desc).map (fun d => d.parameters.length) = some 1 := by decide +kernel
theorem hd1_next : yX1_next.cls = RX1 ∧ yX1_next.cls ≠ "java/lang/invoke/MethodHandle" ∧ yX1_next.cls ≠ "java/lang/invoke/VarHandle" ∧ (parseMethodDescriptor yX1_next.desc).map (fun d => d.parameters.length) = some 2 := by decide +kernel
theorem hd1_previous : yX1_previous.cls = RX1 ∧ yX1_previous.cls ≠ "java/lang/invoke/MethodHandle" ∧ yX1_previous.cls ≠ "java/lang/invoke/VarHandle" ∧ (parseMethodDescriptor yX1_previous.desc).map (fun d => d.parameters.length) = some 2 := by decide +kernel
theorem hd1_select : yX1_select.cls = RX1 ∧ yX1_select.cls ≠ "java/lang/invoke/MethodHandle" ∧ yX1_select.cls ≠ "java/lang/invoke/VarHandle" ∧ (parseMethodDescriptor yX1_select.desc).map (fun d => d.parameters.length) = some 2 := by decide +kernel
theorem hd1_sum : yX1_sum.cls = RX1 ∧ yX1_sum.cls ≠ "java/lang/invoke/MethodHandle" ∧ yX1_sum.cls ≠ "java/lang/invoke/VarHandle" ∧ (parseMethodDescriptor yX1_sum.desc).map (fun d => d.parameters.length) = some 3 := by decide +kernel
theorem hd1_differing : yX1_differing.cls = RX1 ∧ yX1_differing.cls ≠ "java/lang/invoke/MethodHandle" ∧ yX1_differing.cls ≠ "java/lang/invoke/VarHandle" ∧ (parseMethodDescriptor yX1_differing.desc).map (fun d => d.parameters.length) = some 2 := by decide +kernel
theorem hd1_agree : yX1_agree.cls = RX1 ∧ yX1_agree.cls ≠ "java/lang/invoke/MethodHandle" ∧ yX1_agree.cls ≠ "java/lang/invoke/VarHandle" ∧ (parseMethodDescriptor yX1_agree.desc).map (fun d => d.parameters.length) = some 3 := by decide +kernel
theorem hG1_agree : GoodIn lw_all (wsV RX1 50 RX1 yX1_agree (ws_ yX1_agree cX1_agree 4 (some .boolean))) := lw_V q313 q315 qs16 q19 q316
theorem hd1_spread : yX1_spread.cls = RX1 ∧ yX1_spread.cls ≠ "java/lang/invoke/MethodHandle" ∧ yX1_spread.cls ≠ "java/lang/invoke/VarHandle" ∧ (parseMethodDescriptor yX1_spread.desc).map (fun d => d.parameters.length) = some 1 := by decide +kernel
theorem hd1_changes : yX1_changes.cls = RX1 ∧ yX1_changes.cls ≠ "java/lang/invoke/MethodHandle" ∧ yX1_changes.cls ≠ "java/lang/invoke/VarHandle" ∧ (parseMethodDescriptor yX1_changes.desc).map (fun d => d.parameters.length) = some 1 := by decide +kernel
end
section
/-! ===== the mathematical value: (number of versions, parents, what holds at a version and a key), and what each method answers ===== -/
abbrev pm_AB : Type := Nat × (Nat → Nat) × (Nat → Nat → Option Int32)
abbrev sp_ok (n : Nat) (v : Int32) : Prop := 0 ≤ v ∧ v < nI n
abbrev sp_key (k : Int32) : Prop := 0 ≤ k ∧ k < 32
abbrev sp_plan (p : Int32) : Prop := 0 ≤ p ∧ p ≤ 511 ∧ 1 ≤ p.toNatClampNeg % 16 ∧ p.toNatClampNeg % 16 ≤ 8 ∧ p.toNatClampNeg / 16 + p.toNatClampNeg % 16 ≤ 32
theorem pm_of_nn {x : Int32} (h : 0 ≤ x) : ∃ j : Nat, j < 2 ^ 31 ∧ x = nI j := nI_of (Int32.not_lt.mpr h)
theorem sp_ok_of {n : Nat} {v : Int32} (hn : n ≤ 40) (h : sp_ok n v) : ∃ j, j < n ∧ v = nI j := by
  obtain ⟨j, hj, rfl⟩ := pm_of_nn h.1
  exact ⟨j, (nI_ltI hj (by omega)).mp h.2, rfl⟩
theorem sp_ok_nI {n j : Nat} (hn : n ≤ 40) (h : j < n) : sp_ok n (nI j) := ⟨nI_pos' (by omega), nI_lt h (by omega)⟩
theorem sp_key_of {k : Int32} (h : sp_key k) : ∃ j, j < 32 ∧ k = nI j := by
  obtain ⟨j, hj, rfl⟩ := pm_of_nn h.1
  exact ⟨j, (nI_ltI (b := 32) hj (by decide)).mp h.2, rfl⟩
theorem sp_key_nI {j : Nat} (h : j < 32) : sp_key (nI j) := ⟨nI_pos' (by omega), nI_lt (b := 32) h (by decide)⟩
theorem pm_clN {j : Nat} (h : j < 1000) : (nI j).toNatClampNeg = j := nI_clamp (by omega)
theorem pm_eqN {a b : Nat} (ha : a < 1000) (hb : b < 1000) (h : nI a = nI b) : a = b := (nI_eq (by omega) (by omega)).mp h
theorem pm_ltN {a b : Nat} (ha : a < 1000) (hb : b < 1000) : nI a < nI b ↔ a < b := nI_ltI (by omega) (by omega)
theorem pm_leN {a b : Nat} (ha : a < 1000) (hb : b < 1000) : nI a ≤ nI b ↔ a ≤ b := nI_leI (by omega) (by omega)
theorem pm_nm1 {a : Nat} (ha : a < 1000) : ¬ nI a = -1 := by
  intro h
  have h1 := nI_pos' (n := a) (by omega)
  rw [h] at h1
  exact absurd h1 (by decide)
/-! counting and summing -/
def pm_cnt (p : Nat → Bool) : Nat → Nat
  | 0 => 0
  | k + 1 => pm_cnt p k + (if p k = true then 1 else 0)
theorem pm_cnt_le (p : Nat → Bool) (k : Nat) : pm_cnt p k ≤ k := by
  induction k with
  | zero => exact Nat.le_refl 0
  | succ k ih => unfold pm_cnt; split <;> omega
theorem pm_cnt_t {p : Nat → Bool} {k : Nat} (h : p k = true) : pm_cnt p (k + 1) = pm_cnt p k + 1 := by
  show pm_cnt p k + _ = _
  rw [if_pos h]
theorem pm_cnt_f {p : Nat → Bool} {k : Nat} (h : ¬ p k = true) : pm_cnt p (k + 1) = pm_cnt p k := by
  show pm_cnt p k + _ = _
  rw [if_neg h]; rfl
theorem pm_cnt_range (p : Nat → Bool) (n : Nat) : pm_cnt p n = (List.range n).countP p := by
  induction n with
  | zero => rfl
  | succ n ih =>
    rw [List.range_succ, List.countP_append, ← ih]
    show pm_cnt p n + _ = _
    by_cases h : p n = true
    · rw [if_pos h]; simp [h]
    · rw [if_neg h]; simp [h]
theorem pm_cnt_ext {p p' : Nat → Bool} {n : Nat} (h : ∀ k, k < n → p k = p' k) : pm_cnt p n = pm_cnt p' n := by
  induction n with
  | zero => rfl
  | succ n ih =>
    show pm_cnt p n + _ = pm_cnt p' n + _
    rw [ih (fun k hk => h k (by omega)), h n (by omega)]
def pm_sum (f : Nat → Int32) : Nat → Int32
  | 0 => 0
  | k + 1 => pm_sum f k + f k
theorem pm_sum_zero {f : Nat → Int32} {n : Nat} (h : ∀ k, k < n → f k = 0) : pm_sum f n = 0 := by
  induction n with
  | zero => rfl
  | succ n ih =>
    show pm_sum f n + f n = 0
    rw [ih (fun k hk => h k (by omega)), h n (by omega)]; decide
theorem pm_sum_rest {f : Nat → Int32} {m : Nat} (d : Nat) (h : ∀ k, m ≤ k → k < m + d → f k = 0) : pm_sum f (m + d) = pm_sum f m := by
  induction d with
  | zero => rfl
  | succ d ih =>
    show pm_sum f (m + d) + f (m + d) = _
    rw [ih (fun k h1 h2 => h k h1 (by omega)), h (m + d) (by omega) (by omega), Int32.add_zero]
/-! the first, the last -/
def pm_first (p : Nat → Prop) (N : Nat) (r : Int32) : Prop := (∃ k, k < N ∧ p k ∧ (∀ j, j < k → ¬ p j) ∧ r = nI k) ∨ ((∀ j, j < N → ¬ p j) ∧ r = -2)
def pm_final (p : Nat → Prop) (N : Nat) (r : Int32) : Prop := (∃ k, k < N ∧ p k ∧ (∀ j, k < j → j < N → ¬ p j) ∧ r = nI k) ∨ ((∀ j, j < N → ¬ p j) ∧ r = -2)
theorem pm_first_uniq {p : Nat → Prop} {N : Nat} {r r' : Int32} (h : pm_first p N r) (h' : pm_first p N r') : r = r' := by
  rcases h with ⟨k, hk, pk, hj, rfl⟩ | ⟨hj, rfl⟩ <;> rcases h' with ⟨k', hk', pk', hj', rfl⟩ | ⟨hj', rfl⟩
  · rcases Nat.lt_trichotomy k k' with h | h | h
    · exact absurd pk (hj' k h)
    · rw [h]
    · exact absurd pk' (hj k' h)
  · exact absurd pk (hj' k hk)
  · exact absurd pk' (hj k' hk')
  · rfl
theorem pm_final_uniq {p : Nat → Prop} {N : Nat} {r r' : Int32} (h : pm_final p N r) (h' : pm_final p N r') : r = r' := by
  rcases h with ⟨k, hk, pk, hj, rfl⟩ | ⟨hj, rfl⟩ <;> rcases h' with ⟨k', hk', pk', hj', rfl⟩ | ⟨hj', rfl⟩
  · rcases Nat.lt_trichotomy k k' with h | h | h
    · exact absurd pk' (hj k' h hk')
    · rw [h]
    · exact absurd pk (hj' k h hk)
  · exact absurd pk (hj' k hk)
  · exact absurd pk' (hj k' hk')
  · rfl
/-! the way up -/
def pm_clm (par : Nat → Nat) (v : Nat) : Nat → Nat → Nat
  | 0, x => x
  | f + 1, x => if v < x then pm_clm par v f (par x) else x
def pm_an (par : Nat → Nat) (v w : Nat) : Bool := decide (pm_clm par v 40 w = v)
/-- parents have lesser numbers -/
def pm_dn (n : Nat) (par : Nat → Nat) : Prop := ∀ v, 0 < v → v < n → par v < v
theorem pm_clm_stop {par : Nat → Nat} {v f x : Nat} (h : ¬ v < x) : pm_clm par v f x = x := by
  cases f with
  | zero => rfl
  | succ f => show (if v < x then _ else x) = x; rw [if_neg h]
theorem pm_clm_go {par : Nat → Nat} {v f x : Nat} (h : v < x) : pm_clm par v (f + 1) x = pm_clm par v f (par x) := by
  show (if v < x then _ else x) = _; rw [if_pos h]
theorem pm_clm_f {n : Nat} {par : Nat → Nat} (hd : pm_dn n par) (v : Nat) : ∀ f g x, x ≤ f → x ≤ g → x < n → pm_clm par v f x = pm_clm par v g x := by
  intro f
  induction f with
  | zero =>
    intro g x h1 h2 h3
    rw [pm_clm_stop (by omega), pm_clm_stop (by omega)]
  | succ f ih =>
    intro g x h1 h2 h3
    by_cases hv : v < x
    · cases g with
      | zero => omega
      | succ g =>
        have := hd x (by omega) h3
        rw [pm_clm_go hv, pm_clm_go hv]
        exact ih g (par x) (by omega) (by omega) (by omega)
    · rw [pm_clm_stop hv, pm_clm_stop hv]
theorem pm_an_self (par : Nat → Nat) (v : Nat) : pm_an par v v = true := by
  unfold pm_an
  rw [pm_clm_stop (by omega)]
  simp
theorem pm_an_lt {par : Nat → Nat} {v w : Nat} (h : w < v) : pm_an par v w = false := by
  unfold pm_an
  rw [pm_clm_stop (by omega)]
  simp; omega
theorem pm_an_up {n : Nat} {par : Nat → Nat} (hn : n ≤ 40) (hd : pm_dn n par) {v w : Nat} (h : v < w) (hw : w < n) : pm_an par v w = pm_an par v (par w) := by
  unfold pm_an
  have := hd w (by omega) hw
  rw [show (40 : Nat) = 39 + 1 from rfl, pm_clm_go h, pm_clm_f hd v 39 40 (par w) (by omega) (by omega) (by omega)]
theorem pm_an_le {par : Nat → Nat} {v w : Nat} (h : pm_an par v w = true) : v ≤ w := by
  rcases Nat.lt_or_ge w v with q | q
  · rw [pm_an_lt q] at h; cases h
  · exact q
theorem pm_an_zero {n : Nat} {par : Nat → Nat} (hn : n ≤ 40) (hd : pm_dn n par) : ∀ w, w < n → pm_an par 0 w = true := by
  intro w
  induction w using Nat.strongRecOn with
  | _ w ih =>
    intro hw
    by_cases h : w = 0
    · rw [h]; exact pm_an_self par 0
    · have := hd w (by omega) hw
      rw [pm_an_up hn hd (by omega) hw]
      exact ih (par w) this (by omega)
theorem pm_an_trans {n : Nat} {par : Nat → Nat} (hn : n ≤ 40) (hd : pm_dn n par) {x y : Nat} (h : pm_an par x y = true) : ∀ z, z < n → pm_an par y z = true → pm_an par x z = true := by
  intro z
  induction z using Nat.strongRecOn with
  | _ z ih =>
    intro hz h2
    have l1 := pm_an_le h
    have l2 := pm_an_le h2
    by_cases e : y = z
    · rw [← e]; exact h
    · have := hd z (by omega) hz
      rw [pm_an_up hn hd (by omega) hz] at h2 ⊢
      exact ih (par z) this (by omega) h2
theorem pm_an_cmp {n : Nat} {par : Nat → Nat} (hn : n ≤ 40) (hd : pm_dn n par) {x y : Nat} (hxy : x ≤ y) : ∀ z, z < n → pm_an par x z = true → pm_an par y z = true → pm_an par x y = true := by
  intro z
  induction z using Nat.strongRecOn with
  | _ z ih =>
    intro hz h1 h2
    have l2 := pm_an_le h2
    by_cases e : y = z
    · rw [e]; exact h1
    · have := hd z (by omega) hz
      rw [pm_an_up hn hd (by omega) hz] at h1 h2
      exact ih (par z) this (by omega) h1 h2
/-- a version more: the way up from the old ones is as before -/
theorem pm_clm_ext {n : Nat} {par par' : Nat → Nat} (hd : pm_dn n par) (he : ∀ w, w < n → par' w = par w) (v : Nat) : ∀ f x, x < n → pm_clm par' v f x = pm_clm par v f x := by
  intro f
  induction f with
  | zero => intro x _; rfl
  | succ f ih =>
    intro x hx
    by_cases h : v < x
    · have := hd x (by omega) hx
      rw [pm_clm_go h, pm_clm_go h, he x hx]
      exact ih _ (by omega)
    · rw [pm_clm_stop h, pm_clm_stop h]
theorem pm_an_ext {n : Nat} {par par' : Nat → Nat} (hd : pm_dn n par) (he : ∀ w, w < n → par' w = par w) {v w : Nat} (hw : w < n) : pm_an par' v w = pm_an par v w := by
  unfold pm_an
  rw [pm_clm_ext hd he v 40 w hw]
/-! what the methods answer -/
def sp_parent (b : pm_AB) (v : Int32) : Int32 := if sp_ok b.1 v then (if v = 0 then -2 else nI (b.2.1 v.toNatClampNeg)) else -1
def sp_ancestor (b : pm_AB) (v w : Int32) : Int32 := if sp_ok b.1 v ∧ sp_ok b.1 w then (if pm_an b.2.1 v.toNatClampNeg w.toNatClampNeg = true then 1 else 0) else -1
def sp_meet (b : pm_AB) (v w r : Int32) : Prop := (¬ (sp_ok b.1 v ∧ sp_ok b.1 w) → r = -1) ∧ (sp_ok b.1 v ∧ sp_ok b.1 w → ∃ x, x < b.1 ∧ r = nI x ∧ pm_an b.2.1 x v.toNatClampNeg = true ∧ pm_an b.2.1 x w.toNatClampNeg = true ∧ ∀ y, y < b.1 → pm_an b.2.1 y v.toNatClampNeg = true → pm_an b.2.1 y w.toNatClampNeg = true → y ≤ x)
def sp_family (b : pm_AB) (v : Int32) : Int32 := if sp_ok b.1 v then nI (pm_cnt (fun w => pm_an b.2.1 v.toNatClampNeg w) b.1) else -1
def sp_has (b : pm_AB) (v k : Int32) : Int32 := if sp_ok b.1 v then (if sp_key k then (if (b.2.2 v.toNatClampNeg k.toNatClampNeg).isSome = true then 1 else 0) else -2) else -1
def sp_get (b : pm_AB) (v k : Int32) : Int32 := if sp_ok b.1 v ∧ sp_key k then (b.2.2 v.toNatClampNeg k.toNatClampNeg).getD 0 else 0
def sp_size (b : pm_AB) (v : Int32) : Int32 := if sp_ok b.1 v then nI (pm_cnt (fun k => (b.2.2 v.toNatClampNeg k).isSome) 32) else -1
def sp_next (b : pm_AB) (v f r : Int32) : Prop := (¬ sp_ok b.1 v → r = -1) ∧ (sp_ok b.1 v → pm_first (fun k => f ≤ nI k ∧ (b.2.2 v.toNatClampNeg k).isSome = true) 32 r)
def sp_previous (b : pm_AB) (v t r : Int32) : Prop := (¬ sp_ok b.1 v → r = -1) ∧ (sp_ok b.1 v → pm_final (fun k => nI k ≤ t ∧ (b.2.2 v.toNatClampNeg k).isSome = true) 32 r)
def sp_select (b : pm_AB) (v i r : Int32) : Prop := (¬ sp_ok b.1 v → r = -1) ∧ (sp_ok b.1 v → pm_first (fun k => (b.2.2 v.toNatClampNeg k).isSome = true ∧ nI (pm_cnt (fun k => (b.2.2 v.toNatClampNeg k).isSome) k) = i) 32 r)
def sp_sum (b : pm_AB) (v f t : Int32) : Int32 := if sp_ok b.1 v then pm_sum (fun k => if f ≤ nI k ∧ nI k ≤ t then (b.2.2 v.toNatClampNeg k).getD 0 else 0) 32 else 0
def sp_differing (b : pm_AB) (v w : Int32) : Int32 := if sp_ok b.1 v ∧ sp_ok b.1 w then nI (pm_cnt (fun k => decide (b.2.2 v.toNatClampNeg k ≠ b.2.2 w.toNatClampNeg k)) 32) else -1
def sp_spread (b : pm_AB) (k : Int32) : Int32 := if sp_key k then nI (pm_cnt (fun v => (b.2.2 v k.toNatClampNeg).isSome) b.1) else -1
def sp_changes (b : pm_AB) (k : Int32) : Int32 := if sp_key k then nI (pm_cnt (fun v => decide (0 < v ∧ b.2.2 v k.toNatClampNeg ≠ b.2.2 (b.2.1 v) k.toNatClampNeg)) b.1) else -1
/-! the changes -/
def pm_set (M : Nat → Nat → Option Int32) (v k : Nat) (o : Option Int32) : Nat → Nat → Option Int32 := fun w j => if w = v ∧ j = k then o else M w j
def pm_wr (b : pm_AB) (v k : Nat) (o : Option Int32) : pm_AB := (b.1, b.2.1, pm_set b.2.2 v k o)
def pm_opn (b : pm_AB) (v : Nat) : pm_AB := (b.1 + 1, (fun w => if w = b.1 then v else b.2.1 w), (fun w k => if w = b.1 then b.2.2 v k else b.2.2 w k))
def pm_fil (b : pm_AB) (w f : Nat) (x st : Int32) : Nat → pm_AB
  | 0 => b
  | i + 1 => pm_wr (pm_fil b w f x st i) w (f + i) (some (x + nI i * st))
def pm_grf (b : pm_AB) (w src f : Nat) : Nat → pm_AB
  | 0 => b
  | i + 1 => pm_wr (pm_grf b w src f i) w (f + i) (b.2.2 src (f + i))
/-- a call that makes a version: the checks (versions, then the rest, then the room), and what it makes -/
def sp_mk (b : pm_AB) (okv okk : Prop) (b' : pm_AB) (r : Int32) (x : pm_AB) : Prop :=
  (¬ okv → r = -1 ∧ x = b) ∧ (okv → ¬ okk → r = -2 ∧ x = b) ∧ (okv → okk → b.1 = 40 → r = -3 ∧ x = b) ∧ (okv → okk → ¬ b.1 = 40 → r = nI b.1 ∧ x = b')
def sp_put (b : pm_AB) (v k x : Int32) : Int32 → pm_AB → Prop := sp_mk b (sp_ok b.1 v) (sp_key k) (pm_wr (pm_opn b v.toNatClampNeg) b.1 k.toNatClampNeg (some x))
def sp_remove (b : pm_AB) (v k : Int32) : Int32 → pm_AB → Prop := sp_mk b (sp_ok b.1 v) (sp_key k) (pm_wr (pm_opn b v.toNatClampNeg) b.1 k.toNatClampNeg none)
def sp_fill (b : pm_AB) (v p x st : Int32) : Int32 → pm_AB → Prop := sp_mk b (sp_ok b.1 v) (sp_plan p) (pm_fil (pm_opn b v.toNatClampNeg) b.1 (p.toNatClampNeg / 16) x st (p.toNatClampNeg % 16))
def sp_graft (b : pm_AB) (v w p : Int32) : Int32 → pm_AB → Prop := sp_mk b (sp_ok b.1 v ∧ sp_ok b.1 w) (sp_plan p) (pm_grf (pm_opn b v.toNatClampNeg) b.1 w.toNatClampNeg (p.toNatClampNeg / 16) (p.toNatClampNeg % 16))
def sp_exchange (b : pm_AB) (v i j : Int32) : Int32 → pm_AB → Prop := sp_mk b (sp_ok b.1 v) (sp_key i ∧ sp_key j) (pm_wr (pm_wr (pm_opn b v.toNatClampNeg) b.1 i.toNatClampNeg (b.2.2 v.toNatClampNeg j.toNatClampNeg)) b.1 j.toNatClampNeg (b.2.2 v.toNatClampNeg i.toNatClampNeg))
theorem sp_mk_uniq {b : pm_AB} {okv okk : Prop} {b' : pm_AB} {r r' : Int32} {x x' : pm_AB} (h : sp_mk b okv okk b' r x) (h' : sp_mk b okv okk b' r' x') : r = r' ∧ x = x' := by
  obtain ⟨h1, h2, h3, h4⟩ := h
  obtain ⟨g1, g2, g3, g4⟩ := h'
  by_cases a1 : okv
  · by_cases a2 : okk
    · by_cases a3 : b.1 = 40
      · exact ⟨(h3 a1 a2 a3).1.trans (g3 a1 a2 a3).1.symm, (h3 a1 a2 a3).2.trans (g3 a1 a2 a3).2.symm⟩
      · exact ⟨(h4 a1 a2 a3).1.trans (g4 a1 a2 a3).1.symm, (h4 a1 a2 a3).2.trans (g4 a1 a2 a3).2.symm⟩
    · exact ⟨(h2 a1 a2).1.trans (g2 a1 a2).1.symm, (h2 a1 a2).2.trans (g2 a1 a2).2.symm⟩
  · exact ⟨(h1 a1).1.trans (g1 a1).1.symm, (h1 a1).2.trans (g1 a1).2.symm⟩
theorem sp_meet_uniq {b : pm_AB} {v w r r' : Int32} (hn : b.1 ≤ 40) (h : sp_meet b v w r) (h' : sp_meet b v w r') : r = r' := by
  by_cases c : sp_ok b.1 v ∧ sp_ok b.1 w
  · obtain ⟨x, h1, rfl, h2, h3, h4⟩ := h.2 c
    obtain ⟨y, g1, rfl, g2, g3, g4⟩ := h'.2 c
    rw [Nat.le_antisymm (g4 x h1 h2 h3) (h4 y g1 g2 g3)]
  · rw [h.1 c, h'.1 c]
end
section
/-! ===== chains, and what the cells of the two objects say of the mathematical value ===== -/
/-- the list L stands behind the link h, by the links nx -/
def pm_chn (nx : Nat → Int32) : Int32 → List Nat → Prop
  | h, [] => h = -1
  | h, e :: t => h = nI e ∧ pm_chn nx (nx e) t
/-- the last of the run of a list's first entries with p, or f -/
def pm_adv (p : Nat → Bool) : Int32 → List Nat → Int32
  | f, [] => f
  | f, e :: t => if p e = true then pm_adv p (nI e) t else f
def pm_ov : Option Nat → Int32
  | none => -1
  | some e => nI e
/-- what an entry says -/
def pm_lk (k : pm_K0) : Option Nat → Option Int32
  | none => none
  | some e => if k_et k e = 1 then some (k_ea k e) else none
/-- insert: a new entry ne of key kk behind o -/
def pm_ins (k : pm_K0) (kk : Nat) (o : Option Nat) (ne : Nat) (v th va : Int32) : pm_K0 := match o with
  | none => (k_pa k, k_la k, k_fo k, upd (k_he k) kk (nI ne), upd (k_ev k) ne v, upd (k_ea k) ne va, upd (k_et k) ne th, upd (k_en k) ne (k_he k kk), k_cn k, nI (ne + 1))
  | some e => (k_pa k, k_la k, k_fo k, k_he k, upd (k_ev k) ne v, upd (k_ea k) ne va, upd (k_et k) ne th, upd (upd (k_en k) ne (k_en k e)) e (nI ne), k_cn k, nI (ne + 1))
/-- spreadLabels -/
def pm_spl (la : Nat → Int64) : List Nat → Nat → Nat → Int64
  | [], _ => la
  | e :: t, x => pm_spl (vp_updL la e (lN x)) t (x + 2 ^ 50)
/-- PersistentMap: versions and parents -/
def pm_Iv (k : pm_K0) (n : Nat) (par : Nat → Nat) : Prop := (1 ≤ n ∧ n ≤ 40 ∧ k_cn k = nI n) ∧ ∀ v, 0 < v → v < n → k_pa k v = nI (par v) ∧ par v < v
/-- the list of versions od, their places ps, their labels lb: each version's descendants follow it without a break -/
def pm_Io (k : pm_K0) (n : Nat) (par : Nat → Nat) (od : List Nat) (ps lb : Nat → Nat) : Prop :=
  pm_chn (k_fo k) (nI 0) od ∧ od.Perm (List.range n) ∧ od.Pairwise (fun x y => ps x < ps y) ∧ od.Pairwise (fun x y => lb x < lb y) ∧
  (∀ v, v < n → k_la k v = lN (lb v) ∧ lb v < 2 ^ 61) ∧
  (∀ v w, v < n → w < n → pm_an par v w = true → ps v ≤ ps w) ∧
  (∀ x y z, x < n → y < n → z < n → ps x ≤ ps y → ps y ≤ ps z → pm_an par x z = true → pm_an par x y = true)
/-- the entries: a key's list E key, their versions vv, sorted by place -/
def pm_Es (k : pm_K0) (n ne : Nat) (ps : Nat → Nat) (E : Nat → List Nat) (vv : Nat → Nat) : Prop :=
  (ne ≤ 640 ∧ k_es k = nI ne) ∧
  (∀ key, key < 32 → pm_chn (k_en k) (k_he k key) (E key) ∧ (E key).Pairwise (fun x y => ps (vv x) < ps (vv y)) ∧ ∀ e ∈ E key, e < ne ∧ vv e < n ∧ k_ev k e = nI (vv e) ∧ (k_et k e = 0 ∨ k_et k e = 1)) ∧
  (∀ k1 k2, k1 < 32 → k2 < 32 → k1 ≠ k2 → ∀ e ∈ E k1, e ∉ E k2)
/-- what holds at a version is said by the last entry that isn't behind it -/
def pm_Em (k : pm_K0) (n : Nat) (M : Nat → Nat → Option Int32) (ps : Nat → Nat) (E : Nat → List Nat) (vv : Nat → Nat) : Prop :=
  ∀ w key, w < n → key < 32 → M w key = pm_lk k ((E key).filter (fun e => decide (ps (vv e) ≤ ps w))).getLast?
/-- where version m has an entry, an entry stands between it and every version behind it -/
def pm_Ew (n m : Nat) (ps : Nat → Nat) (E : Nat → List Nat) (vv : Nat → Nat) : Prop :=
  ∀ key, key < 32 → ∀ e ∈ E key, vv e = m → ∀ w, w < n → ps m < ps w → ∃ e' ∈ E key, ps m < ps (vv e') ∧ ps (vv e') ≤ ps w
def pm_R0 (k : pm_K0) (b : pm_AB) (ne : Nat) : Prop := ∃ (od : List Nat) (ps lb : Nat → Nat) (E : Nat → List Nat) (vv : Nat → Nat), pm_Iv k b.1 b.2.1 ∧ pm_Io k b.1 b.2.1 od ps lb ∧ pm_Es k b.1 ne ps E vv ∧ pm_Em k b.1 b.2.2 ps E vv
/-- the same, while the version m is written -/
def pm_Rw (k : pm_K0) (b : pm_AB) (ne m : Nat) : Prop := ∃ (od : List Nat) (ps lb : Nat → Nat) (E : Nat → List Nat) (vv : Nat → Nat), pm_Iv k b.1 b.2.1 ∧ pm_Io k b.1 b.2.1 od ps lb ∧ pm_Es k b.1 ne ps E vv ∧ pm_Em k b.1 b.2.2 ps E vv ∧ pm_Ew b.1 m ps E vv
theorem pm_Rw.r0 {k : pm_K0} {b : pm_AB} {ne m : Nat} (h : pm_Rw k b ne m) : pm_R0 k b ne := by
  obtain ⟨od, ps, lb, E, vv, h1, h2, h3, h4, -⟩ := h
  exact ⟨od, ps, lb, E, vv, h1, h2, h3, h4⟩
theorem pm_R0.iv {k : pm_K0} {b : pm_AB} {ne : Nat} (h : pm_R0 k b ne) : pm_Iv k b.1 b.2.1 := by
  obtain ⟨od, ps, lb, E, vv, h1, -⟩ := h
  exact h1
/-- PersistentMapModel -/
def pm_R1 (k : pm_S1) (b : pm_AB) : Prop := (1 ≤ b.1 ∧ b.1 ≤ 40 ∧ r_cn k = nI b.1) ∧ (∀ v, 0 < v → v < b.1 → r_pa k v = nI (b.2.1 v) ∧ b.2.1 v < v) ∧
  ∀ v key, v < b.1 → key < 32 → (r_th k (32 * v + key) = 0 ∨ r_th k (32 * v + key) = 1) ∧ b.2.2 v key = if r_th k (32 * v + key) = 1 then some (r_wo k (32 * v + key)) else none
theorem pm_pw2 {f g : Nat → Nat} : ∀ (od : List Nat), od.Pairwise (fun x y => f x < f y) → od.Pairwise (fun x y => g x < g y) → ∀ v ∈ od, ∀ w ∈ od, (f v ≤ f w ↔ g v ≤ g w) := by
  intro od
  induction od with
  | nil => intro _ _ v hv; cases hv
  | cons x t ih =>
    intro h1 h2 v hv w hw
    rw [List.pairwise_cons] at h1 h2
    rcases List.mem_cons.mp hv with rfl | hv' <;> rcases List.mem_cons.mp hw with rfl | hw'
    · simp
    · have := h1.1 w hw'; have := h2.1 w hw'; omega
    · have := h1.1 v hv'; have := h2.1 v hv'; omega
    · exact ih h1.2 h2.2 v hv' w hw'
theorem pm_Io_in {k : pm_K0} {n : Nat} {par : Nat → Nat} {od : List Nat} {ps lb : Nat → Nat} (h : pm_Io k n par od ps lb) {v : Nat} : v ∈ od ↔ v < n := by
  rw [h.2.1.mem_iff, List.mem_range]
theorem pm_Io_cmp {k : pm_K0} {n : Nat} {par : Nat → Nat} {od : List Nat} {ps lb : Nat → Nat} (h : pm_Io k n par od ps lb) {v w : Nat} (hv : v < n) (hw : w < n) : lb v ≤ lb w ↔ ps v ≤ ps w :=
  pm_pw2 od h.2.2.2.1 h.2.2.1 v ((pm_Io_in h).mpr hv) w ((pm_Io_in h).mpr hw)
theorem pm_adv_congr {p p' : Nat → Bool} : ∀ (L : List Nat) (f : Int32), (∀ e ∈ L, p e = p' e) → pm_adv p f L = pm_adv p' f L := by
  intro L
  induction L with
  | nil => intro f _; rfl
  | cons e t ih =>
    intro f h
    show (if p e = true then pm_adv p (nI e) t else f) = (if p' e = true then pm_adv p' (nI e) t else f)
    rw [h e (List.mem_cons_self), ih (nI e) (fun x hx => h x (List.mem_cons_of_mem _ hx))]
theorem pm_adv_filter {g : Nat → Nat} {c : Nat} : ∀ (L : List Nat) (o : Option Nat), L.Pairwise (fun x y => g x < g y) → pm_adv (fun e => decide (g e ≤ c)) (pm_ov o) L = pm_ov ((L.filter (fun e => decide (g e ≤ c))).getLast?.or o) := by
  intro L
  induction L with
  | nil => intro o _; rfl
  | cons e t ih =>
    intro o h
    rw [List.pairwise_cons] at h
    show (if decide (g e ≤ c) = true then pm_adv _ (nI e) t else pm_ov o) = _
    by_cases q : g e ≤ c
    · rw [if_pos (by simpa using q)]
      have := ih (some e) h.2
      rw [show nI e = pm_ov (some e) from rfl, this]
      rw [List.filter_cons_of_pos (by simpa using q), List.getLast?_cons]
      cases (t.filter (fun e => decide (g e ≤ c))).getLast? <;> rfl
    · rw [if_neg (by simpa using q)]
      have hn : t.filter (fun e => decide (g e ≤ c)) = [] := by
        rw [List.filter_eq_nil_iff]
        intro x hx
        have := h.1 x hx
        simp; omega
      rw [List.filter_cons_of_neg (by simpa using q), hn]
      rfl
/-- what look needs, and what it finds -/
theorem pm_look_fact {k : pm_K0} {b : pm_AB} {ne : Nat} (hI : pm_R0 k b ne) {v kk : Nat} (hv : v < b.1) (hk : kk < 32) : ∃ (lb vv : Nat → Nat) (L : List Nat),
    (∀ e ∈ L, e < 640 ∧ vv e < 40 ∧ k_ev k e = nI (vv e) ∧ k_la k (vv e) = lN (lb (vv e)) ∧ lb (vv e) < 2 ^ 61) ∧ (k_la k v = lN (lb v) ∧ lb v < 2 ^ 61) ∧ pm_chn (k_en k) (k_he k kk) L ∧
    ∃ o : Option Nat, pm_adv (fun e => decide (lb (vv e) ≤ lb v)) (-1) L = pm_ov o ∧ (∀ e, o = some e → e < 640 ∧ (k_et k e = 0 ∨ k_et k e = 1)) ∧ b.2.2 v kk = pm_lk k o := by
  obtain ⟨od, ps, lb, E, vv, hv0, ho, he, hM⟩ := hI
  obtain ⟨⟨he1, he2⟩, hE, hdis⟩ := he
  obtain ⟨hc, hpw, hmem⟩ := hE kk hk
  have hn := hv0.1.2.1
  refine ⟨lb, vv, E kk, ?_, ho.2.2.2.2.1 v hv, hc, ((E kk).filter (fun e => decide (ps (vv e) ≤ ps v))).getLast?, ?_, ?_, hM v kk hv hk⟩
  · intro e h
    obtain ⟨h1, h2, h3, h4⟩ := hmem e h
    exact ⟨by omega, by omega, h3, ho.2.2.2.2.1 _ h2⟩
  · rw [pm_adv_congr (p' := fun e => decide (ps (vv e) ≤ ps v)) _ _ (fun e h => by
      have := pm_Io_cmp ho (hmem e h).2.1 hv
      simp [this])]
    have := pm_adv_filter (g := fun e => ps (vv e)) (c := ps v) (E kk) none hpw
    rw [show (-1 : Int32) = pm_ov none from rfl, this]
    congr 1
    cases (List.filter (fun e => decide (ps (vv e) ≤ ps v)) (E kk)).getLast? <;> rfl
  · intro e h
    have := List.mem_of_getLast? h
    have := hmem e (List.mem_filter.mp this).1
    exact ⟨by omega, this.2.2.2⟩
end
section
/-! ===== plain laws: chains, insertion, the writing of a version ===== -/
theorem pm_chn_congr {nx nx' : Nat → Int32} : ∀ (L : List Nat) (h : Int32), (∀ e ∈ L, nx' e = nx e) → pm_chn nx h L → pm_chn nx' h L := by
  intro L
  induction L with
  | nil => intro h _ hc; exact hc
  | cons e t ih =>
    intro h he hc
    refine ⟨hc.1, ?_⟩
    rw [he e List.mem_cons_self]
    exact ih _ (fun x hx => he x (List.mem_cons_of_mem _ hx)) hc.2
theorem pm_chn_at {nx : Nat → Int32} {e : Nat} {B : List Nat} : ∀ (A : List Nat) (h : Int32), pm_chn nx h (A ++ e :: B) → pm_chn nx (nx e) B := by
  intro A
  induction A with
  | nil => intro h hc; exact hc.2
  | cons a A ih => intro h hc; exact ih _ hc.2
theorem pm_chn_insert {nx : Nat → Int32} {e ne : Nat} {B : List Nat} : ∀ (A : List Nat) (h : Int32), (∀ x ∈ A, x ≠ e ∧ x ≠ ne) → (∀ x ∈ B, x ≠ e ∧ x ≠ ne) → e ≠ ne → pm_chn nx h (A ++ e :: B) → pm_chn (upd (upd nx ne (nx e)) e (nI ne)) h (A ++ e :: ne :: B) := by
  intro A
  induction A with
  | nil =>
    intro h hA hB hne hc
    refine ⟨hc.1, ?_, ?_⟩
    · exact pk_us
    · rw [pk_un (fun q => hne q.symm), pk_us]
      exact pm_chn_congr B _ (fun x hx => by rw [pk_un (hB x hx).1, pk_un (hB x hx).2]) hc.2
  | cons a A ih =>
    intro h hA hB hne hc
    have ha := hA a List.mem_cons_self
    refine ⟨hc.1, ?_⟩
    rw [pk_un ha.1, pk_un ha.2]
    exact ih _ (fun x hx => hA x (List.mem_cons_of_mem _ hx)) hB hne hc.2
theorem pm_split {g : Nat → Nat} {c : Nat} : ∀ (L : List Nat), L.Pairwise (fun x y => g x < g y) → ∃ L1 L2, L = L1 ++ L2 ∧ (∀ e ∈ L1, g e ≤ c) ∧ (∀ e ∈ L2, c < g e) := by
  intro L
  induction L with
  | nil => intro _; exact ⟨[], [], rfl, fun _ h => (by cases h), fun _ h => (by cases h)⟩
  | cons e t ih =>
    intro h
    rw [List.pairwise_cons] at h
    by_cases q : g e ≤ c
    · obtain ⟨L1, L2, h1, h2, h3⟩ := ih h.2
      refine ⟨e :: L1, L2, by rw [h1]; rfl, fun x hx => ?_, h3⟩
      rcases List.mem_cons.mp hx with rfl | hx
      · exact q
      · exact h2 x hx
    · refine ⟨[], e :: t, rfl, fun _ h => (by cases h), fun x hx => ?_⟩
      rcases List.mem_cons.mp hx with rfl | hx
      · omega
      · have := h.1 x hx; omega
theorem pm_filt {p : Nat → Bool} {L1 L2 : List Nat} (h1 : ∀ e ∈ L1, p e = true) (h2 : ∀ e ∈ L2, ¬ p e = true) : (L1 ++ L2).filter p = L1 := by
  rw [List.filter_append, List.filter_eq_self.mpr h1, List.filter_eq_nil_iff.mpr h2, List.append_nil]
/-- versions have places of their own -/
theorem pm_Io_inj {k : pm_K0} {n : Nat} {par : Nat → Nat} {od : List Nat} {ps lb : Nat → Nat} (h : pm_Io k n par od ps lb) {v w : Nat} (hv : v < n) (hw : w < n) (he : ps v = ps w) : v = w := by
  have key : ∀ (od : List Nat), od.Pairwise (fun x y => ps x < ps y) → ∀ v ∈ od, ∀ w ∈ od, ps v = ps w → v = w := by
    intro od
    induction od with
    | nil => intro _ v hv; cases hv
    | cons x t ih =>
      intro hp v hv w hw he
      rw [List.pairwise_cons] at hp
      rcases List.mem_cons.mp hv with rfl | hv' <;> rcases List.mem_cons.mp hw with rfl | hw'
      · rfl
      · have := hp.1 w hw'; omega
      · have := hp.1 v hv'; omega
      · exact ih hp.2 v hv' w hw' he
  exact key od h.2.2.1 v ((pm_Io_in h).mpr hv) w ((pm_Io_in h).mpr hw) he
/-- the version behind m -/
theorem pm_after {k : pm_K0} {n : Nat} {par : Nat → Nat} {od : List Nat} {ps lb : Nat → Nat} (h : pm_Io k n par od ps lb) {m : Nat} (hm : m < n) :
    (k_fo k m = -1 ∧ ∀ x, x < n → ps x ≤ ps m) ∨ ∃ w, w < n ∧ k_fo k m = nI w ∧ ps m < ps w ∧ ∀ x, x < n → ps m < ps x → ps w ≤ ps x := by
  obtain ⟨A, B, hAB⟩ := List.append_of_mem ((pm_Io_in h).mpr hm)
  have hc := h.1
  rw [hAB] at hc
  have hc := pm_chn_at A _ hc
  have hp := h.2.2.1
  rw [hAB, List.pairwise_append, List.pairwise_cons] at hp
  have hin : ∀ x, x < n → x ∈ A ∨ x = m ∨ x ∈ B := by
    intro x hx
    have := (pm_Io_in h).mpr hx
    rw [hAB] at this
    simpa using this
  cases B with
  | nil =>
    refine Or.inl ⟨hc, fun x hx => ?_⟩
    rcases hin x hx with q | q | q
    · exact Nat.le_of_lt (hp.2.2 x q m List.mem_cons_self)
    · rw [q]; exact Nat.le_refl _
    · cases q
  | cons w B =>
    have hw : w < n := (pm_Io_in h).mp (by rw [hAB]; simp)
    refine Or.inr ⟨w, hw, hc.1, hp.2.1.1 w List.mem_cons_self, fun x hx hlt => ?_⟩
    rcases hin x hx with q | q | q
    · have := hp.2.2 x q m List.mem_cons_self; omega
    · rw [q] at hlt; omega
    · rcases List.mem_cons.mp q with q | q
      · rw [q]; exact Nat.le_refl _
      · have := hp.2.1.2
        rw [List.pairwise_cons] at this
        exact Nat.le_of_lt (this.1 x q)
abbrev pm_fE (E : Nat → List Nat) (kk : Nat) (L : List Nat) : Nat → List Nat := fun key => if key = kk then L else E key
abbrev pm_fv (vv : Nat → Nat) (ne v : Nat) : Nat → Nat := fun e => if e = ne then v else vv e
theorem pm_nodup {g : Nat → Nat} {A B : List Nat} {e : Nat} (h : (A ++ e :: B).Pairwise (fun x y => g x < g y)) : (∀ x ∈ A, x ≠ e) ∧ ∀ x ∈ B, x ≠ e := by
  rw [List.pairwise_append, List.pairwise_cons] at h
  constructor
  · intro x hx q
    have := h.2.2 x hx e List.mem_cons_self
    rw [q] at this; omega
  · intro x hx q
    have := h.2.1.1 x hx
    rw [q] at this; omega
/-- an entry more: what doesn't depend on values -/
theorem pm_ins_s {k : pm_K0} {n ne : Nat} {ps : Nat → Nat} {E : Nat → List Nat} {vv : Nat → Nat} (h : pm_Es k n ne ps E vv) (hne : ne < 640) {kk : Nat} (hk : kk < 32) {L1 L2 : List Nat} (hL : E kk = L1 ++ L2) {v : Nat} (hv : v < n)
    (h1 : ∀ e ∈ L1, ps (vv e) < ps v) (h2 : ∀ e ∈ L2, ps v < ps (vv e)) (th va : Int32) (ht : th = 0 ∨ th = 1) :
    pm_Es (pm_ins k kk L1.getLast? ne (nI v) th va) n (ne + 1) ps (pm_fE E kk (L1 ++ ne :: L2)) (pm_fv vv ne v) := by
  obtain ⟨⟨hn1, hn2⟩, hE, hd⟩ := h
  have hlt : ∀ key, key < 32 → ∀ e ∈ E key, e < ne := fun key hkey e he => ((hE key hkey).2.2 e he).1
  have hvv : ∀ e, e < ne → pm_fv vv ne v e = vv e := fun e he => if_neg (by omega)
  have hvn : pm_fv vv ne v ne = v := if_pos rfl
  have hkk := hE kk hk
  rw [hL] at hkk
  have hltL : ∀ e ∈ L1 ++ L2, e < ne := fun e he => (hkk.2.2 e he).1
  refine ⟨⟨by omega, ?_⟩, ?_, ?_⟩
  · cases L1.getLast? <;> rfl
  · intro key hkey
    by_cases q : key = kk
    · subst q
      rw [show pm_fE E key (L1 ++ ne :: L2) key = L1 ++ ne :: L2 from if_pos rfl]
      refine ⟨?_, ?_, ?_⟩
      · rcases List.eq_nil_or_concat L1 with rfl | ⟨A, x, rfl⟩
        · show pm_chn (upd (k_en k) ne (k_he k key)) (upd (k_he k) key (nI ne) key) (ne :: L2)
          refine ⟨pk_us, ?_⟩
          rw [pk_us]
          exact pm_chn_congr _ _ (fun e he => pk_un (by have := hltL e (by simpa using he); omega)) hkk.1
        · rw [show (A.concat x).getLast? = some x by simp]
          show pm_chn (upd (upd (k_en k) ne (k_en k x)) x (nI ne)) (k_he k key) (A.concat x ++ ne :: L2)
          have e1 : A.concat x ++ L2 = A ++ x :: L2 := by simp
          have e2 : A.concat x ++ ne :: L2 = A ++ x :: ne :: L2 := by simp
          rw [e1] at hkk hltL
          rw [e2]
          have hnd := pm_nodup (g := fun e => ps (vv e)) hkk.2.1
          exact pm_chn_insert A _ (fun y hy => ⟨hnd.1 y hy, by have := hltL y (by simp [hy]); omega⟩) (fun y hy => ⟨hnd.2 y hy, by have := hltL y (by simp [hy]); omega⟩) (by have := hltL x (by simp); omega) hkk.1
      · have hp := hkk.2.1
        rw [List.pairwise_append] at hp
        rw [List.pairwise_append, List.pairwise_cons]
        have s1 : ∀ e ∈ L1, pm_fv vv ne v e = vv e := fun e he => hvv e (hltL e (by simp [he]))
        have s2 : ∀ e ∈ L2, pm_fv vv ne v e = vv e := fun e he => hvv e (hltL e (by simp [he]))
        refine ⟨?_, ⟨?_, ?_⟩, ?_⟩
        · refine hp.1.imp_of_mem ?_
          intro x y hx hy hxy
          rw [s1 x hx, s1 y hy]; exact hxy
        · intro y hy
          rw [hvn, s2 y hy]; exact h2 y hy
        · refine hp.2.1.imp_of_mem ?_
          intro x y hx hy hxy
          rw [s2 x hx, s2 y hy]; exact hxy
        · intro x hx y hy
          rcases List.mem_cons.mp hy with rfl | hy
          · rw [hvn, s1 x hx]; exact h1 x hx
          · rw [s1 x hx, s2 y hy]; exact hp.2.2 x hx y hy
      · intro e he
        have he : e ∈ L1 ++ L2 ∨ e = ne := by
          rcases List.mem_append.mp he with q | q
          · exact Or.inl (List.mem_append_left _ q)
          · rcases List.mem_cons.mp q with q | q
            · exact Or.inr q
            · exact Or.inl (List.mem_append_right _ q)
        rcases he with he | rfl
        · have := hkk.2.2 e he
          have hne2 : e ≠ ne := by omega
          rw [hvv e this.1]
          refine ⟨by omega, this.2.1, ?_, ?_⟩
          · rw [← this.2.2.1]
            cases L1.getLast? <;> exact pk_un hne2
          · have z : k_et (pm_ins k key L1.getLast? ne (nI v) th va) e = k_et k e := by cases L1.getLast? <;> exact pk_un hne2
            rw [z]; exact this.2.2.2
        · rw [hvn]
          refine ⟨by omega, hv, ?_, ?_⟩
          · cases L1.getLast? <;> exact pk_us
          · have z : k_et (pm_ins k key L1.getLast? e (nI v) th va) e = th := by cases L1.getLast? <;> exact pk_us
            rw [z]; exact ht
    · rw [show pm_fE E kk (L1 ++ ne :: L2) key = E key from if_neg q]
      obtain ⟨c1, c2, c3⟩ := hE key hkey
      refine ⟨?_, ?_, ?_⟩
      · rcases List.eq_nil_or_concat L1 with rfl | ⟨A, x, rfl⟩
        · show pm_chn (upd (k_en k) ne (k_he k kk)) (upd (k_he k) kk (nI ne) key) (E key)
          rw [pk_un q]
          exact pm_chn_congr _ _ (fun e he => pk_un (by have := hlt key hkey e he; omega)) c1
        · rw [show (A.concat x).getLast? = some x by simp]
          show pm_chn (upd (upd (k_en k) ne (k_en k x)) x (nI ne)) (k_he k key) (E key)
          have hx : x ∈ E kk := by rw [hL]; simp
          have hxn := hd kk key hk hkey (fun z => q z.symm) x hx
          exact pm_chn_congr _ _ (fun e he => by
            have z1 : e ≠ x := fun z => hxn (by rw [← z]; exact he)
            have z2 : e ≠ ne := by have := hlt key hkey e he; omega
            rw [pk_un z1, pk_un z2]) c1
      · refine c2.imp_of_mem ?_
        intro x y hx hy hxy
        rw [hvv x (c3 x hx).1, hvv y (c3 y hy).1]; exact hxy
      · intro e he
        have := c3 e he
        have hne2 : e ≠ ne := by omega
        rw [hvv e this.1]
        refine ⟨by omega, this.2.1, ?_, ?_⟩
        · rw [← this.2.2.1]
          cases L1.getLast? <;> exact pk_un hne2
        · have z : k_et (pm_ins k kk L1.getLast? ne (nI v) th va) e = k_et k e := by cases L1.getLast? <;> exact pk_un hne2
          rw [z]; exact this.2.2.2
  · have hin : ∀ key, key < 32 → ∀ e ∈ pm_fE E kk (L1 ++ ne :: L2) key, e ∈ E key ∨ (e = ne ∧ key = kk) := by
      intro key hkey e he
      by_cases q : key = kk
      · subst q
        rw [show pm_fE E key (L1 ++ ne :: L2) key = L1 ++ ne :: L2 from if_pos rfl] at he
        rcases List.mem_append.mp he with z | z
        · exact Or.inl (by rw [hL]; exact List.mem_append_left _ z)
        · rcases List.mem_cons.mp z with z | z
          · exact Or.inr ⟨z, rfl⟩
          · exact Or.inl (by rw [hL]; exact List.mem_append_right _ z)
      · rw [show pm_fE E kk (L1 ++ ne :: L2) key = E key from if_neg q] at he
        exact Or.inl he
    intro k1 k2 hk1 hk2 hne e he1 he2
    rcases hin k1 hk1 e he1 with z1 | ⟨z1, z1'⟩ <;> rcases hin k2 hk2 e he2 with z2 | ⟨z2, z2'⟩
    · exact hd k1 k2 hk1 hk2 hne e z1 z2
    · have := hlt k1 hk1 e z1; omega
    · have := hlt k2 hk2 e z2; omega
    · exact hne (z1'.trans z2'.symm)
end
section
/-! ===== plain laws: the writing of a version ===== -/
theorem pm_lk_eq {k k' : pm_K0} {o : Option Nat} (h : ∀ e, o = some e → k_et k' e = k_et k e ∧ k_ea k' e = k_ea k e) : pm_lk k' o = pm_lk k o := by
  cases o with
  | none => rfl
  | some e =>
    show (if k_et k' e = 1 then some (k_ea k' e) else none) = (if k_et k e = 1 then some (k_ea k e) else none)
    rw [(h e rfl).1, (h e rfl).2]
theorem pm_last_cons (x : Nat) (F : List Nat) : (x :: F).getLast? = F.getLast?.or (some x) := by
  rw [List.getLast?_cons]
  cases F.getLast? <;> rfl
theorem pm_or_some {F : List Nat} (h : F ≠ []) (o : Option Nat) : F.getLast?.or o = F.getLast? := by
  cases q : F.getLast? with
  | none => exact absurd (List.getLast?_eq_none_iff.mp q) h
  | some e => rfl
/-- the entry of version m is written over -/
theorem pm_wa {k : pm_K0} {b : pm_AB} {ne m kk e : Nat} {od : List Nat} {ps lb : Nat → Nat} {E : Nat → List Nat} {vv : Nat → Nat} {A L2 : List Nat}
    (hv : pm_Iv k b.1 b.2.1) (ho : pm_Io k b.1 b.2.1 od ps lb) (hs : pm_Es k b.1 ne ps E vv) (he : pm_Em k b.1 b.2.2 ps E vv) (hw : pm_Ew b.1 m ps E vv) (hm : m < b.1) (hk : kk < 32)
    (hL : E kk = (A ++ [e]) ++ L2) (hve : vv e = m) (h1 : ∀ x ∈ A ++ [e], ps (vv x) ≤ ps m) (h2 : ∀ x ∈ L2, ps m < ps (vv x)) (th va : Int32) (ht : th = 0 ∨ th = 1) :
    pm_Rw (k_sea (k_set k (upd (k_et k) e th)) (upd (k_ea k) e va)) (pm_wr b m kk (if th = 1 then some va else none)) ne m := by
  refine ⟨od, ps, lb, E, vv, hv, ho, ?_, ?_, hw⟩
  · obtain ⟨c1, c2, c3⟩ := hs
    refine ⟨c1, fun key hkey => ?_, c3⟩
    obtain ⟨d1, d2, d3⟩ := c2 key hkey
    refine ⟨d1, d2, fun x hx => ?_⟩
    obtain ⟨f1, f2, f3, f4⟩ := d3 x hx
    refine ⟨f1, f2, f3, ?_⟩
    show upd (k_et k) e th x = 0 ∨ upd (k_et k) e th x = 1
    by_cases q : x = e
    · rw [q, pk_us]; exact ht
    · rw [pk_un q]; exact f4
  · intro w key hwn hkey
    have hein : e ∈ E kk := by rw [hL]; simp
    have hne : ∀ o : Option Nat, o ≠ some e → pm_lk (k_sea (k_set k (upd (k_et k) e th)) (upd (k_ea k) e va)) o = pm_lk k o := by
      intro o hoe
      refine pm_lk_eq (fun x hx => ?_)
      have q : x ≠ e := fun z => hoe (by rw [hx, z])
      exact ⟨pk_un q, pk_un q⟩
    show pm_set b.2.2 m kk _ w key = _
    unfold pm_set
    by_cases q : w = m ∧ key = kk
    · rw [if_pos q]
      obtain ⟨rfl, rfl⟩ := q
      have hf : (E key).filter (fun x => decide (ps (vv x) ≤ ps w)) = A ++ [e] := by
        rw [hL]
        exact pm_filt (fun x hx => by simpa using h1 x hx) (fun x hx => by have := h2 x hx; simp; omega)
      rw [hf, List.getLast?_append]
      show _ = (if upd (k_et k) e th e = 1 then some (upd (k_ea k) e va e) else none)
      rw [pk_us, pk_us]
    · rw [if_neg q, he w key hwn hkey]
      refine (hne _ ?_).symm
      intro hlast
      have hmem := List.mem_filter.mp (List.mem_of_getLast? hlast)
      by_cases qk : key = kk
      · subst qk
        have hwm : w ≠ m := fun z => q ⟨z, rfl⟩
        have hle : ps m ≤ ps w := by have := hmem.2; rw [hve] at this; simpa using this
        have hlt : ps m < ps w := by
          rcases Nat.lt_or_ge (ps m) (ps w) with z | z
          · exact z
          · exact absurd (pm_Io_inj ho hwn hm (by omega)) hwm
        obtain ⟨e', he', g1, g2⟩ := hw key hk e hein hve w hwn hlt
        rw [hL] at he' hlast
        have he2 : e' ∈ L2 := by
          rcases List.mem_append.mp he' with z | z
          · have := h1 e' z; omega
          · exact z
        rw [List.filter_append, List.getLast?_append, pm_or_some] at hlast
        · have := (List.mem_filter.mp (List.mem_of_getLast? hlast)).1
          have := h2 e this
          rw [hve] at this; omega
        · intro z
          rw [List.filter_eq_nil_iff] at z
          exact z e' he2 (by simpa using g2)
      · exact hs.2.2 key kk hkey hk qk e hmem.1 hein
/-- an entry of version m comes: what then holds at each version -/
theorem pm_w_m {k k2 : pm_K0} {n ne m kk : Nat} {M : Nat → Nat → Option Int32} {ps : Nat → Nat} {E E2 : Nat → List Nat} {vv vv2 : Nat → Nat} {L1 L2 T : List Nat} {th va : Int32}
    (hs : pm_Es k n ne ps E vv) (he : pm_Em k n M ps E vv) (hinj : ∀ v w, v < n → w < n → ps v = ps w → v = w) (hm : m < n) (hk : kk < 32)
    (hL : E kk = L1 ++ L2) (h1 : ∀ e ∈ L1, ps (vv e) < ps m) (h2 : ∀ e ∈ L2, ps m < ps (vv e))
    (hE1 : E2 kk = L1 ++ ne :: T) (hE2 : ∀ key, key ≠ kk → E2 key = E key) (hv1 : ∀ e, e < ne → vv2 e = vv e) (hv2 : vv2 ne = m)
    (hk1 : ∀ e, e < ne → k_et k2 e = k_et k e ∧ k_ea k2 e = k_ea k e) (hk2 : k_et k2 ne = th ∧ k_ea k2 ne = va) (hT : ∀ e ∈ T, ps m < ps (vv2 e))
    (htail : ∀ w, w < n → ps m < ps w → pm_lk k2 ((T.filter (fun e => decide (ps (vv2 e) ≤ ps w))).getLast?.or (some ne)) = pm_lk k ((L2.filter (fun e => decide (ps (vv e) ≤ ps w))).getLast?.or L1.getLast?)) :
    pm_Em k2 n (pm_set M m kk (if th = 1 then some va else none)) ps E2 vv2 := by
  intro w key hwn hkey
  have hlt : ∀ key, key < 32 → ∀ e ∈ E key, e < ne := fun key hkey e h => ((hs.2.1 key hkey).2.2 e h).1
  have hfc : ∀ (L : List Nat), (∀ e ∈ L, e < ne) → L.filter (fun e => decide (ps (vv2 e) ≤ ps w)) = L.filter (fun e => decide (ps (vv e) ≤ ps w)) := by
    intro L h
    refine List.filter_congr (fun e hx => ?_)
    rw [hv1 e (h e hx)]
  unfold pm_set
  by_cases q : key = kk
  · subst q
    have hl1 : ∀ e ∈ L1, e < ne := fun e h => hlt key hkey e (by rw [hL]; exact List.mem_append_left _ h)
    have hl2 : ∀ e ∈ L2, e < ne := fun e h => hlt key hkey e (by rw [hL]; exact List.mem_append_right _ h)
    rw [hE1, List.filter_append]
    rcases Nat.lt_trichotomy (ps w) (ps m) with c | c | c
    · have hwm : ¬ (w = m ∧ key = key) := by rintro ⟨z, -⟩; rw [z] at c; omega
      rw [if_neg hwm, he w key hwn hkey, hL, List.filter_append]
      have f1 : T.filter (fun e => decide (ps (vv2 e) ≤ ps w)) = [] := List.filter_eq_nil_iff.mpr (fun e h => by have := hT e h; simp; omega)
      have f2 : L2.filter (fun e => decide (ps (vv e) ≤ ps w)) = [] := List.filter_eq_nil_iff.mpr (fun e h => by have := h2 e h; simp; omega)
      rw [List.filter_cons_of_neg (by rw [hv2]; simp; omega), f1, f2, hfc L1 hl1]
      refine (pm_lk_eq (fun e h => ?_)).symm
      have := List.mem_of_getLast? h
      rw [List.append_nil] at this
      exact hk1 e (hl1 e (List.mem_filter.mp this).1)
    · have hwm : w = m := hinj w m hwn hm c
      rw [if_pos ⟨hwm, rfl⟩]
      have f1 : T.filter (fun e => decide (ps (vv2 e) ≤ ps w)) = [] := List.filter_eq_nil_iff.mpr (fun e h => by have := hT e h; simp; omega)
      rw [List.filter_cons_of_pos (by rw [hv2]; simp; omega), f1, List.getLast?_append]
      show _ = (if k_et k2 ne = 1 then some (k_ea k2 ne) else none)
      rw [hk2.1, hk2.2]
    · have hwm : ¬ (w = m ∧ key = key) := by rintro ⟨z, -⟩; rw [z] at c; omega
      rw [if_neg hwm, he w key hwn hkey, hL, List.filter_append, List.getLast?_append, List.getLast?_append]
      rw [List.filter_cons_of_pos (by rw [hv2]; simp; omega), pm_last_cons]
      have f3 : L1.filter (fun e => decide (ps (vv e) ≤ ps w)) = L1 := List.filter_eq_self.mpr (fun e h => by have := h1 e h; simp; omega)
      rw [hfc L1 hl1, f3]
      rw [← htail w hwn c]
      congr 1
      cases (T.filter (fun e => decide (ps (vv2 e) ≤ ps w))).getLast? <;> rfl
  · rw [if_neg (fun z => q z.2), he w key hwn hkey, hE2 key q, hfc _ (hlt key hkey)]
    refine (pm_lk_eq (fun e h => ?_)).symm
    exact hk1 e (hlt key hkey e (List.mem_filter.mp (List.mem_of_getLast? h)).1)
theorem pm_ins_v {k : pm_K0} {kk ne : Nat} {o : Option Nat} {v th va : Int32} : k_pa (pm_ins k kk o ne v th va) = k_pa k ∧ k_la (pm_ins k kk o ne v th va) = k_la k ∧ k_fo (pm_ins k kk o ne v th va) = k_fo k ∧ k_cn (pm_ins k kk o ne v th va) = k_cn k := by
  cases o <;> exact ⟨rfl, rfl, rfl, rfl⟩
theorem pm_ins_e {k : pm_K0} {kk ne : Nat} {o : Option Nat} {v th va : Int32} {e : Nat} (h : e ≠ ne) : k_et (pm_ins k kk o ne v th va) e = k_et k e ∧ k_ea (pm_ins k kk o ne v th va) e = k_ea k e ∧ k_ev (pm_ins k kk o ne v th va) e = k_ev k e := by
  cases o <;> exact ⟨pk_un h, pk_un h, pk_un h⟩
theorem pm_ins_n {k : pm_K0} {kk ne : Nat} {o : Option Nat} {v th va : Int32} : k_et (pm_ins k kk o ne v th va) ne = th ∧ k_ea (pm_ins k kk o ne v th va) ne = va ∧ k_ev (pm_ins k kk o ne v th va) ne = v := by
  cases o <;> exact ⟨pk_us, pk_us, pk_us⟩
theorem pm_Iv_ins {k : pm_K0} {n : Nat} {par : Nat → Nat} {kk ne : Nat} {o : Option Nat} {v th va : Int32} (h : pm_Iv k n par) : pm_Iv (pm_ins k kk o ne v th va) n par := by
  cases o <;> exact h
theorem pm_Io_ins {k : pm_K0} {n : Nat} {par : Nat → Nat} {od : List Nat} {ps lb : Nat → Nat} {kk ne : Nat} {o : Option Nat} {v th va : Int32} (h : pm_Io k n par od ps lb) : pm_Io (pm_ins k kk o ne v th va) n par od ps lb := by
  cases o <;> exact h
/-- one entry: m is the last version, or the version w behind it has an entry of its own -/
theorem pm_wb {k : pm_K0} {b : pm_AB} {ne m kk : Nat} {od : List Nat} {ps lb : Nat → Nat} {E : Nat → List Nat} {vv : Nat → Nat} {L1 L2 : List Nat}
    (hv : pm_Iv k b.1 b.2.1) (ho : pm_Io k b.1 b.2.1 od ps lb) (hs : pm_Es k b.1 ne ps E vv) (he : pm_Em k b.1 b.2.2 ps E vv) (hw : pm_Ew b.1 m ps E vv) (hm : m < b.1) (hk : kk < 32) (hne : ne < 640)
    (hL : E kk = L1 ++ L2) (h1 : ∀ x ∈ L1, ps (vv x) < ps m) (h2 : ∀ x ∈ L2, ps m < ps (vv x)) (th va : Int32) (ht : th = 0 ∨ th = 1)
    (hown : ∀ w, w < b.1 → ps m < ps w → ∃ e ∈ L2, ps (vv e) ≤ ps w) :
    pm_Rw (pm_ins k kk L1.getLast? ne (nI m) th va) (pm_wr b m kk (if th = 1 then some va else none)) (ne + 1) m := by
  have hlt : ∀ key, key < 32 → ∀ e ∈ E key, e < ne := fun key hkey e h => ((hs.2.1 key hkey).2.2 e h).1
  have hl2 : ∀ e ∈ L2, e < ne := fun e h => hlt kk hk e (by rw [hL]; exact List.mem_append_right _ h)
  have hvv : ∀ e, e < ne → pm_fv vv ne m e = vv e := fun e h => if_neg (by omega)
  refine ⟨od, ps, lb, pm_fE E kk (L1 ++ ne :: L2), pm_fv vv ne m, pm_Iv_ins hv, pm_Io_ins ho, pm_ins_s hs hne hk hL hm h1 h2 th va ht, ?_, ?_⟩
  · refine pm_w_m (T := L2) (L2 := L2) hs he (fun v w a1 a2 a3 => pm_Io_inj ho a1 a2 a3) hm hk hL h1 h2 (if_pos rfl) (fun key q => if_neg q) hvv (if_pos rfl) (fun e h => ⟨(pm_ins_e (by omega)).1, (pm_ins_e (by omega)).2.1⟩) ⟨pm_ins_n.1, pm_ins_n.2.1⟩ (fun e h => by rw [hvv e (hl2 e h)]; exact h2 e h) ?_
    intro w hwn c
    obtain ⟨e, he2, hle⟩ := hown w hwn c
    have hfc : L2.filter (fun e => decide (ps (pm_fv vv ne m e) ≤ ps w)) = L2.filter (fun e => decide (ps (vv e) ≤ ps w)) := List.filter_congr (fun e h => by rw [hvv e (hl2 e h)])
    have hnn : L2.filter (fun e => decide (ps (vv e) ≤ ps w)) ≠ [] := by
      intro z
      rw [List.filter_eq_nil_iff] at z
      exact z e he2 (by simpa using hle)
    rw [hfc, pm_or_some hnn, pm_or_some hnn]
    refine pm_lk_eq (fun x hx => ?_)
    have := hl2 x (List.mem_filter.mp (List.mem_of_getLast? hx)).1
    exact ⟨(pm_ins_e (by omega)).1, (pm_ins_e (by omega)).2.1⟩
  · intro key hkey e hee hve w hwn c
    by_cases q : key = kk
    · subst q
      obtain ⟨x, hx, hle⟩ := hown w hwn c
      refine ⟨x, ?_, ?_⟩
      · rw [show pm_fE E key (L1 ++ ne :: L2) key = L1 ++ ne :: L2 from if_pos rfl]
        simp [hx]
      · rw [hvv x (hl2 x hx)]
        exact ⟨h2 x hx, hle⟩
    · rw [show pm_fE E kk (L1 ++ ne :: L2) key = E key from if_neg q] at hee ⊢
      have hl := hlt key hkey
      rw [hvv e (hl e hee)] at hve
      obtain ⟨x, hx, g1, g2⟩ := hw key hkey e hee hve w hwn c
      exact ⟨x, hx, by rw [hvv x (hl x hx)]; exact ⟨g1, g2⟩⟩
/-- two entries: the version w behind m gets one for what was there before -/
theorem pm_wc {k : pm_K0} {b : pm_AB} {ne m w kk : Nat} {od : List Nat} {ps lb : Nat → Nat} {E : Nat → List Nat} {vv : Nat → Nat} {L1 L2 : List Nat}
    (hv : pm_Iv k b.1 b.2.1) (ho : pm_Io k b.1 b.2.1 od ps lb) (hs : pm_Es k b.1 ne ps E vv) (he : pm_Em k b.1 b.2.2 ps E vv) (hw : pm_Ew b.1 m ps E vv) (hm : m < b.1) (hk : kk < 32) (hne : ne + 1 < 640)
    (hL : E kk = L1 ++ L2) (h1 : ∀ x ∈ L1, ps (vv x) < ps m) (h2 : ∀ x ∈ L2, ps w < ps (vv x)) (th va : Int32) (ht : th = 0 ∨ th = 1)
    (hwn : w < b.1) (hmw : ps m < ps w) (haft : ∀ x, x < b.1 → ps m < ps x → ps w ≤ ps x) (ot ov : Int32) (hot : ot = 0 ∨ ot = 1) (hold : pm_lk k L1.getLast? = if ot = 1 then some ov else none) :
    pm_Rw (pm_ins (pm_ins k kk L1.getLast? ne (nI m) th va) kk (some ne) (ne + 1) (nI w) ot ov) (pm_wr b m kk (if th = 1 then some va else none)) (ne + 2) m := by
  have hlt : ∀ key, key < 32 → ∀ e ∈ E key, e < ne := fun key hkey e h => ((hs.2.1 key hkey).2.2 e h).1
  have hl1 : ∀ e ∈ L1, e < ne := fun e h => hlt kk hk e (by rw [hL]; exact List.mem_append_left _ h)
  have hl2 : ∀ e ∈ L2, e < ne := fun e h => hlt kk hk e (by rw [hL]; exact List.mem_append_right _ h)
  have hvv : ∀ e, e < ne → pm_fv (pm_fv vv ne m) (ne + 1) w e = vv e := fun e h => by
    rw [show pm_fv (pm_fv vv ne m) (ne + 1) w e = pm_fv vv ne m e from if_neg (by omega)]
    exact if_neg (by omega)
  have hvn : pm_fv (pm_fv vv ne m) (ne + 1) w ne = m := by
    rw [show pm_fv (pm_fv vv ne m) (ne + 1) w ne = pm_fv vv ne m ne from if_neg (by omega)]
    exact if_pos rfl
  have hvn1 : pm_fv (pm_fv vv ne m) (ne + 1) w (ne + 1) = w := if_pos rfl
  have hs1 := pm_ins_s hs (by omega) hk hL hm h1 (fun e h => by have := h2 e h; omega) th va ht
  have hs2 := pm_ins_s (L1 := L1 ++ [ne]) (L2 := L2) (v := w) hs1 (by omega) hk (by rw [show pm_fE E kk (L1 ++ ne :: L2) kk = L1 ++ ne :: L2 from if_pos rfl]; simp) hwn
    (fun e h => by
      rcases List.mem_append.mp h with z | z
      · rw [show pm_fv vv ne m e = vv e from if_neg (by have := hl1 e z; omega)]; have := h1 e z; omega
      · rw [List.mem_singleton.mp z, show pm_fv vv ne m ne = m from if_pos rfl]; exact hmw)
    (fun e h => by rw [show pm_fv vv ne m e = vv e from if_neg (by have := hl2 e h; omega)]; exact h2 e h) ot ov hot
  rw [show (L1 ++ [ne]).getLast? = some ne by simp] at hs2
  have hke : ∀ e, e < ne → k_et (pm_ins (pm_ins k kk L1.getLast? ne (nI m) th va) kk (some ne) (ne + 1) (nI w) ot ov) e = k_et k e ∧ k_ea (pm_ins (pm_ins k kk L1.getLast? ne (nI m) th va) kk (some ne) (ne + 1) (nI w) ot ov) e = k_ea k e := fun e h =>
    ⟨(pm_ins_e (by omega)).1.trans (pm_ins_e (by omega)).1, (pm_ins_e (by omega)).2.1.trans (pm_ins_e (by omega)).2.1⟩
  refine ⟨od, ps, lb, _, _, pm_Iv_ins (pm_Iv_ins hv), pm_Io_ins (pm_Io_ins ho), hs2, ?_, ?_⟩
  · refine pm_w_m (T := (ne + 1) :: L2) (L2 := L2) hs he (fun v w a1 a2 a3 => pm_Io_inj ho a1 a2 a3) hm hk hL h1 (fun e h => by have := h2 e h; omega) ?_ ?_ hvv hvn hke ⟨(pm_ins_e (by omega)).1.trans pm_ins_n.1, (pm_ins_e (by omega)).2.1.trans pm_ins_n.2.1⟩ ?_ ?_
    · rw [show pm_fE (pm_fE E kk (L1 ++ ne :: L2)) kk (L1 ++ [ne] ++ (ne + 1) :: L2) kk = L1 ++ [ne] ++ (ne + 1) :: L2 from if_pos rfl]
      simp
    · intro key q
      rw [show pm_fE (pm_fE E kk (L1 ++ ne :: L2)) kk (L1 ++ [ne] ++ (ne + 1) :: L2) key = pm_fE E kk (L1 ++ ne :: L2) key from if_neg q]
      exact if_neg q
    · intro e h
      rcases List.mem_cons.mp h with rfl | h
      · rw [hvn1]; exact hmw
      · rw [hvv e (hl2 e h)]; have := h2 e h; omega
    · intro x hxn c
      have hfc : L2.filter (fun e => decide (ps (pm_fv (pm_fv vv ne m) (ne + 1) w e) ≤ ps x)) = L2.filter (fun e => decide (ps (vv e) ≤ ps x)) := List.filter_congr (fun e h => by rw [hvv e (hl2 e h)])
      rw [List.filter_cons_of_pos (by rw [hvn1]; simpa using haft x hxn c), hfc, pm_last_cons]
      cases q : (L2.filter (fun e => decide (ps (vv e) ≤ ps x))).getLast? with
      | none =>
        show pm_lk _ (some (ne + 1)) = pm_lk k (L1.getLast?)
        rw [hold]
        show (if k_et _ (ne + 1) = 1 then some (k_ea _ (ne + 1)) else none) = _
        rw [pm_ins_n.1, pm_ins_n.2.1]
      | some y =>
        show pm_lk _ (some y) = pm_lk k (some y)
        refine pm_lk_eq (fun z hz => ?_)
        cases hz
        exact hke y (hl2 y (List.mem_filter.mp (List.mem_of_getLast? q)).1)
  · intro key hkey e hee hve x hxn c
    by_cases q : key = kk
    · subst q
      refine ⟨ne + 1, ?_, ?_⟩
      · rw [show pm_fE (pm_fE E key (L1 ++ ne :: L2)) key (L1 ++ [ne] ++ (ne + 1) :: L2) key = L1 ++ [ne] ++ (ne + 1) :: L2 from if_pos rfl]
        simp
      · rw [hvn1]
        exact ⟨hmw, haft x hxn c⟩
    · have z : pm_fE (pm_fE E kk (L1 ++ ne :: L2)) kk (L1 ++ [ne] ++ (ne + 1) :: L2) key = E key := by
        rw [show pm_fE (pm_fE E kk (L1 ++ ne :: L2)) kk (L1 ++ [ne] ++ (ne + 1) :: L2) key = pm_fE E kk (L1 ++ ne :: L2) key from if_neg q]
        exact if_neg q
      rw [z] at hee ⊢
      have hl := hlt key hkey
      rw [hvv e (hl e hee)] at hve
      obtain ⟨y, hy, g1, g2⟩ := hw key hkey e hee hve x hxn c
      exact ⟨y, hy, by rw [hvv y (hl y hy)]; exact ⟨g1, g2⟩⟩
end
section
/-! ===== plain laws: a new version ===== -/
/-- the core behind open(v), with labels la -/
def pm_opk (k : pm_K0) (n v : Nat) (la : Nat → Int64) : pm_K0 := (upd (k_pa k) n (nI v), la, upd (upd (k_fo k) n (k_fo k v)) v (nI n), k_he k, k_ev k, k_ea k, k_et k, k_en k, nI (n + 1), k_es k)
theorem pm_dn_of {k : pm_K0} {n : Nat} {par : Nat → Nat} (h : pm_Iv k n par) : pm_dn n par := fun v h0 hv => (h.2 v h0 hv).2
theorem pm_open_R {k : pm_K0} {b : pm_AB} {ne v : Nat} {A B : List Nat} {ps lb lb2 : Nat → Nat} {E : Nat → List Nat} {vv : Nat → Nat} {la : Nat → Int64}
    (hv : pm_Iv k b.1 b.2.1) (ho : pm_Io k b.1 b.2.1 (A ++ v :: B) ps lb) (hs : pm_Es k b.1 ne ps E vv) (he : pm_Em k b.1 b.2.2 ps E vv) (hvn : v < b.1) (hn : b.1 < 40)
    (hp : (A ++ v :: b.1 :: B).Pairwise (fun x y => lb2 x < lb2 y)) (hla : ∀ x, x < b.1 + 1 → la x = lN (lb2 x) ∧ lb2 x < 2 ^ 61) :
    pm_Rw (pm_opk k b.1 v la) (pm_opn b v) ne b.1 := by
  obtain ⟨n, par, M⟩ := b
  dsimp only at hv ho hs he hvn hn hp hla ⊢
  obtain ⟨hc, hperm, hpw, hlw, hlab, ha1, ha2⟩ := id ho
  have hin : ∀ x, x ∈ A ++ v :: B ↔ x < n := fun x => pm_Io_in ho
  have hd := pm_dn_of hv
  obtain ⟨par2, hp1, hpe, hp3⟩ : ∃ par2 : Nat → Nat, (pm_opn (n, par, M) v).2.1 = par2 ∧ (∀ w, w < n → par2 w = par w) ∧ par2 n = v := ⟨_, rfl, fun w h => if_neg (by omega), if_pos rfl⟩
  have hd2 : pm_dn (n + 1) par2 := by
    intro w h0 hw
    by_cases q : w = n
    · rw [q, hp3]; exact hvn
    · rw [hpe w (by omega)]; exact hd w h0 (by omega)
  have an1 : ∀ x w, w < n → pm_an par2 x w = pm_an par x w := fun x w hw => pm_an_ext hd hpe hw
  have an2 : ∀ x, x < n → pm_an par2 x n = pm_an par x v := by
    intro x hx
    rw [pm_an_up (n := n + 1) (by omega) hd2 hx (by omega), hp3]
    exact an1 x v hvn
  have an3 : ∀ w, w < n → pm_an par2 n w = false := fun w hw => pm_an_lt hw
  have hnd := pm_nodup (g := ps) hpw
  have hnA : ∀ x ∈ A, x < n := fun x hx => (hin x).mp (by simp [hx])
  have hnB : ∀ x ∈ B, x < n := fun x hx => (hin x).mp (by simp [hx])
  obtain ⟨ps2, p1, p2⟩ : ∃ ps2 : Nat → Nat, (∀ x, x < n → ps2 x = 2 * ps x) ∧ ps2 n = 2 * ps v + 1 := ⟨fun x => if x = n then 2 * ps v + 1 else 2 * ps x, fun x hx => if_neg (by omega), if_pos rfl⟩
  refine ⟨A ++ v :: n :: B, ps2, lb2, E, vv, ?_, ?_, ?_, ?_, ?_⟩
  · refine ⟨⟨Nat.le_add_left 1 n, hn, rfl⟩, ?_⟩
    intro w h0 hw
    rw [hp1]
    show upd (k_pa k) n (nI v) w = nI (par2 w) ∧ par2 w < w
    by_cases q : w = n
    · rw [q, hp3, pk_us]; exact ⟨rfl, hvn⟩
    · rw [hpe w (by have : w < n + 1 := hw; omega), pk_un q]; exact hv.2 w h0 (by have : w < n + 1 := hw; omega)
  · rw [hp1]
    show pm_Io _ (n + 1) par2 _ _ _
    refine ⟨?_, ?_, ?_, hp, hla, ?_, ?_⟩
    · exact pm_chn_insert A _ (fun x hx => ⟨hnd.1 x hx, by have := hnA x hx; omega⟩) (fun x hx => ⟨hnd.2 x hx, by have := hnB x hx; omega⟩) (by omega) hc
    · show (A ++ v :: n :: B).Perm (List.range (n + 1))
      rw [List.range_succ]
      have e1 : (A ++ v :: n :: B).Perm (n :: (A ++ v :: B)) := by
        have := List.perm_middle (a := n) (l₁ := A ++ [v]) (l₂ := B)
        simpa using this
      have e2 : (n :: (A ++ v :: B)).Perm (n :: List.range n) := hperm.cons n
      have e3 : (n :: List.range n).Perm (List.range n ++ [n]) := (List.perm_append_singleton n (List.range n)).symm
      exact (e1.trans e2).trans e3
    · rw [List.pairwise_append, List.pairwise_cons] at hpw
      rw [List.pairwise_append, List.pairwise_cons, List.pairwise_cons]
      refine ⟨?_, ⟨?_, ?_, ?_⟩, ?_⟩
      · refine hpw.1.imp_of_mem ?_
        intro x y hx hy hxy
        rw [p1 x (hnA x hx), p1 y (hnA y hy)]; omega
      · intro y hy
        rcases List.mem_cons.mp hy with rfl | hy
        · rw [p1 v hvn, p2]; omega
        · rw [p1 v hvn, p1 y (hnB y hy)]; have := hpw.2.1.1 y hy; omega
      · intro y hy
        rw [p2, p1 y (hnB y hy)]; have := hpw.2.1.1 y hy; omega
      · refine hpw.2.1.2.imp_of_mem ?_
        intro x y hx hy hxy
        rw [p1 x (hnB x hx), p1 y (hnB y hy)]; omega
      · intro x hx y hy
        rcases List.mem_cons.mp hy with rfl | hy
        · rw [p1 x (hnA x hx), p1 y hvn]; have := hpw.2.2 x hx y List.mem_cons_self; omega
        · rcases List.mem_cons.mp hy with rfl | hy
          · rw [p1 x (hnA x hx), p2]; have := hpw.2.2 x hx v List.mem_cons_self; omega
          · rw [p1 x (hnA x hx), p1 y (hnB y hy)]; have := hpw.2.2 x hx y (List.mem_cons_of_mem _ hy); omega
    · intro x w hx hw h
      by_cases qw : w = n
      · rw [qw] at h ⊢
        by_cases qx : x = n
        · rw [qx]; exact Nat.le_refl _
        · rw [an2 x (by omega)] at h
          rw [p1 x (by omega), p2]
          have := ha1 x v (by omega) hvn h; omega
      · by_cases qx : x = n
        · rw [qx, an3 w (by omega)] at h; cases h
        · rw [an1 x w (by omega)] at h
          rw [p1 x (by omega), p1 w (by omega)]
          have := ha1 x w (by omega) (by omega) h; omega
    · intro x y z hx hy hz hxy hyz h
      by_cases qx : x = n
      · rw [qx] at hxy h ⊢
        by_cases qz : z = n
        · rw [qz] at hyz h
          by_cases qy : y = n
          · rw [qy]; exact pm_an_self _ _
          · rw [p2, p1 y (by omega)] at hxy
            rw [p2, p1 y (by omega)] at hyz
            omega
        · rw [an3 z (by omega)] at h; cases h
      · by_cases qz : z = n
        · rw [qz] at hyz h
          rw [an2 x (by omega)] at h
          by_cases qy : y = n
          · rw [qy, an2 x (by omega)]; exact h
          · rw [an1 x y (by omega)]
            rw [p1 x (by omega), p1 y (by omega)] at hxy
            rw [p2, p1 y (by omega)] at hyz
            exact ha2 x y v (by omega) (by omega) hvn (by omega) (by omega) h
        · rw [an1 x z (by omega)] at h
          by_cases qy : y = n
          · rw [qy] at hxy hyz ⊢
            rw [an2 x (by omega)]
            rw [p1 x (by omega), p2] at hxy
            rw [p2, p1 z (by omega)] at hyz
            exact ha2 x v z (by omega) hvn (by omega) (by omega) (by omega) h
          · rw [an1 x y (by omega)]
            rw [p1 x (by omega), p1 y (by omega)] at hxy
            rw [p1 y (by omega), p1 z (by omega)] at hyz
            exact ha2 x y z (by omega) (by omega) (by omega) (by omega) (by omega) h
  · obtain ⟨c1, c2, c3⟩ := hs
    refine ⟨c1, fun key hkey => ?_, c3⟩
    obtain ⟨d1, d2, d3⟩ := c2 key hkey
    refine ⟨d1, ?_, fun e hee => ?_⟩
    · refine d2.imp_of_mem ?_
      intro x y hx hy hxy
      rw [p1 _ (d3 x hx).2.1, p1 _ (d3 y hy).2.1]; omega
    · obtain ⟨f1, f2, f3, f4⟩ := d3 e hee
      exact ⟨f1, Nat.lt_succ_of_lt f2, f3, f4⟩
  · intro w key hw hkey
    have hw : w < n + 1 := hw
    show (if w = n then M v key else M w key) = pm_lk k _
    have d3 := (hs.2.1 key hkey).2.2
    by_cases q : w = n
    · rw [if_pos q, he v key hvn hkey, q]
      congr 2
      refine List.filter_congr (fun e hee => ?_)
      rw [p2, p1 _ (d3 e hee).2.1]
      simp; omega
    · rw [if_neg q, he w key (by show w < n; omega) hkey]
      congr 2
      refine List.filter_congr (fun e hee => ?_)
      rw [p1 w (by omega), p1 _ (d3 e hee).2.1]
      simp; omega
  · intro key hkey e hee hve
    have := ((hs.2.1 key hkey).2.2 e hee).2.1
    omega
/-- a label between -/
theorem pm_open_mid {k : pm_K0} {b : pm_AB} {ne v up : Nat} {A B : List Nat} {ps lb : Nat → Nat} {E : Nat → List Nat} {vv : Nat → Nat}
    (hv : pm_Iv k b.1 b.2.1) (ho : pm_Io k b.1 b.2.1 (A ++ v :: B) ps lb) (hs : pm_Es k b.1 ne ps E vv) (he : pm_Em k b.1 b.2.2 ps E vv) (hvn : v < b.1) (hn : b.1 < 40)
    (hup : ∀ x ∈ B, up ≤ lb x) (hup2 : up ≤ 2 ^ 61) (hgap : lb v + 2 ≤ up) : pm_Rw (pm_opk k b.1 v (vp_updL (k_la k) b.1 (lN (lb v + (up - lb v) / 2)))) (pm_opn b v) ne b.1 := by
  have hin : ∀ x, x ∈ A ++ v :: B ↔ x < b.1 := fun x => pm_Io_in ho
  obtain ⟨lb2, q1, q2⟩ : ∃ lb2 : Nat → Nat, (∀ x, x < b.1 → lb2 x = lb x) ∧ lb2 b.1 = lb v + (up - lb v) / 2 := ⟨fun x => if x = b.1 then lb v + (up - lb v) / 2 else lb x, fun x h => if_neg (by omega), if_pos rfl⟩
  have hnA : ∀ x ∈ A, x < b.1 := fun x hx => (hin x).mp (by simp [hx])
  have hnB : ∀ x ∈ B, x < b.1 := fun x hx => (hin x).mp (by simp [hx])
  have hlw := ho.2.2.2.1
  rw [List.pairwise_append, List.pairwise_cons] at hlw
  refine pm_open_R (lb2 := lb2) hv ho hs he hvn hn ?_ ?_
  · rw [List.pairwise_append, List.pairwise_cons, List.pairwise_cons]
    refine ⟨?_, ⟨?_, ?_, ?_⟩, ?_⟩
    · refine hlw.1.imp_of_mem ?_
      intro x y hx hy hxy
      rw [q1 x (hnA x hx), q1 y (hnA y hy)]; exact hxy
    · intro y hy
      rcases List.mem_cons.mp hy with rfl | hy
      · rw [q1 v hvn, q2]; omega
      · rw [q1 v hvn, q1 y (hnB y hy)]; exact hlw.2.1.1 y hy
    · intro y hy
      rw [q2, q1 y (hnB y hy)]; have := hup y hy; omega
    · refine hlw.2.1.2.imp_of_mem ?_
      intro x y hx hy hxy
      rw [q1 x (hnB x hx), q1 y (hnB y hy)]; exact hxy
    · intro x hx y hy
      rcases List.mem_cons.mp hy with rfl | hy
      · rw [q1 x (hnA x hx), q1 y hvn]; exact hlw.2.2 x hx y List.mem_cons_self
      · rcases List.mem_cons.mp hy with rfl | hy
        · rw [q1 x (hnA x hx), q2]; have := hlw.2.2 x hx v List.mem_cons_self; omega
        · rw [q1 x (hnA x hx), q1 y (hnB y hy)]; exact hlw.2.2 x hx y (List.mem_cons_of_mem _ hy)
  · intro x hx
    by_cases q : x = b.1
    · rw [q, q2, pk_uLs]; exact ⟨rfl, by omega⟩
    · rw [q1 x (by omega), pk_uLn q]; exact ho.2.2.2.2.1 x (by omega)
/-! labels spread anew -/
def pm_lbs : List Nat → Nat → Nat → Nat
  | [], _, _ => 0
  | e :: t, x, v => if v = e then x else pm_lbs t (x + 2 ^ 50) v
theorem pm_lbs_b : ∀ (od : List Nat) (x v : Nat), v ∈ od → x ≤ pm_lbs od x v ∧ pm_lbs od x v < x + od.length * 2 ^ 50 := by
  intro od
  induction od with
  | nil => intro x v h; cases h
  | cons e t ih =>
    intro x v h
    show x ≤ (if v = e then x else pm_lbs t (x + 2 ^ 50) v) ∧ (if v = e then x else pm_lbs t (x + 2 ^ 50) v) < _
    rw [List.length_cons]
    by_cases q : v = e
    · rw [if_pos q]; omega
    · rw [if_neg q]
      rcases List.mem_cons.mp h with z | z
      · exact absurd z q
      · have := ih (x + 2 ^ 50) v z; omega
theorem pm_lbs_pw : ∀ (od : List Nat) (x : Nat), od.Nodup → od.Pairwise (fun y z => pm_lbs od x y < pm_lbs od x z) := by
  intro od
  induction od with
  | nil => intro x _; exact List.Pairwise.nil
  | cons e t ih =>
    intro x h
    rw [List.nodup_cons] at h
    have hne : ∀ y ∈ t, pm_lbs (e :: t) x y = pm_lbs t (x + 2 ^ 50) y := fun y hy => if_neg (fun (z : y = e) => h.1 (by rw [← z]; exact hy))
    rw [List.pairwise_cons]
    refine ⟨fun y hy => ?_, ?_⟩
    · rw [hne y hy, show pm_lbs (e :: t) x e = x from if_pos rfl]
      have := (pm_lbs_b t (x + 2 ^ 50) y hy).1; omega
    · refine (ih (x + 2 ^ 50) h.2).imp_of_mem ?_
      intro y z hy hz hyz
      rw [hne y hy, hne z hz]; exact hyz
theorem pm_spl_out : ∀ (od : List Nat) (la : Nat → Int64) (x v : Nat), v ∉ od → pm_spl la od x v = la v := by
  intro od
  induction od with
  | nil => intro la x v _; rfl
  | cons e t ih =>
    intro la x v h
    show pm_spl (vp_updL la e (lN x)) t (x + 2 ^ 50) v = la v
    rw [ih _ _ v (fun z => h (List.mem_cons_of_mem _ z)), pk_uLn (fun z => h (by rw [z]; exact List.mem_cons_self))]
theorem pm_spl_in : ∀ (od : List Nat) (la : Nat → Int64) (x v : Nat), od.Nodup → v ∈ od → pm_spl la od x v = lN (pm_lbs od x v) := by
  intro od
  induction od with
  | nil => intro la x v _ h; cases h
  | cons e t ih =>
    intro la x v hn h
    rw [List.nodup_cons] at hn
    show pm_spl (vp_updL la e (lN x)) t (x + 2 ^ 50) v = lN (if v = e then x else pm_lbs t (x + 2 ^ 50) v)
    by_cases q : v = e
    · rw [if_pos q, pm_spl_out t _ _ v (by rw [q]; exact hn.1), q, pk_uLs]
    · rw [if_neg q]
      rcases List.mem_cons.mp h with z | z
      · exact absurd z q
      · exact ih _ _ v hn.2 z
theorem pm_open_spread {k : pm_K0} {b : pm_AB} {ne v : Nat} {A B : List Nat} {ps lb : Nat → Nat} {E : Nat → List Nat} {vv : Nat → Nat}
    (hv : pm_Iv k b.1 b.2.1) (ho : pm_Io k b.1 b.2.1 (A ++ v :: B) ps lb) (hs : pm_Es k b.1 ne ps E vv) (he : pm_Em k b.1 b.2.2 ps E vv) (hvn : v < b.1) (hn : b.1 < 40) :
    ((∀ x ∈ A ++ v :: b.1 :: B, x < 40) ∧ (A ++ v :: b.1 :: B).length ≤ 40 ∧ pm_chn (upd (upd (k_fo k) b.1 (k_fo k v)) v (nI b.1)) (nI 0) (A ++ v :: b.1 :: B)) ∧
    pm_Rw (pm_opk k b.1 v (pm_spl (k_la k) (A ++ v :: b.1 :: B) (2 ^ 50))) (pm_opn b v) ne b.1 := by
  have hin : ∀ x, x ∈ A ++ v :: B ↔ x < b.1 := fun x => pm_Io_in ho
  have hnA : ∀ x ∈ A, x < b.1 := fun x hx => (hin x).mp (by simp [hx])
  have hnB : ∀ x ∈ B, x < b.1 := fun x hx => (hin x).mp (by simp [hx])
  have hperm : (A ++ v :: b.1 :: B).Perm (b.1 :: (A ++ v :: B)) := by
    have := List.perm_middle (a := b.1) (l₁ := A ++ [v]) (l₂ := B)
    simpa using this
  have hnd : (A ++ v :: b.1 :: B).Nodup := by
    rw [hperm.nodup_iff, List.nodup_cons, ho.2.1.nodup_iff]
    exact ⟨fun z => by have := (hin b.1).mp z; omega, List.nodup_range⟩
  have hlen : (A ++ v :: b.1 :: B).length ≤ 40 := by
    rw [hperm.length_eq, List.length_cons, ho.2.1.length_eq, List.length_range]; omega
  have hmem : ∀ x, x ∈ A ++ v :: b.1 :: B ↔ x < b.1 + 1 := by
    intro x
    rw [hperm.mem_iff, List.mem_cons, hin x]; omega
  have hnd2 := pm_nodup (g := ps) ho.2.2.1
  refine ⟨⟨fun x hx => by have := (hmem x).mp hx; omega, hlen, pm_chn_insert A _ (fun x hx => ⟨hnd2.1 x hx, by have := hnA x hx; omega⟩) (fun x hx => ⟨hnd2.2 x hx, by have := hnB x hx; omega⟩) (by omega) ho.1⟩, ?_⟩
  refine pm_open_R (lb2 := pm_lbs (A ++ v :: b.1 :: B) (2 ^ 50)) hv ho hs he hvn hn (pm_lbs_pw _ _ hnd) ?_
  intro x hx
  have hx2 := (hmem x).mpr hx
  refine ⟨pm_spl_in _ _ _ x hnd hx2, ?_⟩
  have := (pm_lbs_b _ (2 ^ 50) x hx2).2
  have h2 : (A ++ v :: b.1 :: B).length * 2 ^ 50 ≤ 40 * 2 ^ 50 := Nat.mul_le_mul_right _ hlen
  omega
end
section
/-! ===== PersistentMap: isVersion, isKey, isPlan, isAncestor ===== -/
theorem pm_bl_if (P : Prop) [Decidable P] : pm_bl (if P then 1 else 0) P := by
  by_cases h : P
  · rw [if_pos h]; exact pm_bl.one h
  · rw [if_neg h]; exact pm_bl.zero h
theorem pm_an_iff {par : Nat → Nat} {v w : Nat} : pm_an par v w = true ↔ pm_clm par v 40 w = v := by
  unfold pm_an; simp
theorem pm_nneg {x : Int32} (h : ¬ x < 0) : 0 ≤ x := Int32.not_lt.mp h
theorem pm_plan_n {p : Nat} (h : p ≤ 511) : nI p &&& 15 = nI (p % 16) ∧ nI p >>> ((4 : Int32) &&& 31) = nI (p / 16) := by
  constructor
  · exact pk_andN (by omega) 4 (by decide)
  · exact pk_shrN (by omega) _ 4 (by decide)
set_option maxHeartbeats 4000000 in
set_option maxRecDepth 100000 in
/-- isVersion(v): 0 <= v < count -/
theorem c0_isVersion (l : Launch) (D : va_G) (q : Nat → Nat) (a : Nat → ClassId) (u : pm_S0) (v : Int32) : pm_Mi l yX0_isVersion cX0_isVersion 2 .boolean (pm_rm 0) D (pm_t0 a) (pm_w0 q a) [.ref (q 0), .int v] u (fun r u' => pm_bl r (0 ≤ v ∧ v < k_cn u.1) ∧ u' = u) := by
  refine pm_Mi_of (by decide) (Nat.le_of_ble_eq_true rfl) ?_
  intro p e s m below meth c A args Q ls F hA hret hX hl
  have hx := F.1
  have hb := F.2.1
  have hl : lv_has ls 2 [(0, .ref (q 0)), (1, .int v)] := hl
  refine lv_iload_n hx hb dX0_isVersion_0 rfl (lv_at hl 1 rfl) ?_
  refine lv_if_lt (tgt := 16) hx hb dX0_isVersion_1 (by decide) (fun c1 => ?_) (fun c1 => ?_)
  · refine lv_iconst (v := 0) hx hb dX0_isVersion_16 (by decide) ?_
    exact hret 0 u _ _ 17 ls hX (⟨pm_bl.zero (fun h => absurd h.1 (Int32.not_le.mpr c1)), rfl⟩) (rfl) dX0_isVersion_17
  · refine lv_iload_n hx hb dX0_isVersion_4 rfl (lv_at hl 1 rfl) ?_
    refine lv_aload_n hx hb dX0_isVersion_5 rfl (lv_at hl 0 rfl) ?_
    refine x0_gcn F hX dX0_isVersion_6 ?_
    refine lv_icmp_ge (tgt := 16) hx hb dX0_isVersion_9 (by decide) (fun c9 => ?_) (fun c9 => ?_)
    · refine lv_iconst (v := 0) hx hb dX0_isVersion_16 (by decide) ?_
      exact hret 0 u _ _ 17 ls hX (⟨pm_bl.zero (fun h => absurd h.2 (Int32.not_lt.mpr c9)), rfl⟩) (rfl) dX0_isVersion_17
    · refine lv_iconst (v := 1) hx hb dX0_isVersion_12 (by decide) ?_
      refine lv_goto (tgt := 17) hx hb dX0_isVersion_13 (by decide) ?_
      exact hret 1 u _ _ 17 ls hX (⟨pm_bl.one ⟨pm_nneg c1, Int32.not_le.mp c9⟩, rfl⟩) (rfl) dX0_isVersion_17

set_option maxHeartbeats 4000000 in
set_option maxRecDepth 100000 in
/-- isKey(k) -/
theorem c0_isKey (l : Launch) (k : Int32) : pm_Ms l yX0_isKey cX0_isKey 1 .boolean (pm_rm 0) [.int k] (if sp_key k then 1 else 0) := by
  refine pm_Ms_of (by decide) (Nat.le_of_ble_eq_true rfl) ?_
  intro p e s m below meth c args Q ls F hret hl
  have hx := F.1
  have hb := F.2.1
  have hl : lv_has ls 1 [(0, .int k)] := hl
  refine lv_iload_n hx hb dX0_isKey_0 rfl (lv_at hl 0 rfl) ?_
  refine lv_if_lt (tgt := 14) hx hb dX0_isKey_1 (by decide) (fun c1 => ?_) (fun c1 => ?_)
  · refine lv_iconst (v := 0) hx hb dX0_isKey_14 (by decide) ?_
    exact hret 0 15 ls (if_neg (fun h => absurd h.1 (Int32.not_le.mpr c1))).symm rfl dX0_isKey_15
  · refine lv_iload_n hx hb dX0_isKey_4 rfl (lv_at hl 0 rfl) ?_
    refine lv_bipush (v := 32) hx hb dX0_isKey_5 (by decide) ?_
    refine lv_icmp_ge (tgt := 14) hx hb dX0_isKey_7 (by decide) (fun c7 => ?_) (fun c7 => ?_)
    · refine lv_iconst (v := 0) hx hb dX0_isKey_14 (by decide) ?_
      exact hret 0 15 ls (if_neg (fun h => absurd h.2 (Int32.not_lt.mpr c7))).symm rfl dX0_isKey_15
    · refine lv_iconst (v := 1) hx hb dX0_isKey_10 (by decide) ?_
      refine lv_goto (tgt := 15) hx hb dX0_isKey_11 (by decide) ?_
      exact hret 1 15 ls (if_pos ⟨pm_nneg c1, Int32.not_le.mp c7⟩).symm rfl dX0_isKey_15

set_option maxHeartbeats 4000000 in
set_option maxRecDepth 100000 in
/-- isPlan(k) -/
theorem c0_isPlan (l : Launch) (k : Int32) : pm_Ms l yX0_isPlan cX0_isPlan 2 .boolean (pm_rm 0) [.int k] (if sp_plan k then 1 else 0) := by
  refine pm_Ms_of (by decide) (Nat.le_of_ble_eq_true rfl) ?_
  intro p e s m below meth c args Q ls F hret hl
  have hx := F.1
  have hb := F.2.1
  have hl : lv_has ls 2 [(0, .int k)] := hl
  refine lv_iload_n hx hb dX0_isPlan_0 rfl (lv_at hl 0 rfl) ?_
  refine lv_bipush (v := 15) hx hb dX0_isPlan_1 (by decide) ?_
  refine lv_iand hx hb dX0_isPlan_3 ?_
  refine lv_istore_n (lv' := [(1, .int (k &&& 15)), (0, .int k)]) hx hb dX0_isPlan_4 rfl hl (by decide) rfl (fun ls hl => ?_)
  refine lv_iload_n hx hb dX0_isPlan_5 rfl (lv_at hl 1 rfl) ?_
  refine lv_if_lt (tgt := 41) hx hb dX0_isPlan_6 (by decide) (fun c6 => ?_) (fun c6 => ?_)
  · refine lv_iconst (v := 0) hx hb dX0_isPlan_41 (by decide) ?_
    refine hret 0 42 ls (if_neg (fun h => ?_)).symm rfl dX0_isPlan_42
    exact absurd h.1 (Int32.not_le.mpr c6)
  · refine lv_iload_n hx hb dX0_isPlan_9 rfl (lv_at hl 0 rfl) ?_
    refine lv_iconst (v := nI 1) hx hb dX0_isPlan_10 (by decide) ?_
    refine lv_icmp_lt (tgt := 41) hx hb dX0_isPlan_11 (by decide) (fun c11 => ?_) (fun c11 => ?_)
    · refine lv_iconst (v := 0) hx hb dX0_isPlan_41 (by decide) ?_
      refine hret 0 42 ls (if_neg (fun h => ?_)).symm rfl dX0_isPlan_42
      obtain ⟨j, hj, rfl⟩ := pm_of_nn h.1
      have h5 : j ≤ 511 := (nI_leI (b := 511) hj (by decide)).mp h.2.1
      have e1 := (pm_plan_n h5).1
      have e2 := (pm_plan_n h5).2
      obtain ⟨-, -, z1, z2, z3⟩ := h
      rw [nI_clamp hj] at z1 z2 z3
      rw [e1] at c11
      have := (nI_ltI (by omega) (by decide)).mp c11
      omega
    · refine lv_iload_n hx hb dX0_isPlan_14 rfl (lv_at hl 0 rfl) ?_
      refine lv_bipush (v := nI 8) hx hb dX0_isPlan_15 (by decide) ?_
      refine lv_icmp_gt (tgt := 41) hx hb dX0_isPlan_17 (by decide) (fun c17 => ?_) (fun c17 => ?_)
      · refine lv_iconst (v := 0) hx hb dX0_isPlan_41 (by decide) ?_
        refine hret 0 42 ls (if_neg (fun h => ?_)).symm rfl dX0_isPlan_42
        obtain ⟨j, hj, rfl⟩ := pm_of_nn h.1
        have h5 : j ≤ 511 := (nI_leI (b := 511) hj (by decide)).mp h.2.1
        have e1 := (pm_plan_n h5).1
        have e2 := (pm_plan_n h5).2
        obtain ⟨-, -, z1, z2, z3⟩ := h
        rw [nI_clamp hj] at z1 z2 z3
        rw [e1] at c17
        have := (nI_ltI (by decide) (by omega)).mp c17
        omega
      · refine lv_iload_n hx hb dX0_isPlan_20 rfl (lv_at hl 1 rfl) ?_
        refine lv_sipush (v := nI 511) hx hb dX0_isPlan_21 (by decide) ?_
        refine lv_icmp_gt (tgt := 41) hx hb dX0_isPlan_24 (by decide) (fun c24 => ?_) (fun c24 => ?_)
        · refine lv_iconst (v := 0) hx hb dX0_isPlan_41 (by decide) ?_
          refine hret 0 42 ls (if_neg (fun h => ?_)).symm rfl dX0_isPlan_42
          obtain ⟨j, hj, rfl⟩ := pm_of_nn h.1
          have h5 : j ≤ 511 := (nI_leI (b := 511) hj (by decide)).mp h.2.1
          have e1 := (pm_plan_n h5).1
          have e2 := (pm_plan_n h5).2
          obtain ⟨-, -, z1, z2, z3⟩ := h
          rw [nI_clamp hj] at z1 z2 z3
          have := (nI_ltI (by decide) (by omega)).mp c24
          omega
        · refine lv_iload_n hx hb dX0_isPlan_27 rfl (lv_at hl 1 rfl) ?_
          refine lv_iconst (v := 4) hx hb dX0_isPlan_28 (by decide) ?_
          refine lv_ishr hx hb dX0_isPlan_29 ?_
          refine lv_iload_n hx hb dX0_isPlan_30 rfl (lv_at hl 0 rfl) ?_
          refine lv_iadd hx hb dX0_isPlan_31 ?_
          refine lv_bipush (v := nI 32) hx hb dX0_isPlan_32 (by decide) ?_
          refine lv_icmp_gt (tgt := 41) hx hb dX0_isPlan_34 (by decide) (fun c34 => ?_) (fun c34 => ?_)
          · refine lv_iconst (v := 0) hx hb dX0_isPlan_41 (by decide) ?_
            refine hret 0 42 ls (if_neg (fun h => ?_)).symm rfl dX0_isPlan_42
            obtain ⟨j, hj, rfl⟩ := pm_of_nn h.1
            have h5 : j ≤ 511 := (nI_leI (b := 511) hj (by decide)).mp h.2.1
            have e1 := (pm_plan_n h5).1
            have e2 := (pm_plan_n h5).2
            obtain ⟨-, -, z1, z2, z3⟩ := h
            rw [nI_clamp hj] at z1 z2 z3
            rw [e1, e2, nI_add] at c34
            have := (nI_ltI (by decide) (by omega)).mp c34
            omega
          · refine lv_iconst (v := 1) hx hb dX0_isPlan_37 (by decide) ?_
            refine lv_goto (tgt := 42) hx hb dX0_isPlan_38 (by decide) ?_
            refine hret 1 42 ls (if_pos ?_).symm rfl dX0_isPlan_42
            obtain ⟨j, hj, rfl⟩ := pm_of_nn (pm_nneg c6)
            have h5 : j ≤ 511 := (nI_leI hj (by decide)).mp (Int32.not_lt.mp c24)
            have e1 := (pm_plan_n h5).1
            have e2 := (pm_plan_n h5).2
            rw [e1] at c11 c17 c34
            rw [e2, nI_add] at c34
            have d1 := (nI_leI (by decide) (by omega)).mp (Int32.not_lt.mp c11)
            have d2 := (nI_leI (by omega) (by decide)).mp (Int32.not_lt.mp c17)
            have d3 := (nI_leI (by omega) (by decide)).mp (Int32.not_lt.mp c34)
            refine ⟨nI_pos' hj, Int32.not_lt.mp c24, ?_⟩
            rw [nI_clamp hj]
            exact ⟨d1, d2, d3⟩

set_option maxHeartbeats 4000000 in
set_option maxRecDepth 100000 in
/-- isAncestor(v, w) -/
theorem c0_isAncestor (l : Launch) (D : va_G) (q : Nat → Nat) (a : Nat → ClassId) (u : pm_S0) {n : Nat} {par : Nat → Nat} (hn : n ≤ 40) (hp : ∀ v, 0 < v → v < n → k_pa u.1 v = nI (par v) ∧ par v < v) {v w : Nat} (hv : v < n) (hw : w < n) : pm_Mi l yX0_isAncestor cX0_isAncestor 5 .boolean (pm_rm 0) D (pm_t0 a) (pm_w0 q a) [.ref (q 0), .int (nI v), .int (nI w)] u (fun r u' => pm_bl r (pm_an par v w = true) ∧ u' = u) := by
  refine pm_Mi_of (by decide) (Nat.le_of_ble_eq_true rfl) ?_
  intro p e s m below meth c A args Q ls F hA hret hX hl
  have hx := F.1
  have hb := F.2.1
  have hl : lv_has ls 5 [(0, .ref (q 0)), (1, .int (nI v)), (2, .int (nI w))] := hl
  have loop : ∀ (f i x : Nat) (ls : Array Slot), i + f = 40 → x < n → pm_clm par v 40 w = pm_clm par v f x → lv_has ls 5 [(4, .int (nI i)), (3, .int (nI x)), (0, .ref (q 0)), (1, .int (nI v)), (2, .int (nI w))] → W p l e (pm_rm 0) s m args below meth c s.heap [] 0 0 Q (F0 m 5 ls []) := by
    intro f
    induction f with
    | zero =>
      intro i x ls hi hxn he hl
      refine lv_iload hx hb dX0_isAncestor_5 (lv_at hl 0 rfl) ?_
      refine lv_bipush (v := nI 40) hx hb dX0_isAncestor_7 (by decide) ?_
      refine lv_icmp_ge (tgt := 30) hx hb dX0_isAncestor_9 (by decide) (fun c9 => ?_) (fun c9 => ?_)
      · have he : pm_clm par v 40 w = x := he
        refine lv_iload_n hx hb dX0_isAncestor_30 rfl (lv_at hl 1 rfl) ?_
        refine lv_iload_n hx hb dX0_isAncestor_31 rfl (lv_at hl 3 rfl) ?_
        refine lv_icmp_ne (tgt := 39) hx hb dX0_isAncestor_32 (by decide) (fun c32 => ?_) (fun c32 => ?_)
        · refine lv_iconst (v := 0) hx hb dX0_isAncestor_39 (by decide) ?_
          exact hret 0 u _ _ 40 ls hX ⟨pm_bl.zero (fun h => c32 (by rw [← he.symm.trans (pm_an_iff.mp h)])), rfl⟩ rfl dX0_isAncestor_40
        · refine lv_iconst (v := 1) hx hb dX0_isAncestor_35 (by decide) ?_
          refine lv_goto (tgt := 40) hx hb dX0_isAncestor_36 (by decide) ?_
          exact hret 1 u _ _ 40 ls hX ⟨pm_bl.one (pm_an_iff.mpr (he.trans (pm_eqN (by omega) (by omega) c32))), rfl⟩ rfl dX0_isAncestor_40
      · exact absurd (nI_le (by omega) (by omega)) c9
    | succ f ih =>
      intro i x ls hi hxn he hl
      refine lv_iload hx hb dX0_isAncestor_5 (lv_at hl 0 rfl) ?_
      refine lv_bipush (v := nI 40) hx hb dX0_isAncestor_7 (by decide) ?_
      refine lv_icmp_ge (tgt := 30) hx hb dX0_isAncestor_9 (by decide) (fun c9 => ?_) (fun c9 => ?_)
      · exact absurd c9 (nI_ge (by omega) (by omega))
      · refine lv_iload_n hx hb dX0_isAncestor_12 rfl (lv_at hl 1 rfl) ?_
        refine lv_iload_n hx hb dX0_isAncestor_13 rfl (lv_at hl 3 rfl) ?_
        refine lv_icmp_le (tgt := 30) hx hb dX0_isAncestor_14 (by decide) (fun c14 => ?_) (fun c14 => ?_)
        · have hvx : ¬ v < x := Nat.not_lt.mpr ((pm_leN (by omega) (by omega)).mp c14)
          rw [pm_clm_stop hvx] at he
          refine lv_iload_n hx hb dX0_isAncestor_30 rfl (lv_at hl 1 rfl) ?_
          refine lv_iload_n hx hb dX0_isAncestor_31 rfl (lv_at hl 3 rfl) ?_
          refine lv_icmp_ne (tgt := 39) hx hb dX0_isAncestor_32 (by decide) (fun c32 => ?_) (fun c32 => ?_)
          · refine lv_iconst (v := 0) hx hb dX0_isAncestor_39 (by decide) ?_
            exact hret 0 u _ _ 40 ls hX ⟨pm_bl.zero (fun h => c32 (by rw [← he.symm.trans (pm_an_iff.mp h)])), rfl⟩ rfl dX0_isAncestor_40
          · refine lv_iconst (v := 1) hx hb dX0_isAncestor_35 (by decide) ?_
            refine lv_goto (tgt := 40) hx hb dX0_isAncestor_36 (by decide) ?_
            exact hret 1 u _ _ 40 ls hX ⟨pm_bl.one (pm_an_iff.mpr (he.trans (pm_eqN (by omega) (by omega) c32))), rfl⟩ rfl dX0_isAncestor_40
        · have hvx : v < x := by
            rcases Nat.lt_or_ge v x with h | h
            · exact h
            · exact absurd ((pm_leN (by omega) (by omega)).mpr h) c14
          have hpx := hp x (by omega) hxn
          refine lv_aload_n hx hb dX0_isAncestor_17 rfl (lv_at hl 2 rfl) ?_
          refine x0_gpa F hX dX0_isAncestor_18 ?_
          refine lv_iload_n hx hb dX0_isAncestor_21 rfl (lv_at hl 1 rfl) ?_
          refine x0_lpa F hX (by omega) dX0_isAncestor_22 ?_
          refine pm_top (y := nI (par x)) (hpx.1) ?_
          refine lv_istore_n (lv' := [(3, .int (nI (par x))), (4, .int (nI i)), (0, .ref (q 0)), (1, .int (nI v)), (2, .int (nI w))]) hx hb dX0_isAncestor_23 rfl hl (by decide) rfl (fun ls hl => ?_)
          refine lv_iinc (v := nI (i + 1)) (lv' := [(4, .int (nI (i + 1))), (3, .int (nI (par x))), (0, .ref (q 0)), (1, .int (nI v)), (2, .int (nI w))]) hx hb dX0_isAncestor_24 hl (k := 1) rfl (nI_1 i) (by decide) rfl (fun ls hl => ?_)
          refine lv_goto (tgt := 5) hx hb dX0_isAncestor_27 (by decide) ?_
          exact ih (i + 1) (par x) ls (by omega) (by omega) (by rw [he, pm_clm_go hvx]) (lv_sub hl [0, 1, 2, 3, 4] rfl)
  refine lv_iload_n hx hb dX0_isAncestor_0 rfl (lv_at hl 2 rfl) ?_
  refine lv_istore_n (lv' := [(3, .int (nI w)), (0, .ref (q 0)), (1, .int (nI v)), (2, .int (nI w))]) hx hb dX0_isAncestor_1 rfl hl (by decide) rfl (fun ls hl => ?_)
  refine lv_iconst (v := nI 0) hx hb dX0_isAncestor_2 (by decide) ?_
  refine lv_istore (lv' := [(4, .int (nI 0)), (3, .int (nI w)), (0, .ref (q 0)), (1, .int (nI v)), (2, .int (nI w))]) hx hb dX0_isAncestor_3 hl (by decide) rfl (fun ls hl => ?_)
  exact loop 40 0 w ls (by omega) hw rfl (lv_sub hl [0, 1, 2, 3, 4] rfl)
end
section
/-! ===== PersistentMap: advance, insert, spreadLabels ===== -/
set_option maxHeartbeats 4000000 in
set_option maxRecDepth 100000 in
/-- advance(key, fr, v): the last entry, from fr on, whose version is not behind v -/
theorem c0_advance (l : Launch) (D : va_G) (q : Nat → Nat) (a : Nat → ClassId) (u : pm_S0) {lb vv : Nat → Nat} {L : List Nat} {j : Nat} (hj : j < 40) (hlj : k_la u.1 j = lN (lb j) ∧ lb j < 2 ^ 61)
    (hE : ∀ e ∈ L, e < 640 ∧ vv e < 40 ∧ k_ev u.1 e = nI (vv e) ∧ k_la u.1 (vv e) = lN (lb (vv e)) ∧ lb (vv e) < 2 ^ 61) (key fr : Int32)
    (hs : (fr = -1 ∧ ∃ kk, kk < 32 ∧ key = nI kk ∧ pm_chn (k_en u.1) (k_he u.1 kk) L) ∨ (∃ f, f < 640 ∧ fr = nI f ∧ pm_chn (k_en u.1) (k_en u.1 f) L)) : pm_Mi l yX0_advance cX0_advance 6 .int (pm_rm 0) D (pm_t0 a) (pm_w0 q a) [.ref (q 0), .int key, .int fr, .int (nI j)] u (fun r u' => r = pm_adv (fun e => decide (lb (vv e) ≤ lb j)) fr L ∧ u' = u) := by
  refine pm_Mi_of (by decide) (Nat.le_of_ble_eq_true rfl) ?_
  intro p e s m below meth c A args Q ls F hA hret hX hl
  have hx := F.1
  have hb := F.2.1
  have hl : lv_has ls 6 [(0, .ref (q 0)), (1, .int key), (2, .int fr), (3, .int (nI j))] := hl
  have loop : ∀ (T : List Nat) (en ah : Int32) (ls : Array Slot), (∀ e ∈ T, e ∈ L) → pm_chn (k_en u.1) ah T → pm_adv (fun e => decide (lb (vv e) ≤ lb j)) fr L = pm_adv (fun e => decide (lb (vv e) ≤ lb j)) en T → lv_has ls 6 [(5, .int ah), (4, .int en), (0, .ref (q 0)), (1, .int key), (2, .int fr), (3, .int (nI j))] → W p l e (pm_rm 0) s m args below meth c s.heap [] 0 0 Q (F0 m 25 ls []) := by
    intro T
    induction T with
    | nil =>
      intro en ah ls hT hc he hl
      have hc : ah = -1 := hc
      subst hc
      refine lv_iload hx hb dX0_advance_25 (lv_at hl 0 rfl) ?_
      refine lv_iconst (v := (-1)) hx hb dX0_advance_27 (by decide) ?_
      refine lv_icmp_eq (tgt := 69) hx hb dX0_advance_28 (by decide) (fun c28 => ?_) (fun c28 => ?_)
      · refine lv_iload hx hb dX0_advance_69 (lv_at hl 1 rfl) ?_
        exact hret en u _ _ 71 ls hX (⟨he.symm, rfl⟩) (rfl) dX0_advance_71
      · exact absurd rfl c28
    | cons x t ih =>
      intro en ah ls hT hc he hl
      obtain ⟨hc1, hc2⟩ := hc
      subst hc1
      obtain ⟨h1, h2, h3, h4, h5⟩ := hE x (hT x List.mem_cons_self)
      refine lv_iload hx hb dX0_advance_25 (lv_at hl 0 rfl) ?_
      refine lv_iconst (v := (-1)) hx hb dX0_advance_27 (by decide) ?_
      refine lv_icmp_eq (tgt := 69) hx hb dX0_advance_28 (by decide) (fun c28 => ?_) (fun c28 => ?_)
      · exact absurd c28 (pm_nm1 (by omega))
      · refine lv_aload_n hx hb dX0_advance_31 rfl (lv_at hl 2 rfl) ?_
        refine x0_gla F hX dX0_advance_32 ?_
        refine lv_aload_n hx hb dX0_advance_35 rfl (lv_at hl 2 rfl) ?_
        refine x0_gev F hX dX0_advance_36 ?_
        refine lv_iload hx hb dX0_advance_39 (lv_at hl 0 rfl) ?_
        refine x0_lev F hX (by omega) dX0_advance_41 ?_
        refine pm_top (y := nI (vv x)) (h3) ?_
        refine x0_lla F hX (by omega) dX0_advance_42 ?_
        refine pm_topl (y := lN (lb (vv x))) (h4.trans rfl) ?_
        refine lv_aload_n hx hb dX0_advance_43 rfl (lv_at hl 2 rfl) ?_
        refine x0_gla F hX dX0_advance_44 ?_
        refine lv_iload_n hx hb dX0_advance_47 rfl (lv_at hl 5 rfl) ?_
        refine x0_lla F hX (by omega) dX0_advance_48 ?_
        refine pm_topl (y := lN (lb j)) (hlj.1) ?_
        refine W.lcmp hx hb dX0_advance_49 ?_
        refine lv_if_gt (tgt := 69) hx hb dX0_advance_50 (by decide) (fun c50 => ?_) (fun c50 => ?_)
        · have hgt := (pk_lLT (by omega) (by omega)).mp ((lg_cmp_gt _ _).mp c50)
          refine lv_iload hx hb dX0_advance_69 (lv_at hl 1 rfl) ?_
          exact hret en u _ _ 71 ls hX (⟨by rw [he]; show en = if _ then _ else _; rw [if_neg (by simp; omega)], rfl⟩) (rfl) dX0_advance_71
        · have hle : lb (vv x) ≤ lb j := Nat.not_lt.mp (fun z => c50 ((lg_cmp_gt _ _).mpr ((pk_lLT (by omega) (by omega)).mpr z)))
          refine lv_iload hx hb dX0_advance_53 (lv_at hl 0 rfl) ?_
          refine lv_istore (lv' := [(4, .int (nI x)), (5, .int (nI x)), (0, .ref (q 0)), (1, .int key), (2, .int fr), (3, .int (nI j))]) hx hb dX0_advance_55 hl (by decide) rfl (fun ls hl => ?_)
          refine lv_aload_n hx hb dX0_advance_57 rfl (lv_at hl 2 rfl) ?_
          refine x0_gen F hX dX0_advance_58 ?_
          refine lv_iload hx hb dX0_advance_61 (lv_at hl 1 rfl) ?_
          refine x0_len F hX (by omega) dX0_advance_63 ?_
          refine lv_istore (lv' := [(5, .int (k_en u.1 x)), (4, .int (nI x)), (0, .ref (q 0)), (1, .int key), (2, .int fr), (3, .int (nI j))]) hx hb dX0_advance_64 hl (by decide) rfl (fun ls hl => ?_)
          refine lv_goto (tgt := 25) hx hb dX0_advance_66 (by decide) ?_
          refine ih (nI x) (k_en u.1 x) ls (fun e h => hT e (List.mem_cons_of_mem _ h)) hc2 ?_ (lv_sub hl [0, 1, 2, 3, 4, 5] rfl)
          rw [he]; show (if _ then _ else _) = _; rw [if_pos (by simpa using hle)]
  rcases hs with ⟨hs1, kk, hkk, rfl, hc⟩ | ⟨f, hf, hs1, hc⟩
  · subst hs1
    refine lv_iload_n hx hb dX0_advance_0 rfl (lv_at hl 2 rfl) ?_
    refine lv_istore (lv' := [(4, .int (-1)), (0, .ref (q 0)), (1, .int (nI kk)), (2, .int (-1)), (3, .int (nI j))]) hx hb dX0_advance_1 hl (by decide) rfl (fun ls hl => ?_)
    refine lv_iload_n hx hb dX0_advance_3 rfl (lv_at hl 3 rfl) ?_
    refine lv_iconst (v := (-1)) hx hb dX0_advance_4 (by decide) ?_
    refine lv_icmp_ne (tgt := 17) hx hb dX0_advance_5 (by decide) (fun c5 => ?_) (fun c5 => ?_)
    · exact absurd rfl c5
    · refine lv_aload_n hx hb dX0_advance_8 rfl (lv_at hl 1 rfl) ?_
      refine x0_ghe F hX dX0_advance_9 ?_
      refine lv_iload_n hx hb dX0_advance_12 rfl (lv_at hl 2 rfl) ?_
      refine x0_lhe F hX (by omega) dX0_advance_13 ?_
      refine lv_goto (tgt := 23) hx hb dX0_advance_14 (by decide) ?_
      refine lv_istore (lv' := [(5, .int (k_he u.1 kk)), (4, .int (-1)), (0, .ref (q 0)), (1, .int (nI kk)), (2, .int (-1)), (3, .int (nI j))]) hx hb dX0_advance_23 hl (by decide) rfl (fun ls hl => ?_)
      exact loop L _ _ ls (fun _ h => h) hc rfl (lv_sub hl [0, 1, 2, 3, 4, 5] rfl)
  · subst hs1
    refine lv_iload_n hx hb dX0_advance_0 rfl (lv_at hl 2 rfl) ?_
    refine lv_istore (lv' := [(4, .int (nI f)), (0, .ref (q 0)), (1, .int key), (2, .int (nI f)), (3, .int (nI j))]) hx hb dX0_advance_1 hl (by decide) rfl (fun ls hl => ?_)
    refine lv_iload_n hx hb dX0_advance_3 rfl (lv_at hl 3 rfl) ?_
    refine lv_iconst (v := (-1)) hx hb dX0_advance_4 (by decide) ?_
    refine lv_icmp_ne (tgt := 17) hx hb dX0_advance_5 (by decide) (fun c5 => ?_) (fun c5 => ?_)
    · refine lv_aload_n hx hb dX0_advance_17 rfl (lv_at hl 1 rfl) ?_
      refine x0_gen F hX dX0_advance_18 ?_
      refine lv_iload_n hx hb dX0_advance_21 rfl (lv_at hl 3 rfl) ?_
      refine x0_len F hX (by omega) dX0_advance_22 ?_
      refine lv_istore (lv' := [(5, .int (k_en u.1 f)), (4, .int (nI f)), (0, .ref (q 0)), (1, .int key), (2, .int (nI f)), (3, .int (nI j))]) hx hb dX0_advance_23 hl (by decide) rfl (fun ls hl => ?_)
      exact loop L _ _ ls (fun _ h => h) hc rfl (lv_sub hl [0, 1, 2, 3, 4, 5] rfl)
    · exact absurd c5 (pm_nm1 (by omega))

set_option maxHeartbeats 4000000 in
set_option maxRecDepth 100000 in
/-- insert(kk, o, v, th, va) -/
theorem c0_insert (l : Launch) (D : va_G) (q : Nat → Nat) (a : Nat → ClassId) (u : pm_S0) {ne kk : Nat} (hne : ne < 640) (hes : k_es u.1 = nI ne) (hk : kk < 32) (o : Option Nat) (ho : ∀ e, o = some e → e < 640) (v th va : Int32) (ht : th = 0 ∨ th = 1) : pm_Mi l yX0_insert cX0_insert 7 .int (pm_rm 0) D (pm_t0 a) (pm_w0 q a) [.ref (q 0), .int (nI kk), .int (pm_ov o), .int v, .int th, .int va] u (fun r u' => r = nI ne ∧ u' = (pm_ins u.1 kk o ne v th va, u.2)) := by
  refine pm_Mi_of (by decide) (Nat.le_of_ble_eq_true rfl) ?_
  intro p e s m below meth c A args Q ls F hA hret hX hl
  have hx := F.1
  have hb := F.2.1
  have hl : lv_has ls 7 [(0, .ref (q 0)), (1, .int (nI kk)), (2, .int (pm_ov o)), (3, .int v), (4, .int th), (5, .int va)] := hl
  cases o with
  | none =>
    have hl : lv_has ls 7 [(0, .ref (q 0)), (1, .int (nI kk)), (2, .int (-1)), (3, .int v), (4, .int th), (5, .int va)] := hl
    refine lv_aload_n hx hb dX0_insert_0 rfl (lv_at hl 0 rfl) ?_
    refine x0_ges F hX dX0_insert_1 ?_
    refine pm_top (y := nI ne) (hes) ?_
    refine lv_istore (lv' := [(6, .int (nI ne)), (0, .ref (q 0)), (1, .int (nI kk)), (2, .int (-1)), (3, .int v), (4, .int th), (5, .int va)]) hx hb dX0_insert_4 hl (by decide) rfl (fun ls hl => ?_)
    refine lv_aload_n hx hb dX0_insert_6 rfl (lv_at hl 1 rfl) ?_
    refine lv_dup hx hb dX0_insert_7 rfl ?_
    refine x0_ges F hX dX0_insert_8 ?_
    refine pm_top (y := nI ne) (hes) ?_
    refine lv_iconst (v := 1) hx hb dX0_insert_11 (by decide) ?_
    refine lv_iadd hx hb dX0_insert_12 ?_
    refine pm_top (y := nI (ne + 1)) (nI_1 ne) ?_
    refine x0_pes F hX dX0_insert_13 (fun H locs hX => ?_)
    refine lv_aload_n hx hb dX0_insert_16 rfl (lv_at hl 1 rfl) ?_
    refine x0_gev F hX dX0_insert_17 ?_
    refine lv_iload hx hb dX0_insert_20 (lv_at hl 0 rfl) ?_
    refine lv_iload_n hx hb dX0_insert_22 rfl (lv_at hl 4 rfl) ?_
    refine x0_sev F hX (by omega) dX0_insert_23 (fun H locs hX => ?_)
    refine lv_aload_n hx hb dX0_insert_24 rfl (lv_at hl 1 rfl) ?_
    refine x0_get F hX dX0_insert_25 ?_
    refine lv_iload hx hb dX0_insert_28 (lv_at hl 0 rfl) ?_
    refine lv_iload hx hb dX0_insert_30 (lv_at hl 5 rfl) ?_
    refine x0_set F hX (by omega) (ht) dX0_insert_32 (fun H locs hX => ?_)
    refine lv_aload_n hx hb dX0_insert_33 rfl (lv_at hl 1 rfl) ?_
    refine x0_gea F hX dX0_insert_34 ?_
    refine lv_iload hx hb dX0_insert_37 (lv_at hl 0 rfl) ?_
    refine lv_iload hx hb dX0_insert_39 (lv_at hl 6 rfl) ?_
    refine x0_sea F hX (by omega) dX0_insert_41 (fun H locs hX => ?_)
    refine lv_iload_n hx hb dX0_insert_42 rfl (lv_at hl 3 rfl) ?_
    refine lv_iconst (v := (-1)) hx hb dX0_insert_43 (by decide) ?_
    refine lv_icmp_ne (tgt := 71) hx hb dX0_insert_44 (by decide) (fun c44 => ?_) (fun c44 => ?_)
    · exact absurd rfl c44
    · refine lv_aload_n hx hb dX0_insert_47 rfl (lv_at hl 1 rfl) ?_
      refine x0_gen F hX dX0_insert_48 ?_
      refine lv_iload hx hb dX0_insert_51 (lv_at hl 0 rfl) ?_
      refine lv_aload_n hx hb dX0_insert_53 rfl (lv_at hl 1 rfl) ?_
      refine x0_ghe F hX dX0_insert_54 ?_
      refine lv_iload_n hx hb dX0_insert_57 rfl (lv_at hl 2 rfl) ?_
      refine x0_lhe F hX (by omega) dX0_insert_58 ?_
      refine x0_sen F hX (by omega) dX0_insert_59 (fun H locs hX => ?_)
      refine lv_aload_n hx hb dX0_insert_60 rfl (lv_at hl 1 rfl) ?_
      refine x0_ghe F hX dX0_insert_61 ?_
      refine lv_iload_n hx hb dX0_insert_64 rfl (lv_at hl 2 rfl) ?_
      refine lv_iload hx hb dX0_insert_65 (lv_at hl 0 rfl) ?_
      refine x0_she F hX (by omega) dX0_insert_67 (fun H locs hX => ?_)
      refine lv_goto (tgt := 92) hx hb dX0_insert_68 (by decide) ?_
      refine lv_iload hx hb dX0_insert_92 (lv_at hl 0 rfl) ?_
      exact hret _ _ _ _ 94 ls hX ⟨rfl, rfl⟩ rfl dX0_insert_94
  | some x =>
    have hx6 := ho x rfl
    have hl : lv_has ls 7 [(0, .ref (q 0)), (1, .int (nI kk)), (2, .int (nI x)), (3, .int v), (4, .int th), (5, .int va)] := hl
    refine lv_aload_n hx hb dX0_insert_0 rfl (lv_at hl 0 rfl) ?_
    refine x0_ges F hX dX0_insert_1 ?_
    refine pm_top (y := nI ne) (hes) ?_
    refine lv_istore (lv' := [(6, .int (nI ne)), (0, .ref (q 0)), (1, .int (nI kk)), (2, .int (nI x)), (3, .int v), (4, .int th), (5, .int va)]) hx hb dX0_insert_4 hl (by decide) rfl (fun ls hl => ?_)
    refine lv_aload_n hx hb dX0_insert_6 rfl (lv_at hl 1 rfl) ?_
    refine lv_dup hx hb dX0_insert_7 rfl ?_
    refine x0_ges F hX dX0_insert_8 ?_
    refine pm_top (y := nI ne) (hes) ?_
    refine lv_iconst (v := 1) hx hb dX0_insert_11 (by decide) ?_
    refine lv_iadd hx hb dX0_insert_12 ?_
    refine pm_top (y := nI (ne + 1)) (nI_1 ne) ?_
    refine x0_pes F hX dX0_insert_13 (fun H locs hX => ?_)
    refine lv_aload_n hx hb dX0_insert_16 rfl (lv_at hl 1 rfl) ?_
    refine x0_gev F hX dX0_insert_17 ?_
    refine lv_iload hx hb dX0_insert_20 (lv_at hl 0 rfl) ?_
    refine lv_iload_n hx hb dX0_insert_22 rfl (lv_at hl 4 rfl) ?_
    refine x0_sev F hX (by omega) dX0_insert_23 (fun H locs hX => ?_)
    refine lv_aload_n hx hb dX0_insert_24 rfl (lv_at hl 1 rfl) ?_
    refine x0_get F hX dX0_insert_25 ?_
    refine lv_iload hx hb dX0_insert_28 (lv_at hl 0 rfl) ?_
    refine lv_iload hx hb dX0_insert_30 (lv_at hl 5 rfl) ?_
    refine x0_set F hX (by omega) (ht) dX0_insert_32 (fun H locs hX => ?_)
    refine lv_aload_n hx hb dX0_insert_33 rfl (lv_at hl 1 rfl) ?_
    refine x0_gea F hX dX0_insert_34 ?_
    refine lv_iload hx hb dX0_insert_37 (lv_at hl 0 rfl) ?_
    refine lv_iload hx hb dX0_insert_39 (lv_at hl 6 rfl) ?_
    refine x0_sea F hX (by omega) dX0_insert_41 (fun H locs hX => ?_)
    refine lv_iload_n hx hb dX0_insert_42 rfl (lv_at hl 3 rfl) ?_
    refine lv_iconst (v := (-1)) hx hb dX0_insert_43 (by decide) ?_
    refine lv_icmp_ne (tgt := 71) hx hb dX0_insert_44 (by decide) (fun c44 => ?_) (fun c44 => ?_)
    · refine lv_aload_n hx hb dX0_insert_71 rfl (lv_at hl 1 rfl) ?_
      refine x0_gen F hX dX0_insert_72 ?_
      refine lv_iload hx hb dX0_insert_75 (lv_at hl 0 rfl) ?_
      refine lv_aload_n hx hb dX0_insert_77 rfl (lv_at hl 1 rfl) ?_
      refine x0_gen F hX dX0_insert_78 ?_
      refine lv_iload_n hx hb dX0_insert_81 rfl (lv_at hl 3 rfl) ?_
      refine x0_len F hX (by omega) dX0_insert_82 ?_
      refine x0_sen F hX (by omega) dX0_insert_83 (fun H locs hX => ?_)
      refine lv_aload_n hx hb dX0_insert_84 rfl (lv_at hl 1 rfl) ?_
      refine x0_gen F hX dX0_insert_85 ?_
      refine lv_iload_n hx hb dX0_insert_88 rfl (lv_at hl 3 rfl) ?_
      refine lv_iload hx hb dX0_insert_89 (lv_at hl 0 rfl) ?_
      refine x0_sen F hX (by omega) dX0_insert_91 (fun H locs hX => ?_)
      refine lv_iload hx hb dX0_insert_92 (lv_at hl 0 rfl) ?_
      exact hret _ _ _ _ 94 ls hX ⟨rfl, rfl⟩ rfl dX0_insert_94
    · exact absurd c44 (pm_nm1 (by omega))

set_option maxHeartbeats 4000000 in
set_option maxRecDepth 100000 in
/-- spreadLabels() -/
theorem c0_spreadLabels (l : Launch) (D : va_G) (q : Nat → Nat) (a : Nat → ClassId) (u : pm_S0) {od : List Nat} (hod : ∀ v ∈ od, v < 40) (hlen : od.length ≤ 40) (hc : pm_chn (k_fo u.1) (nI 0) od) : pm_Mv l yX0_spreadLabels cX0_spreadLabels 4 (pm_rm 0) D (pm_t0 a) (pm_w0 q a) [.ref (q 0)] u (fun u' => u' = (k_sla u.1 (pm_spl (k_la u.1) od (2 ^ 50)), u.2)) := by
  refine pm_Mv_of (by decide) (Nat.le_of_ble_eq_true rfl) ?_
  intro p e s m below meth c A args Q ls F hA hret hX hl
  have hx := F.1
  have hb := F.2.1
  have hl : lv_has ls 4 [(0, .ref (q 0))] := hl
  have loop : ∀ (T : List Nat) (at_ : Int32) (x : Nat) (la : Nat → Int64) (H : Heap) (locs : List Loc) (ls : Array Slot), (∀ v ∈ T, v < 40) → pm_chn (k_fo u.1) at_ T → pm_spl (k_la u.1) od (2 ^ 50) = pm_spl la T x → pm_X D A s (pm_t0 a) (pm_w0 q a) (k_sla u.1 la, u.2) H locs → lv_has ls 4 [(3, .int at_), (1, .long (lN x)), (0, .ref (q 0))] → W p l e (pm_rm 0) s m args below meth c H locs 0 0 Q (F0 m 6 ls []) := by
    intro T
    induction T with
    | nil =>
      intro at_ x la H locs ls hT hc he hX hl
      have hc : at_ = -1 := hc
      subst hc
      refine lv_iload_n hx hb dX0_spreadLabels_6 rfl (lv_at hl 0 rfl) ?_
      refine lv_iconst (v := (-1)) hx hb dX0_spreadLabels_7 (by decide) ?_
      refine lv_icmp_eq (tgt := 34) hx hb dX0_spreadLabels_8 (by decide) (fun c8 => ?_) (fun c8 => ?_)
      · refine hret _ _ _ 34 ls hX ?_ dX0_spreadLabels_34
        rw [he]
        rfl
      · exact absurd rfl c8
    | cons y t ih =>
      intro at_ x la H locs ls hT hc he hX hl
      obtain ⟨hc1, hc2⟩ := hc
      subst hc1
      have hy := hT y List.mem_cons_self
      refine lv_iload_n hx hb dX0_spreadLabels_6 rfl (lv_at hl 0 rfl) ?_
      refine lv_iconst (v := (-1)) hx hb dX0_spreadLabels_7 (by decide) ?_
      refine lv_icmp_eq (tgt := 34) hx hb dX0_spreadLabels_8 (by decide) (fun c8 => ?_) (fun c8 => ?_)
      · exact absurd c8 (pm_nm1 (by omega))
      · refine lv_aload_n hx hb dX0_spreadLabels_11 rfl (lv_at hl 2 rfl) ?_
        refine x0_gla F hX dX0_spreadLabels_12 ?_
        refine lv_iload_n hx hb dX0_spreadLabels_15 rfl (lv_at hl 0 rfl) ?_
        refine lv_lload_n hx hb dX0_spreadLabels_16 rfl (lv_at hl 1 rfl) ?_
        refine x0_sla F hX (by omega) dX0_spreadLabels_17 (fun H locs hX => ?_)
        have hX : pm_X D A s (pm_t0 a) (pm_w0 q a) (k_sla u.1 (vp_updL la y (lN x)), u.2) H locs := hX
        refine lv_lload_n hx hb dX0_spreadLabels_18 rfl (lv_at hl 1 rfl) ?_
        refine lv_ldc2 (v := 1125899906842624) hx hb F.2.2.2.1 (F.2.2.2.2 _ q90) dX0_spreadLabels_19 ?_
        refine pm_topl (y := lN (2 ^ 50)) (by decide) ?_
        refine lv_ladd hx hb dX0_spreadLabels_22 ?_
        refine pm_topl (y := lN (x + 2 ^ 50)) (lN_add x (2 ^ 50)) ?_
        refine lv_lstore_n (lv' := [(1, .long (lN (x + 2 ^ 50))), (3, .int (nI y)), (0, .ref (q 0))]) hx hb dX0_spreadLabels_23 rfl hl (by decide) rfl (fun ls hl => ?_)
        refine lv_aload_n hx hb dX0_spreadLabels_24 rfl (lv_at hl 2 rfl) ?_
        refine x0_gfo F hX dX0_spreadLabels_25 ?_
        refine lv_iload_n hx hb dX0_spreadLabels_28 rfl (lv_at hl 1 rfl) ?_
        refine x0_lfo F hX (by omega) dX0_spreadLabels_29 ?_
        refine pm_top (y := k_fo u.1 y) (rfl) ?_
        refine lv_istore_n (lv' := [(3, .int (k_fo u.1 y)), (1, .long (lN (x + 2 ^ 50))), (0, .ref (q 0))]) hx hb dX0_spreadLabels_30 rfl hl (by decide) rfl (fun ls hl => ?_)
        refine lv_goto (tgt := 6) hx hb dX0_spreadLabels_31 (by decide) ?_
        exact ih (k_fo u.1 y) (x + 2 ^ 50) _ _ _ ls (fun v h => hT v (List.mem_cons_of_mem _ h)) hc2 he hX (lv_sub hl [0, 1, 2] rfl)
  refine lv_ldc2 (v := 1125899906842624) hx hb F.2.2.2.1 (F.2.2.2.2 _ q90) dX0_spreadLabels_0 ?_
  refine pm_topl (y := lN (2 ^ 50)) (by decide) ?_
  refine lv_lstore_n (lv' := [(1, .long (lN (2 ^ 50))), (0, .ref (q 0))]) hx hb dX0_spreadLabels_3 rfl hl (by decide) rfl (fun ls hl => ?_)
  refine lv_iconst (v := nI 0) hx hb dX0_spreadLabels_4 (by decide) ?_
  refine lv_istore_n (lv' := [(3, .int (nI 0)), (1, .long (lN (2 ^ 50))), (0, .ref (q 0))]) hx hb dX0_spreadLabels_5 rfl hl (by decide) rfl (fun ls hl => ?_)
  exact loop od (nI 0) (2 ^ 50) (k_la u.1) _ _ ls hod hc rfl hX (lv_sub hl [0, 1, 2] rfl)
end
section
/-! ===== PersistentMap: look, differ, open, write ===== -/
def pm_on (o : Option Int32) : Int32 := if o.isSome = true then 1 else 0
theorem pm_on_bit (o : Option Int32) : pm_on o = 0 ∨ pm_on o = 1 := by
  cases o
  · exact Or.inl rfl
  · exact Or.inr rfl
theorem pm_on_val (o : Option Int32) : (if pm_on o = 1 then some (o.getD 0) else none) = o := by
  cases o <;> rfl
theorem pm_on_eq {x y : Option Int32} (h1 : pm_on x = pm_on y) (h2 : x.getD 0 = y.getD 0) : x = y := by
  rw [← pm_on_val x, ← pm_on_val y, h1, h2]
theorem pm_on_bl (o : Option Int32) : pm_bl (pm_on o) (o.isSome = true) := by
  cases o
  · exact pm_bl.zero (by simp)
  · exact pm_bl.one rfl
theorem pm_not0 {x : Int32} (h : x = 0 ∨ x = 1) (c : ¬ x = 0) : x = 1 := by
  rcases h with h | h
  · exact absurd h c
  · exact h
theorem pm_R0.n40 {k : pm_K0} {b : pm_AB} {ne : Nat} (h : pm_R0 k b ne) : b.1 ≤ 40 := h.iv.1.2.1
theorem pm_R0.cn {k : pm_K0} {b : pm_AB} {ne : Nat} (h : pm_R0 k b ne) : k_cn k = nI b.1 := h.iv.1.2.2
set_option maxHeartbeats 4000000 in
set_option maxRecDepth 100000 in
/-- look(v, kk) -/
theorem c0_look (l : Launch) (D : va_G) (q : Nat → Nat) (a : Nat → ClassId) (u : pm_S0) {b : pm_AB} {ne : Nat} (hI : pm_R0 u.1 b ne) {v kk : Nat} (hv : v < b.1) (hk : kk < 32) : pm_Mv l yX0_look cX0_look 4 (pm_rm 1) D (pm_t0 a) (pm_w0 q a) [.ref (q 0), .int (nI v), .int (nI kk)] u (fun u' => u' = (u.1, pm_on (b.2.2 v kk), (b.2.2 v kk).getD 0)) := by
  refine pm_Mv_of (by decide) (Nat.le_of_ble_eq_true rfl) ?_
  intro p e s m below meth c A args Q ls F hA hret hX hl
  have hx := F.1
  have hb := F.2.1
  have hl : lv_has ls 4 [(0, .ref (q 0)), (1, .int (nI v)), (2, .int (nI kk))] := hl
  have hn := hI.n40
  obtain ⟨lb, vv, L, hE, hlv, hc, o, ho1, ho2, ho3⟩ := pm_look_fact hI hv hk
  refine lv_aload_n hx hb dX0_look_0 rfl (lv_at hl 0 rfl) ?_
  refine lv_iload_n hx hb dX0_look_1 rfl (lv_at hl 2 rfl) ?_
  refine lv_iconst (v := (-1)) hx hb dX0_look_2 (by decide) ?_
  refine lv_iload_n hx hb dX0_look_3 rfl (lv_at hl 1 rfl) ?_
  refine pm_calli (rest := []) F hA hX (c0_advance l D q a u (lb := lb) (vv := vv) (L := L) (j := v) (by omega) hlv hE (nI kk) (-1) (Or.inl ⟨rfl, kk, hk, rfl, hc⟩)) rfl rfl hG0_advance hd0_advance ⟨⟨rfl, rfl⟩, Nat.le_of_ble_eq_true rfl, Nat.le_of_ble_eq_true rfl⟩ rfl rfl hl.1 (Nat.le_of_ble_eq_true rfl) dX0_look_4 ⟨Nat.zero_le _, Nat.zero_le _⟩ (fun r4 u4 H locs hw4 hX => ?_)
  rw [hw4.2] at hX
  refine pm_top (y := pm_ov o) (hw4.1.trans ho1) ?_
  cases o with
  | none =>
    refine pm_top (y := -1) rfl ?_
    refine lv_istore_n (lv' := [(3, .int (-1)), (0, .ref (q 0)), (1, .int (nI v)), (2, .int (nI kk))]) hx hb dX0_look_7 rfl hl (by decide) rfl (fun ls hl => ?_)
    refine lv_aload_n hx hb dX0_look_8 rfl (lv_at hl 1 rfl) ?_
    refine lv_iload_n hx hb dX0_look_9 rfl (lv_at hl 0 rfl) ?_
    refine lv_iconst (v := (-1)) hx hb dX0_look_10 (by decide) ?_
    refine lv_icmp_eq (tgt := 27) hx hb dX0_look_11 (by decide) (fun c11 => ?_) (fun c11 => ?_)
    · refine lv_iconst (v := 0) hx hb dX0_look_27 (by decide) ?_
      refine x0_ptn F hX (Or.inl rfl) dX0_look_28 (fun H locs hX => ?_)
      refine lv_aload_n hx hb dX0_look_31 rfl (lv_at hl 1 rfl) ?_
      refine lv_aload_n hx hb dX0_look_32 rfl (lv_at hl 1 rfl) ?_
      refine x0_gtn F hX dX0_look_33 ?_
      refine lv_if_eq (tgt := 48) hx hb dX0_look_36 (by decide) (fun c36 => ?_) (fun c36 => ?_)
      · refine lv_iconst (v := 0) hx hb dX0_look_48 (by decide) ?_
        refine x0_pvn F hX dX0_look_49 (fun H locs hX => ?_)
        exact hret _ _ _ 52 ls hX (by rw [ho3]; rfl) dX0_look_52
      · exact absurd rfl c36
    · exact absurd rfl c11
  | some x =>
    obtain ⟨hx6, hbit⟩ := ho2 x rfl
    refine pm_top (y := nI x) rfl ?_
    refine lv_istore_n (lv' := [(3, .int (nI x)), (0, .ref (q 0)), (1, .int (nI v)), (2, .int (nI kk))]) hx hb dX0_look_7 rfl hl (by decide) rfl (fun ls hl => ?_)
    refine lv_aload_n hx hb dX0_look_8 rfl (lv_at hl 1 rfl) ?_
    refine lv_iload_n hx hb dX0_look_9 rfl (lv_at hl 0 rfl) ?_
    refine lv_iconst (v := (-1)) hx hb dX0_look_10 (by decide) ?_
    refine lv_icmp_eq (tgt := 27) hx hb dX0_look_11 (by decide) (fun c11 => ?_) (fun c11 => ?_)
    · exact absurd c11 (pm_nm1 (by omega))
    · refine lv_aload_n hx hb dX0_look_14 rfl (lv_at hl 1 rfl) ?_
      refine x0_get F hX dX0_look_15 ?_
      refine lv_iload_n hx hb dX0_look_18 rfl (lv_at hl 0 rfl) ?_
      refine x0_let F hX (by omega) dX0_look_19 ?_
      refine lv_if_eq (tgt := 27) hx hb dX0_look_20 (by decide) (fun c20 => ?_) (fun c20 => ?_)
      · have e0 : pm_lk u.1 (some x) = none := if_neg (by rw [show k_et u.1 x = 0 from c20]; decide)
        refine lv_iconst (v := 0) hx hb dX0_look_27 (by decide) ?_
        refine x0_ptn F hX (Or.inl rfl) dX0_look_28 (fun H locs hX => ?_)
        refine lv_aload_n hx hb dX0_look_31 rfl (lv_at hl 1 rfl) ?_
        refine lv_aload_n hx hb dX0_look_32 rfl (lv_at hl 1 rfl) ?_
        refine x0_gtn F hX dX0_look_33 ?_
        refine lv_if_eq (tgt := 48) hx hb dX0_look_36 (by decide) (fun c36 => ?_) (fun c36 => ?_)
        · refine lv_iconst (v := 0) hx hb dX0_look_48 (by decide) ?_
          refine x0_pvn F hX dX0_look_49 (fun H locs hX => ?_)
          exact hret _ _ _ 52 ls hX (by rw [ho3, e0]; rfl) dX0_look_52
        · exact absurd rfl c36
      · have e0 : pm_lk u.1 (some x) = some (k_ea u.1 x) := if_pos (pm_not0 hbit c20)
        refine lv_iconst (v := 1) hx hb dX0_look_23 (by decide) ?_
        refine lv_goto (tgt := 28) hx hb dX0_look_24 (by decide) ?_
        refine x0_ptn F hX (Or.inr rfl) dX0_look_28 (fun H locs hX => ?_)
        refine lv_aload_n hx hb dX0_look_31 rfl (lv_at hl 1 rfl) ?_
        refine lv_aload_n hx hb dX0_look_32 rfl (lv_at hl 1 rfl) ?_
        refine x0_gtn F hX dX0_look_33 ?_
        refine lv_if_eq (tgt := 48) hx hb dX0_look_36 (by decide) (fun c36 => ?_) (fun c36 => ?_)
        · exact absurd c36 (show ¬ (1 : Int32) = 0 by decide)
        · refine lv_aload_n hx hb dX0_look_39 rfl (lv_at hl 1 rfl) ?_
          refine x0_gea F hX dX0_look_40 ?_
          refine lv_iload_n hx hb dX0_look_43 rfl (lv_at hl 0 rfl) ?_
          refine x0_lea F hX (by omega) dX0_look_44 ?_
          refine lv_goto (tgt := 49) hx hb dX0_look_45 (by decide) ?_
          refine x0_pvn F hX dX0_look_49 (fun H locs hX => ?_)
          exact hret _ _ _ 52 ls hX (by rw [ho3, e0]; rfl) dX0_look_52

set_option maxHeartbeats 4000000 in
set_option maxRecDepth 100000 in
/-- differ(v, w, kk) -/
theorem c0_differ (l : Launch) (D : va_G) (q : Nat → Nat) (a : Nat → ClassId) (u : pm_S0) {b : pm_AB} {ne : Nat} (hI : pm_R0 u.1 b ne) {v w kk : Nat} (hv : v < b.1) (hw : w < b.1) (hk : kk < 32) : pm_Mi l yX0_differ cX0_differ 6 .boolean (pm_rm 2) D (pm_t0 a) (pm_w0 q a) [.ref (q 0), .int (nI v), .int (nI w), .int (nI kk)] u (fun r u' => pm_bl r (b.2.2 v kk ≠ b.2.2 w kk) ∧ u'.1 = u.1) := by
  refine pm_Mi_of (by decide) (Nat.le_of_ble_eq_true rfl) ?_
  intro p e s m below meth c A args Q ls F hA hret hX hl
  have hx := F.1
  have hb := F.2.1
  have hl : lv_has ls 6 [(0, .ref (q 0)), (1, .int (nI v)), (2, .int (nI w)), (3, .int (nI kk))] := hl
  refine lv_aload_n hx hb dX0_differ_0 rfl (lv_at hl 0 rfl) ?_
  refine lv_iload_n hx hb dX0_differ_1 rfl (lv_at hl 1 rfl) ?_
  refine lv_iload_n hx hb dX0_differ_2 rfl (lv_at hl 3 rfl) ?_
  refine pm_callv (rest := []) F hA hX (c0_look l D q a u hI hv hk) rfl rfl hG0_look hd0_look ⟨⟨rfl, rfl⟩, Nat.le_of_ble_eq_true rfl, Nat.le_of_ble_eq_true rfl⟩ rfl rfl hl.1 (Nat.le_of_ble_eq_true rfl) dX0_differ_3 ⟨Nat.zero_le _, Nat.zero_le _⟩ (fun u3 H locs hw3 hX => ?_)
  rw [hw3] at hX
  refine lv_aload_n hx hb dX0_differ_6 rfl (lv_at hl 0 rfl) ?_
  refine x0_gtn F hX dX0_differ_7 ?_
  refine pm_top (y := pm_on (b.2.2 v kk)) (rfl) ?_
  refine lv_istore (lv' := [(4, .int (pm_on (b.2.2 v kk))), (0, .ref (q 0)), (1, .int (nI v)), (2, .int (nI w)), (3, .int (nI kk))]) hx hb dX0_differ_10 hl (by decide) rfl (fun ls hl => ?_)
  refine lv_aload_n hx hb dX0_differ_12 rfl (lv_at hl 1 rfl) ?_
  refine x0_gvn F hX dX0_differ_13 ?_
  refine pm_top (y := (b.2.2 v kk).getD 0) (rfl) ?_
  refine lv_istore (lv' := [(5, .int ((b.2.2 v kk).getD 0)), (4, .int (pm_on (b.2.2 v kk))), (0, .ref (q 0)), (1, .int (nI v)), (2, .int (nI w)), (3, .int (nI kk))]) hx hb dX0_differ_16 hl (by decide) rfl (fun ls hl => ?_)
  refine lv_aload_n hx hb dX0_differ_18 rfl (lv_at hl 2 rfl) ?_
  refine lv_iload_n hx hb dX0_differ_19 rfl (lv_at hl 4 rfl) ?_
  refine lv_iload_n hx hb dX0_differ_20 rfl (lv_at hl 5 rfl) ?_
  refine pm_callv (rest := []) F hA hX (c0_look l D q a (u.1, pm_on (b.2.2 v kk), (b.2.2 v kk).getD 0) hI hw hk) rfl rfl hG0_look hd0_look ⟨⟨rfl, rfl⟩, Nat.le_of_ble_eq_true rfl, Nat.le_of_ble_eq_true rfl⟩ rfl rfl hl.1 (Nat.le_of_ble_eq_true rfl) dX0_differ_21 ⟨Nat.zero_le _, Nat.zero_le _⟩ (fun u21 H locs hw21 hX => ?_)
  rw [hw21] at hX
  refine lv_iload hx hb dX0_differ_24 (lv_at hl 1 rfl) ?_
  refine lv_aload_n hx hb dX0_differ_26 rfl (lv_at hl 2 rfl) ?_
  refine x0_gtn F hX dX0_differ_27 ?_
  refine pm_top (y := pm_on (b.2.2 w kk)) (rfl) ?_
  refine lv_icmp_ne (tgt := 42) hx hb dX0_differ_30 (by decide) (fun c30 => ?_) (fun c30 => ?_)
  · refine lv_iconst (v := 1) hx hb dX0_differ_42 (by decide) ?_
    refine lv_goto (tgt := 47) hx hb dX0_differ_43 (by decide) ?_
    exact hret 1 (u.1, pm_on (b.2.2 w kk), (b.2.2 w kk).getD 0) _ _ 47 ls hX (⟨pm_bl.one (fun z => c30 (by rw [z])), rfl⟩) (rfl) dX0_differ_47
  · refine lv_iload hx hb dX0_differ_33 (lv_at hl 0 rfl) ?_
    refine lv_aload_n hx hb dX0_differ_35 rfl (lv_at hl 2 rfl) ?_
    refine x0_gvn F hX dX0_differ_36 ?_
    refine pm_top (y := (b.2.2 w kk).getD 0) (rfl) ?_
    refine lv_icmp_eq (tgt := 46) hx hb dX0_differ_39 (by decide) (fun c39 => ?_) (fun c39 => ?_)
    · refine lv_iconst (v := 0) hx hb dX0_differ_46 (by decide) ?_
      exact hret 0 (u.1, pm_on (b.2.2 w kk), (b.2.2 w kk).getD 0) _ _ 47 ls hX (⟨pm_bl.zero (fun z => z (pm_on_eq c30 c39)), rfl⟩) (rfl) dX0_differ_47
    · refine lv_iconst (v := 1) hx hb dX0_differ_42 (by decide) ?_
      refine lv_goto (tgt := 47) hx hb dX0_differ_43 (by decide) ?_
      exact hret 1 (u.1, pm_on (b.2.2 w kk), (b.2.2 w kk).getD 0) _ _ 47 ls hX (⟨pm_bl.one (fun z => c39 (by rw [z])), rfl⟩) (rfl) dX0_differ_47

set_option maxHeartbeats 4000000 in
set_option maxRecDepth 100000 in
/-- open(v): a new version behind v -/
theorem c0_open (l : Launch) (D : va_G) (q : Nat → Nat) (a : Nat → ClassId) (u : pm_S0) {b : pm_AB} {ne : Nat} (hI : pm_R0 u.1 b ne) {v : Nat} (hv : v < b.1) (hn : b.1 < 40) : pm_Mi l yX0_open cX0_open 7 .int (pm_rm 1) D (pm_t0 a) (pm_w0 q a) [.ref (q 0), .int (nI v)] u (fun r u' => r = nI b.1 ∧ pm_Rw u'.1 (pm_opn b v) ne b.1) := by
  refine pm_Mi_of (by decide) (Nat.le_of_ble_eq_true rfl) ?_
  intro p e s m below meth c A args Q ls F hA hret hX hl
  have hx := F.1
  have hb := F.2.1
  have hl : lv_has ls 7 [(0, .ref (q 0)), (1, .int (nI v))] := hl
  obtain ⟨od, ps, lb, E, vv, hIv, hIo, hEs, hEm⟩ := hI
  obtain ⟨P1, B1, rfl⟩ := List.append_of_mem ((pm_Io_in hIo).mpr hv)
  have hcn : k_cn u.1 = nI b.1 := hIv.1.2.2
  have hcB := pm_chn_at P1 _ hIo.1
  have hlv := hIo.2.2.2.2.1 v hv
  have hin : ∀ x, x ∈ P1 ++ v :: B1 ↔ x < b.1 := fun x => pm_Io_in hIo
  refine lv_aload_n hx hb dX0_open_0 rfl (lv_at hl 0 rfl) ?_
  refine x0_gcn F hX dX0_open_1 ?_
  refine pm_top (y := nI b.1) (hcn) ?_
  refine lv_istore_n (lv' := [(2, .int (nI b.1)), (0, .ref (q 0)), (1, .int (nI v))]) hx hb dX0_open_4 rfl hl (by decide) rfl (fun ls hl => ?_)
  refine lv_aload_n hx hb dX0_open_5 rfl (lv_at hl 1 rfl) ?_
  refine x0_gpa F hX dX0_open_6 ?_
  refine lv_iload_n hx hb dX0_open_9 rfl (lv_at hl 0 rfl) ?_
  refine lv_iload_n hx hb dX0_open_10 rfl (lv_at hl 2 rfl) ?_
  refine x0_spa F hX (by omega) dX0_open_11 (fun H locs hX => ?_)
  refine lv_aload_n hx hb dX0_open_12 rfl (lv_at hl 1 rfl) ?_
  refine x0_gfo F hX dX0_open_13 ?_
  refine lv_iload_n hx hb dX0_open_16 rfl (lv_at hl 0 rfl) ?_
  refine lv_aload_n hx hb dX0_open_17 rfl (lv_at hl 1 rfl) ?_
  refine x0_gfo F hX dX0_open_18 ?_
  refine lv_iload_n hx hb dX0_open_21 rfl (lv_at hl 2 rfl) ?_
  refine x0_lfo F hX (by omega) dX0_open_22 ?_
  refine pm_top (y := k_fo u.1 v) (rfl) ?_
  refine x0_sfo F hX (by omega) dX0_open_23 (fun H locs hX => ?_)
  refine lv_aload_n hx hb dX0_open_24 rfl (lv_at hl 1 rfl) ?_
  refine x0_gfo F hX dX0_open_25 ?_
  refine lv_iload_n hx hb dX0_open_28 rfl (lv_at hl 2 rfl) ?_
  refine lv_iload_n hx hb dX0_open_29 rfl (lv_at hl 0 rfl) ?_
  refine x0_sfo F hX (by omega) dX0_open_30 (fun H locs hX => ?_)
  refine lv_aload_n hx hb dX0_open_31 rfl (lv_at hl 1 rfl) ?_
  refine lv_dup hx hb dX0_open_32 rfl ?_
  refine x0_gcn F hX dX0_open_33 ?_
  refine pm_top (y := nI b.1) (hcn) ?_
  refine lv_iconst (v := 1) hx hb dX0_open_36 (by decide) ?_
  refine lv_iadd hx hb dX0_open_37 ?_
  refine pm_top (y := nI (b.1 + 1)) (nI_1 b.1) ?_
  refine x0_pcn F hX dX0_open_38 (fun H locs hX => ?_)
  have hX : pm_X D A s (pm_t0 a) (pm_w0 q a) (pm_opk u.1 b.1 v (k_la u.1), u.2) H locs := hX
  cases B1 with
  | nil =>
    have hf : k_fo u.1 v = -1 := hcB
    have hlt := hlv.2
    refine lv_aload_n hx hb dX0_open_41 rfl (lv_at hl 1 rfl) ?_
    refine x0_gfo F hX dX0_open_42 ?_
    refine lv_iload_n hx hb dX0_open_45 rfl (lv_at hl 0 rfl) ?_
    refine x0_lfo F hX (by omega) dX0_open_46 ?_
    refine pm_top (y := -1) ((show _ = k_fo u.1 v by show upd (upd _ _ _) _ _ _ = _; rw [pk_un (by omega), pk_us]).trans hf) ?_
    refine lv_iconst (v := (-1)) hx hb dX0_open_47 (by decide) ?_
    refine lv_icmp_ne (tgt := 57) hx hb dX0_open_48 (by decide) (fun c48 => ?_) (fun c48 => ?_)
    · exact absurd rfl c48
    · refine lv_ldc2 (v := 2305843009213693952) hx hb F.2.2.2.1 (F.2.2.2.2 _ q84) dX0_open_51 ?_
      refine pm_topl (y := lN (2 ^ 61)) (by decide) ?_
      refine lv_goto (tgt := 68) hx hb dX0_open_54 (by decide) ?_
      refine lv_lstore_n (lv' := [(3, .long (lN (2 ^ 61))), (2, .int (nI b.1)), (0, .ref (q 0)), (1, .int (nI v))]) hx hb dX0_open_68 rfl hl (by decide) rfl (fun ls hl => ?_)
      refine lv_lload_n hx hb dX0_open_69 rfl (lv_at hl 0 rfl) ?_
      refine lv_aload_n hx hb dX0_open_70 rfl (lv_at hl 2 rfl) ?_
      refine x0_gla F hX dX0_open_71 ?_
      refine lv_iload_n hx hb dX0_open_74 rfl (lv_at hl 3 rfl) ?_
      refine x0_lla F hX (by omega) dX0_open_75 ?_
      refine pm_topl (y := lN (lb v)) (hlv.1) ?_
      refine lv_lsub hx hb dX0_open_76 ?_
      refine pm_topl (y := lN (2 ^ 61 - lb v)) (lN_sub (Nat.le_of_lt hlt)) ?_
      refine lv_lstore (lv' := [(5, .long (lN (2 ^ 61 - lb v))), (3, .long (lN (2 ^ 61))), (2, .int (nI b.1)), (0, .ref (q 0)), (1, .int (nI v))]) hx hb dX0_open_77 hl (by decide) rfl (fun ls hl => ?_)
      refine lv_lload hx hb dX0_open_79 (lv_at hl 0 rfl) ?_
      refine lv_ldc2 (v := 2) hx hb F.2.2.2.1 (F.2.2.2.2 _ q85) dX0_open_81 ?_
      refine pm_topl (y := lN 2) (rfl) ?_
      refine W.lcmp hx hb dX0_open_84 ?_
      refine lv_if_ge (tgt := 95) hx hb dX0_open_85 (by decide) (fun c85 => ?_) (fun c85 => ?_)
      · have hge : lb v + 2 ≤ 2 ^ 61 := by have := (pk_lLE (by omega) (by omega)).mp ((lg_cmp_ge _ _).mp c85); omega
        refine lv_aload_n hx hb dX0_open_95 rfl (lv_at hl 3 rfl) ?_
        refine x0_gla F hX dX0_open_96 ?_
        refine lv_iload_n hx hb dX0_open_99 rfl (lv_at hl 2 rfl) ?_
        refine lv_aload_n hx hb dX0_open_100 rfl (lv_at hl 3 rfl) ?_
        refine x0_gla F hX dX0_open_101 ?_
        refine lv_iload_n hx hb dX0_open_104 rfl (lv_at hl 4 rfl) ?_
        refine x0_lla F hX (by omega) dX0_open_105 ?_
        refine pm_topl (y := lN (lb v)) (hlv.1) ?_
        refine lv_lload hx hb dX0_open_106 (lv_at hl 0 rfl) ?_
        refine lv_ldc2 (v := 2) hx hb F.2.2.2.1 (F.2.2.2.2 _ q85) dX0_open_108 ?_
        refine pm_topl (y := lN 2) (rfl) ?_
        refine lv_ldiv hx hb dX0_open_111 (by decide) ?_
        refine pm_topl (y := lN ((2 ^ 61 - lb v) / 2)) (pk_lDiv (by omega) (by omega) (by omega)) ?_
        refine lv_ladd hx hb dX0_open_112 ?_
        refine pm_topl (y := lN (lb v + (2 ^ 61 - lb v) / 2)) (lN_add _ _) ?_
        refine x0_sla F hX (by omega) dX0_open_113 (fun H locs hX => ?_)
        refine lv_iload_n hx hb dX0_open_114 rfl (lv_at hl 2 rfl) ?_
        exact hret _ _ _ _ 115 ls hX ⟨rfl, pm_open_mid (up := 2 ^ 61) hIv hIo hEs hEm hv hn (fun x h => by cases h) (by omega) hge⟩ rfl dX0_open_115
      · obtain ⟨⟨s1, s2, s3⟩, hRw⟩ := pm_open_spread hIv hIo hEs hEm hv hn
        refine lv_aload_n hx hb dX0_open_88 rfl (lv_at hl 3 rfl) ?_
        refine pm_callv (rest := []) F hA hX (c0_spreadLabels l D q a (pm_opk u.1 b.1 v (k_la u.1), u.2) s1 s2 s3) rfl rfl hG0_spreadLabels hd0_spreadLabels ⟨⟨rfl, rfl⟩, Nat.le_of_ble_eq_true rfl, Nat.le_of_ble_eq_true rfl⟩ rfl rfl hl.1 (Nat.le_of_ble_eq_true rfl) dX0_open_89 ⟨Nat.zero_le _, Nat.zero_le _⟩ (fun u89 H locs hw89 hX => ?_)
        rw [hw89] at hX
        refine lv_goto (tgt := 114) hx hb dX0_open_92 (by decide) ?_
        refine lv_iload_n hx hb dX0_open_114 rfl (lv_at hl 2 rfl) ?_
        exact hret _ _ _ _ 115 ls hX ⟨rfl, hRw⟩ rfl dX0_open_115
  | cons w B1 =>
    have hf : k_fo u.1 v = nI w := hcB.1
    have hwn : w < b.1 := (hin w).mp (by simp)
    have hlw := hIo.2.2.2.2.1 w hwn
    have hpw := hIo.2.2.2.1
    rw [List.pairwise_append, List.pairwise_cons, List.pairwise_cons] at hpw
    have hlt : lb v < lb w := hpw.2.1.1 w List.mem_cons_self
    refine lv_aload_n hx hb dX0_open_41 rfl (lv_at hl 1 rfl) ?_
    refine x0_gfo F hX dX0_open_42 ?_
    refine lv_iload_n hx hb dX0_open_45 rfl (lv_at hl 0 rfl) ?_
    refine x0_lfo F hX (by omega) dX0_open_46 ?_
    refine pm_top (y := nI w) ((show _ = k_fo u.1 v by show upd (upd _ _ _) _ _ _ = _; rw [pk_un (by omega), pk_us]).trans hf) ?_
    refine lv_iconst (v := (-1)) hx hb dX0_open_47 (by decide) ?_
    refine lv_icmp_ne (tgt := 57) hx hb dX0_open_48 (by decide) (fun c48 => ?_) (fun c48 => ?_)
    · refine lv_aload_n hx hb dX0_open_57 rfl (lv_at hl 1 rfl) ?_
      refine x0_gla F hX dX0_open_58 ?_
      refine lv_aload_n hx hb dX0_open_61 rfl (lv_at hl 1 rfl) ?_
      refine x0_gfo F hX dX0_open_62 ?_
      refine lv_iload_n hx hb dX0_open_65 rfl (lv_at hl 0 rfl) ?_
      refine x0_lfo F hX (by omega) dX0_open_66 ?_
      refine pm_top (y := nI w) ((show _ = k_fo u.1 v by show upd (upd _ _ _) _ _ _ = _; rw [pk_un (by omega), pk_us]).trans hf) ?_
      refine x0_lla F hX (by omega) dX0_open_67 ?_
      refine pm_topl (y := lN (lb w)) (hlw.1) ?_
      refine lv_lstore_n (lv' := [(3, .long (lN (lb w))), (2, .int (nI b.1)), (0, .ref (q 0)), (1, .int (nI v))]) hx hb dX0_open_68 rfl hl (by decide) rfl (fun ls hl => ?_)
      refine lv_lload_n hx hb dX0_open_69 rfl (lv_at hl 0 rfl) ?_
      refine lv_aload_n hx hb dX0_open_70 rfl (lv_at hl 2 rfl) ?_
      refine x0_gla F hX dX0_open_71 ?_
      refine lv_iload_n hx hb dX0_open_74 rfl (lv_at hl 3 rfl) ?_
      refine x0_lla F hX (by omega) dX0_open_75 ?_
      refine pm_topl (y := lN (lb v)) (hlv.1) ?_
      refine lv_lsub hx hb dX0_open_76 ?_
      refine pm_topl (y := lN (lb w - lb v)) (lN_sub (Nat.le_of_lt hlt)) ?_
      refine lv_lstore (lv' := [(5, .long (lN (lb w - lb v))), (3, .long (lN (lb w))), (2, .int (nI b.1)), (0, .ref (q 0)), (1, .int (nI v))]) hx hb dX0_open_77 hl (by decide) rfl (fun ls hl => ?_)
      refine lv_lload hx hb dX0_open_79 (lv_at hl 0 rfl) ?_
      refine lv_ldc2 (v := 2) hx hb F.2.2.2.1 (F.2.2.2.2 _ q85) dX0_open_81 ?_
      refine pm_topl (y := lN 2) (rfl) ?_
      refine W.lcmp hx hb dX0_open_84 ?_
      refine lv_if_ge (tgt := 95) hx hb dX0_open_85 (by decide) (fun c85 => ?_) (fun c85 => ?_)
      · have hge : lb v + 2 ≤ lb w := by have := (pk_lLE (by omega) (by omega)).mp ((lg_cmp_ge _ _).mp c85); omega
        refine lv_aload_n hx hb dX0_open_95 rfl (lv_at hl 3 rfl) ?_
        refine x0_gla F hX dX0_open_96 ?_
        refine lv_iload_n hx hb dX0_open_99 rfl (lv_at hl 2 rfl) ?_
        refine lv_aload_n hx hb dX0_open_100 rfl (lv_at hl 3 rfl) ?_
        refine x0_gla F hX dX0_open_101 ?_
        refine lv_iload_n hx hb dX0_open_104 rfl (lv_at hl 4 rfl) ?_
        refine x0_lla F hX (by omega) dX0_open_105 ?_
        refine pm_topl (y := lN (lb v)) (hlv.1) ?_
        refine lv_lload hx hb dX0_open_106 (lv_at hl 0 rfl) ?_
        refine lv_ldc2 (v := 2) hx hb F.2.2.2.1 (F.2.2.2.2 _ q85) dX0_open_108 ?_
        refine pm_topl (y := lN 2) (rfl) ?_
        refine lv_ldiv hx hb dX0_open_111 (by decide) ?_
        refine pm_topl (y := lN ((lb w - lb v) / 2)) (pk_lDiv (by omega) (by omega) (by omega)) ?_
        refine lv_ladd hx hb dX0_open_112 ?_
        refine pm_topl (y := lN (lb v + (lb w - lb v) / 2)) (lN_add _ _) ?_
        refine x0_sla F hX (by omega) dX0_open_113 (fun H locs hX => ?_)
        refine lv_iload_n hx hb dX0_open_114 rfl (lv_at hl 2 rfl) ?_
        exact hret _ _ _ _ 115 ls hX ⟨rfl, pm_open_mid (up := lb w) hIv hIo hEs hEm hv hn (fun x h => by
          rcases List.mem_cons.mp h with rfl | h
          · exact Nat.le_refl _
          · exact Nat.le_of_lt (hpw.2.1.2.1 x h)) (by omega) hge⟩ rfl dX0_open_115
      · obtain ⟨⟨s1, s2, s3⟩, hRw⟩ := pm_open_spread hIv hIo hEs hEm hv hn
        refine lv_aload_n hx hb dX0_open_88 rfl (lv_at hl 3 rfl) ?_
        refine pm_callv (rest := []) F hA hX (c0_spreadLabels l D q a (pm_opk u.1 b.1 v (k_la u.1), u.2) s1 s2 s3) rfl rfl hG0_spreadLabels hd0_spreadLabels ⟨⟨rfl, rfl⟩, Nat.le_of_ble_eq_true rfl, Nat.le_of_ble_eq_true rfl⟩ rfl rfl hl.1 (Nat.le_of_ble_eq_true rfl) dX0_open_89 ⟨Nat.zero_le _, Nat.zero_le _⟩ (fun u89 H locs hw89 hX => ?_)
        rw [hw89] at hX
        refine lv_goto (tgt := 114) hx hb dX0_open_92 (by decide) ?_
        refine lv_iload_n hx hb dX0_open_114 rfl (lv_at hl 2 rfl) ?_
        exact hret _ _ _ _ 115 ls hX ⟨rfl, hRw⟩ rfl dX0_open_115
    · exact absurd c48 (pm_nm1 (by omega))

set_option maxHeartbeats 4000000 in
set_option maxRecDepth 100000 in
/-- write(n0, kk, th, va) -/
theorem c0_write (l : Launch) (D : va_G) (q : Nat → Nat) (a : Nat → ClassId) (u : pm_S0) {b : pm_AB} {ne n0 : Nat} (hI : pm_Rw u.1 b ne n0) (hm : n0 < b.1) {kk : Nat} (hk : kk < 32) (hne : ne + 2 ≤ 640) (th va : Int32) (ht : th = 0 ∨ th = 1) : pm_Mv l yX0_write cX0_write 12 (pm_rm 1) D (pm_t0 a) (pm_w0 q a) [.ref (q 0), .int (nI n0), .int (nI kk), .int th, .int va] u (fun u' => ∃ ne2, ne ≤ ne2 ∧ ne2 ≤ ne + 2 ∧ pm_Rw u'.1 (pm_wr b n0 kk (if th = 1 then some va else none)) ne2 n0) := by
  refine pm_Mv_of (by decide) (Nat.le_of_ble_eq_true rfl) ?_
  intro p e s m below meth c A args Q ls F hA hret hX hl
  have hx := F.1
  have hb := F.2.1
  have hl : lv_has ls 12 [(0, .ref (q 0)), (1, .int (nI n0)), (2, .int (nI kk)), (3, .int th), (4, .int va)] := hl
  have hn := hI.r0.n40
  obtain ⟨od, ps, lb, E, vv, hIv, hIo, hEs, hEm, hEw⟩ := hI
  obtain ⟨hEc, hEp, hEf⟩ := hEs.2.1 kk hk
  obtain ⟨L1, L2, hL, h1, h2⟩ := pm_split (g := fun e => ps (vv e)) (c := ps n0) (E kk) hEp
  have hadv : pm_adv (fun e => decide (lb (vv e) ≤ lb n0)) (-1) (E kk) = pm_ov L1.getLast? := by
    rw [pm_adv_congr (p' := fun e => decide (ps (vv e) ≤ ps n0)) _ _ (fun e h => by
      have := pm_Io_cmp hIo (hEf e h).2.1 hm
      simp [this])]
    have := pm_adv_filter (g := fun e => ps (vv e)) (c := ps n0) (E kk) none hEp
    rw [show (-1 : Int32) = pm_ov none from rfl, this, hL, pm_filt (fun e h => by simpa using h1 e h) (fun e h => by have := h2 e h; simp; omega)]
    cases L1.getLast? <;> rfl
  have hEg : ∀ e ∈ E kk, e < 640 ∧ vv e < 40 ∧ k_ev u.1 e = nI (vv e) ∧ k_la u.1 (vv e) = lN (lb (vv e)) ∧ lb (vv e) < 2 ^ 61 := by
    intro e h
    obtain ⟨g1, g2, g3, g4⟩ := hEf e h
    exact ⟨by omega, by omega, g3, hIo.2.2.2.2.1 _ g2⟩
  refine lv_aload_n hx hb dX0_write_0 rfl (lv_at hl 0 rfl) ?_
  refine x0_gfo F hX dX0_write_1 ?_
  refine lv_iload_n hx hb dX0_write_4 rfl (lv_at hl 1 rfl) ?_
  refine x0_lfo F hX (by omega) dX0_write_5 ?_
  refine lv_istore (lv' := [(5, .int (k_fo u.1 n0)), (0, .ref (q 0)), (1, .int (nI n0)), (2, .int (nI kk)), (3, .int th), (4, .int va)]) hx hb dX0_write_6 hl (by decide) rfl (fun ls hl => ?_)
  refine lv_aload_n hx hb dX0_write_8 rfl (lv_at hl 1 rfl) ?_
  refine lv_iload_n hx hb dX0_write_9 rfl (lv_at hl 3 rfl) ?_
  refine lv_iconst (v := (-1)) hx hb dX0_write_10 (by decide) ?_
  refine lv_iload_n hx hb dX0_write_11 rfl (lv_at hl 2 rfl) ?_
  refine pm_calli (rest := []) F hA hX (c0_advance l D q a u (lb := lb) (vv := vv) (L := E kk) (j := n0) (by omega) (hIo.2.2.2.2.1 n0 hm) hEg (nI kk) (-1) (Or.inl ⟨rfl, kk, hk, rfl, hEc⟩)) rfl rfl hG0_advance hd0_advance ⟨⟨rfl, rfl⟩, Nat.le_of_ble_eq_true rfl, Nat.le_of_ble_eq_true rfl⟩ rfl rfl hl.1 (Nat.le_of_ble_eq_true rfl) dX0_write_12 ⟨Nat.zero_le _, Nat.zero_le _⟩ (fun r12 u12 H locs hw12 hX => ?_)
  rw [hw12.2] at hX
  refine pm_top (y := pm_ov L1.getLast?) (hw12.1.trans hadv) ?_
  refine lv_istore (lv' := [(6, .int (pm_ov L1.getLast?)), (5, .int (k_fo u.1 n0)), (0, .ref (q 0)), (1, .int (nI n0)), (2, .int (nI kk)), (3, .int th), (4, .int va)]) hx hb dX0_write_15 hl (by decide) rfl (fun ls hl => ?_)
  have tail : ∀ (o : Option Nat) (ot ov : Int32) (ls : Array Slot), o = L1.getLast? → (ot = 0 ∨ ot = 1) → pm_lk u.1 o = (if ot = 1 then some ov else none) → (∀ e ∈ L1, ps (vv e) < ps n0) → lv_has ls 12 [(8, .int ov), (7, .int ot), (6, .int (pm_ov o)), (5, .int (k_fo u.1 n0)), (0, .ref (q 0)), (1, .int (nI n0)), (2, .int (nI kk)), (3, .int th), (4, .int va)] → W p l e (pm_rm 1) s m args below meth c H locs 0 0 Q (F0 m 93 ls []) := by
    intro o ot ov ls ho hot hold h1s hl
    have ho6 : ∀ e, o = some e → e < 640 := fun e h => (hEg e (by rw [hL]; exact List.mem_append_left _ (List.mem_of_getLast? (ho.symm.trans h)))).1
    have hs1 := pm_ins_s hEs (by omega) hk hL hm h1s h2 th va ht
    rw [← ho] at hs1
    have hch := pm_chn_at L1 _ (by have := (hs1.2.1 kk hk).1; rw [show pm_fE E kk (L1 ++ ne :: L2) kk = L1 ++ ne :: L2 from if_pos rfl] at this; exact this)
    have hes1 : k_es (pm_ins u.1 kk o ne (nI n0) th va) = nI (ne + 1) := by cases o <;> rfl
    have hbwb : (∀ x, x < b.1 → ps n0 < ps x → ∃ e ∈ L2, ps (vv e) ≤ ps x) → pm_Rw (pm_ins u.1 kk o ne (nI n0) th va) (pm_wr b n0 kk (if th = 1 then some va else none)) (ne + 1) n0 := by
      intro z
      rw [ho]
      exact pm_wb hIv hIo hEs hEm hEw hm hk (by omega) hL h1s h2 th va ht z
    have hbwc : ∀ y, y < b.1 → ps n0 < ps y → (∀ x, x < b.1 → ps n0 < ps x → ps y ≤ ps x) → (∀ x ∈ L2, ps y < ps (vv x)) → pm_Rw (pm_ins (pm_ins u.1 kk o ne (nI n0) th va) kk (some ne) (ne + 1) (nI y) ot ov) (pm_wr b n0 kk (if th = 1 then some va else none)) (ne + 2) n0 := by
      intro y z1 z2 z3 z4
      rw [ho]
      exact pm_wc hIv hIo hEs hEm hEw hm hk (by omega) hL h1s z4 th va ht z1 z2 z3 ot ov hot (by rw [← ho]; exact hold)
    refine lv_aload_n hx hb dX0_write_93 rfl (lv_at hl 4 rfl) ?_
    refine lv_iload_n hx hb dX0_write_94 rfl (lv_at hl 6 rfl) ?_
    refine lv_iload hx hb dX0_write_95 (lv_at hl 2 rfl) ?_
    refine lv_iload_n hx hb dX0_write_97 rfl (lv_at hl 5 rfl) ?_
    refine lv_iload_n hx hb dX0_write_98 rfl (lv_at hl 7 rfl) ?_
    refine lv_iload hx hb dX0_write_99 (lv_at hl 8 rfl) ?_
    refine pm_calli (rest := []) F hA hX (c0_insert l D q a u (ne := ne) (kk := kk) (by omega) hEs.1.2 hk o ho6 (nI n0) th va ht) rfl rfl hG0_insert hd0_insert ⟨⟨rfl, rfl⟩, Nat.le_of_ble_eq_true rfl, Nat.le_of_ble_eq_true rfl⟩ rfl rfl hl.1 (Nat.le_of_ble_eq_true rfl) dX0_write_101 ⟨Nat.zero_le _, Nat.zero_le _⟩ (fun r101 u101 H locs hw101 hX => ?_)
    rw [hw101.2] at hX
    refine pm_top (y := nI ne) (hw101.1) ?_
    refine lv_istore (lv' := [(9, .int (nI ne)), (8, .int ov), (7, .int ot), (6, .int (pm_ov o)), (5, .int (k_fo u.1 n0)), (0, .ref (q 0)), (1, .int (nI n0)), (2, .int (nI kk)), (3, .int th), (4, .int va)]) hx hb dX0_write_104 hl (by decide) rfl (fun ls hl => ?_)
    rcases pm_after hIo hm with ⟨hf, hlast⟩ | ⟨y, hyn, hf, hy1, hy2⟩
    · rw [hf] at hl
      cases L2 with
      | nil =>
        refine lv_aload_n hx hb dX0_write_106 rfl (lv_at hl 5 rfl) ?_
        refine x0_gen F hX dX0_write_107 ?_
        refine lv_iload hx hb dX0_write_110 (lv_at hl 0 rfl) ?_
        refine x0_len F hX (by omega) dX0_write_112 ?_
        refine pm_top (y := -1) (hch) ?_
        refine lv_istore (lv' := [(10, .int (-1)), (9, .int (nI ne)), (8, .int ov), (7, .int ot), (6, .int (pm_ov o)), (5, .int (-1)), (0, .ref (q 0)), (1, .int (nI n0)), (2, .int (nI kk)), (3, .int th), (4, .int va)]) hx hb dX0_write_113 hl (by decide) rfl (fun ls hl => ?_)
        refine lv_iload hx hb dX0_write_115 (lv_at hl 0 rfl) ?_
        refine lv_iconst (v := (-1)) hx hb dX0_write_117 (by decide) ?_
        refine lv_icmp_eq (tgt := 137) hx hb dX0_write_118 (by decide) (fun c118 => ?_) (fun c118 => ?_)
        · refine lv_iconst (v := 0) hx hb dX0_write_137 (by decide) ?_
          refine lv_istore (lv' := [(11, .int 0), (10, .int (-1)), (9, .int (nI ne)), (8, .int ov), (7, .int ot), (6, .int (pm_ov o)), (5, .int (-1)), (0, .ref (q 0)), (1, .int (nI n0)), (2, .int (nI kk)), (3, .int th), (4, .int va)]) hx hb dX0_write_138 hl (by decide) rfl (fun ls hl => ?_)
          refine lv_iload hx hb dX0_write_140 (lv_at hl 6 rfl) ?_
          refine lv_iconst (v := (-1)) hx hb dX0_write_142 (by decide) ?_
          refine lv_icmp_eq (tgt := 165) hx hb dX0_write_143 (by decide) (fun c143 => ?_) (fun c143 => ?_)
          · exact hret _ _ _ 165 ls hX ⟨ne + 1, by omega, by omega, hbwb (fun x hx c => absurd (hlast x hx) (by omega))⟩ dX0_write_165
          · exact absurd rfl c143
        · exact absurd rfl c118
      | cons z L2 =>
        have hzin : z ∈ E kk := by rw [hL]; simp
        have hz := hEf z hzin
        have hze : k_ev (pm_ins u.1 kk o ne (nI n0) th va) z = nI (vv z) := (pm_ins_e (by omega)).2.2.trans hz.2.2.1
        refine lv_aload_n hx hb dX0_write_106 rfl (lv_at hl 5 rfl) ?_
        refine x0_gen F hX dX0_write_107 ?_
        refine lv_iload hx hb dX0_write_110 (lv_at hl 0 rfl) ?_
        refine x0_len F hX (by omega) dX0_write_112 ?_
        refine pm_top (y := nI z) (hch.1) ?_
        refine lv_istore (lv' := [(10, .int (nI z)), (9, .int (nI ne)), (8, .int ov), (7, .int ot), (6, .int (pm_ov o)), (5, .int (-1)), (0, .ref (q 0)), (1, .int (nI n0)), (2, .int (nI kk)), (3, .int th), (4, .int va)]) hx hb dX0_write_113 hl (by decide) rfl (fun ls hl => ?_)
        refine lv_iload hx hb dX0_write_115 (lv_at hl 0 rfl) ?_
        refine lv_iconst (v := (-1)) hx hb dX0_write_117 (by decide) ?_
        refine lv_icmp_eq (tgt := 137) hx hb dX0_write_118 (by decide) (fun c118 => ?_) (fun c118 => ?_)
        · exact absurd c118 (pm_nm1 (by omega))
        · refine lv_aload_n hx hb dX0_write_121 rfl (lv_at hl 6 rfl) ?_
          refine x0_gev F hX dX0_write_122 ?_
          refine lv_iload hx hb dX0_write_125 (lv_at hl 0 rfl) ?_
          refine x0_lev F hX (by omega) dX0_write_127 ?_
          refine pm_top (y := nI (vv z)) (hze) ?_
          refine lv_iload hx hb dX0_write_128 (lv_at hl 5 rfl) ?_
          refine lv_icmp_ne (tgt := 137) hx hb dX0_write_130 (by decide) (fun c130 => ?_) (fun c130 => ?_)
          · refine lv_iconst (v := 0) hx hb dX0_write_137 (by decide) ?_
            refine lv_istore (lv' := [(11, .int 0), (10, .int (nI z)), (9, .int (nI ne)), (8, .int ov), (7, .int ot), (6, .int (pm_ov o)), (5, .int (-1)), (0, .ref (q 0)), (1, .int (nI n0)), (2, .int (nI kk)), (3, .int th), (4, .int va)]) hx hb dX0_write_138 hl (by decide) rfl (fun ls hl => ?_)
            refine lv_iload hx hb dX0_write_140 (lv_at hl 6 rfl) ?_
            refine lv_iconst (v := (-1)) hx hb dX0_write_142 (by decide) ?_
            refine lv_icmp_eq (tgt := 165) hx hb dX0_write_143 (by decide) (fun c143 => ?_) (fun c143 => ?_)
            · exact hret _ _ _ 165 ls hX ⟨ne + 1, by omega, by omega, hbwb (fun x hx c => absurd (hlast x hx) (by omega))⟩ dX0_write_165
            · exact absurd rfl c143
          · exact absurd c130 (pm_nm1 (by omega))
    · rw [hf] at hl
      cases L2 with
      | nil =>
        refine lv_aload_n hx hb dX0_write_106 rfl (lv_at hl 5 rfl) ?_
        refine x0_gen F hX dX0_write_107 ?_
        refine lv_iload hx hb dX0_write_110 (lv_at hl 0 rfl) ?_
        refine x0_len F hX (by omega) dX0_write_112 ?_
        refine pm_top (y := -1) (hch) ?_
        refine lv_istore (lv' := [(10, .int (-1)), (9, .int (nI ne)), (8, .int ov), (7, .int ot), (6, .int (pm_ov o)), (5, .int (nI y)), (0, .ref (q 0)), (1, .int (nI n0)), (2, .int (nI kk)), (3, .int th), (4, .int va)]) hx hb dX0_write_113 hl (by decide) rfl (fun ls hl => ?_)
        refine lv_iload hx hb dX0_write_115 (lv_at hl 0 rfl) ?_
        refine lv_iconst (v := (-1)) hx hb dX0_write_117 (by decide) ?_
        refine lv_icmp_eq (tgt := 137) hx hb dX0_write_118 (by decide) (fun c118 => ?_) (fun c118 => ?_)
        · refine lv_iconst (v := 0) hx hb dX0_write_137 (by decide) ?_
          refine lv_istore (lv' := [(11, .int 0), (10, .int (-1)), (9, .int (nI ne)), (8, .int ov), (7, .int ot), (6, .int (pm_ov o)), (5, .int (nI y)), (0, .ref (q 0)), (1, .int (nI n0)), (2, .int (nI kk)), (3, .int th), (4, .int va)]) hx hb dX0_write_138 hl (by decide) rfl (fun ls hl => ?_)
          refine lv_iload hx hb dX0_write_140 (lv_at hl 6 rfl) ?_
          refine lv_iconst (v := (-1)) hx hb dX0_write_142 (by decide) ?_
          refine lv_icmp_eq (tgt := 165) hx hb dX0_write_143 (by decide) (fun c143 => ?_) (fun c143 => ?_)
          · exact absurd c143 (pm_nm1 (by omega))
          · refine lv_iload hx hb dX0_write_146 (lv_at hl 0 rfl) ?_
            refine lv_if_ne (tgt := 165) hx hb dX0_write_148 (by decide) (fun c148 => ?_) (fun c148 => ?_)
            · exact absurd rfl c148
            · refine lv_aload_n hx hb dX0_write_151 rfl (lv_at hl 7 rfl) ?_
              refine lv_iload_n hx hb dX0_write_152 rfl (lv_at hl 9 rfl) ?_
              refine lv_iload hx hb dX0_write_153 (lv_at hl 2 rfl) ?_
              refine lv_iload hx hb dX0_write_155 (lv_at hl 6 rfl) ?_
              refine lv_iload hx hb dX0_write_157 (lv_at hl 4 rfl) ?_
              refine lv_iload hx hb dX0_write_159 (lv_at hl 3 rfl) ?_
              refine pm_calli (rest := []) F hA hX (c0_insert l D q a (pm_ins u.1 kk o ne (nI n0) th va, u.2) (ne := ne + 1) (kk := kk) (by omega) hes1 hk (some ne) (fun e h => by cases h; omega) (nI y) ot ov hot) rfl rfl hG0_insert hd0_insert ⟨⟨rfl, rfl⟩, Nat.le_of_ble_eq_true rfl, Nat.le_of_ble_eq_true rfl⟩ rfl rfl hl.1 (Nat.le_of_ble_eq_true rfl) dX0_write_161 ⟨Nat.zero_le _, Nat.zero_le _⟩ (fun r161 u161 H locs hw161 hX => ?_)
              rw [hw161.2] at hX
              refine lv_pop hx hb dX0_write_164 rfl ?_
              exact hret _ _ _ 165 ls hX ⟨ne + 2, by omega, by omega, hbwc y hyn hy1 hy2 (fun x h => by cases h)⟩ dX0_write_165
        · exact absurd rfl c118
      | cons z L2 =>
        have hzin : z ∈ E kk := by rw [hL]; simp
        have hz := hEf z hzin
        have hze : k_ev (pm_ins u.1 kk o ne (nI n0) th va) z = nI (vv z) := (pm_ins_e (by omega)).2.2.trans hz.2.2.1
        refine lv_aload_n hx hb dX0_write_106 rfl (lv_at hl 5 rfl) ?_
        refine x0_gen F hX dX0_write_107 ?_
        refine lv_iload hx hb dX0_write_110 (lv_at hl 0 rfl) ?_
        refine x0_len F hX (by omega) dX0_write_112 ?_
        refine pm_top (y := nI z) (hch.1) ?_
        refine lv_istore (lv' := [(10, .int (nI z)), (9, .int (nI ne)), (8, .int ov), (7, .int ot), (6, .int (pm_ov o)), (5, .int (nI y)), (0, .ref (q 0)), (1, .int (nI n0)), (2, .int (nI kk)), (3, .int th), (4, .int va)]) hx hb dX0_write_113 hl (by decide) rfl (fun ls hl => ?_)
        refine lv_iload hx hb dX0_write_115 (lv_at hl 0 rfl) ?_
        refine lv_iconst (v := (-1)) hx hb dX0_write_117 (by decide) ?_
        refine lv_icmp_eq (tgt := 137) hx hb dX0_write_118 (by decide) (fun c118 => ?_) (fun c118 => ?_)
        · exact absurd c118 (pm_nm1 (by omega))
        · refine lv_aload_n hx hb dX0_write_121 rfl (lv_at hl 6 rfl) ?_
          refine x0_gev F hX dX0_write_122 ?_
          refine lv_iload hx hb dX0_write_125 (lv_at hl 0 rfl) ?_
          refine x0_lev F hX (by omega) dX0_write_127 ?_
          refine pm_top (y := nI (vv z)) (hze) ?_
          refine lv_iload hx hb dX0_write_128 (lv_at hl 5 rfl) ?_
          refine lv_icmp_ne (tgt := 137) hx hb dX0_write_130 (by decide) (fun c130 => ?_) (fun c130 => ?_)
          · refine lv_iconst (v := 0) hx hb dX0_write_137 (by decide) ?_
            refine lv_istore (lv' := [(11, .int 0), (10, .int (nI z)), (9, .int (nI ne)), (8, .int ov), (7, .int ot), (6, .int (pm_ov o)), (5, .int (nI y)), (0, .ref (q 0)), (1, .int (nI n0)), (2, .int (nI kk)), (3, .int th), (4, .int va)]) hx hb dX0_write_138 hl (by decide) rfl (fun ls hl => ?_)
            refine lv_iload hx hb dX0_write_140 (lv_at hl 6 rfl) ?_
            refine lv_iconst (v := (-1)) hx hb dX0_write_142 (by decide) ?_
            refine lv_icmp_eq (tgt := 165) hx hb dX0_write_143 (by decide) (fun c143 => ?_) (fun c143 => ?_)
            · exact absurd c143 (pm_nm1 (by omega))
            · refine lv_iload hx hb dX0_write_146 (lv_at hl 0 rfl) ?_
              refine lv_if_ne (tgt := 165) hx hb dX0_write_148 (by decide) (fun c148 => ?_) (fun c148 => ?_)
              · exact absurd rfl c148
              · refine lv_aload_n hx hb dX0_write_151 rfl (lv_at hl 7 rfl) ?_
                refine lv_iload_n hx hb dX0_write_152 rfl (lv_at hl 9 rfl) ?_
                refine lv_iload hx hb dX0_write_153 (lv_at hl 2 rfl) ?_
                refine lv_iload hx hb dX0_write_155 (lv_at hl 6 rfl) ?_
                refine lv_iload hx hb dX0_write_157 (lv_at hl 4 rfl) ?_
                refine lv_iload hx hb dX0_write_159 (lv_at hl 3 rfl) ?_
                refine pm_calli (rest := []) F hA hX (c0_insert l D q a (pm_ins u.1 kk o ne (nI n0) th va, u.2) (ne := ne + 1) (kk := kk) (by omega) hes1 hk (some ne) (fun e h => by cases h; omega) (nI y) ot ov hot) rfl rfl hG0_insert hd0_insert ⟨⟨rfl, rfl⟩, Nat.le_of_ble_eq_true rfl, Nat.le_of_ble_eq_true rfl⟩ rfl rfl hl.1 (Nat.le_of_ble_eq_true rfl) dX0_write_161 ⟨Nat.zero_le _, Nat.zero_le _⟩ (fun r161 u161 H locs hw161 hX => ?_)
                rw [hw161.2] at hX
                refine lv_pop hx hb dX0_write_164 rfl ?_
                exact hret _ _ _ 165 ls hX ⟨ne + 2, by omega, by omega, hbwc y hyn hy1 hy2 (fun x h => by
                  have hpp : (z :: L2).Pairwise (fun x y => ps (vv x) < ps (vv y)) := by
                    have := hEp
                    rw [hL, List.pairwise_append] at this
                    exact this.2.1
                  rw [List.pairwise_cons] at hpp
                  have hz0 : ps y < ps (vv z) := by
                    have g1 := hy2 (vv z) hz.2.1 (h2 z List.mem_cons_self)
                    rcases Nat.lt_or_ge (ps y) (ps (vv z)) with g | g
                    · exact g
                    · exact absurd (congrArg nI (pm_Io_inj hIo hz.2.1 hyn (by omega))) c130
                  rcases List.mem_cons.mp h with rfl | h
                  · exact hz0
                  · have := hpp.1 x h; omega)⟩ dX0_write_165
          · refine lv_iconst (v := 1) hx hb dX0_write_133 (by decide) ?_
            refine lv_goto (tgt := 138) hx hb dX0_write_134 (by decide) ?_
            refine lv_istore (lv' := [(11, .int 1), (10, .int (nI z)), (9, .int (nI ne)), (8, .int ov), (7, .int ot), (6, .int (pm_ov o)), (5, .int (nI y)), (0, .ref (q 0)), (1, .int (nI n0)), (2, .int (nI kk)), (3, .int th), (4, .int va)]) hx hb dX0_write_138 hl (by decide) rfl (fun ls hl => ?_)
            refine lv_iload hx hb dX0_write_140 (lv_at hl 6 rfl) ?_
            refine lv_iconst (v := (-1)) hx hb dX0_write_142 (by decide) ?_
            refine lv_icmp_eq (tgt := 165) hx hb dX0_write_143 (by decide) (fun c143 => ?_) (fun c143 => ?_)
            · exact absurd c143 (pm_nm1 (by omega))
            · refine lv_iload hx hb dX0_write_146 (lv_at hl 0 rfl) ?_
              refine lv_if_ne (tgt := 165) hx hb dX0_write_148 (by decide) (fun c148 => ?_) (fun c148 => ?_)
              · exact hret _ _ _ 165 ls hX ⟨ne + 1, by omega, by omega, hbwb (fun x hx c => ⟨z, List.mem_cons_self, by rw [pm_eqN (by omega) (by omega) c130]; exact hy2 x hx c⟩)⟩ dX0_write_165
              · exact absurd c148 (by decide)
  rcases List.eq_nil_or_concat L1 with hq | ⟨P1, x, hq⟩
  · have hl : lv_has ls 12 [(6, .int (-1)), (5, .int (k_fo u.1 n0)), (0, .ref (q 0)), (1, .int (nI n0)), (2, .int (nI kk)), (3, .int th), (4, .int va)] := by rw [hq] at hl; exact hl
    refine lv_iload hx hb dX0_write_17 (lv_at hl 0 rfl) ?_
    refine lv_iconst (v := (-1)) hx hb dX0_write_19 (by decide) ?_
    refine lv_icmp_eq (tgt := 52) hx hb dX0_write_20 (by decide) (fun c20 => ?_) (fun c20 => ?_)
    · refine lv_iload hx hb dX0_write_52 (lv_at hl 0 rfl) ?_
      refine lv_iconst (v := (-1)) hx hb dX0_write_54 (by decide) ?_
      refine lv_icmp_eq (tgt := 72) hx hb dX0_write_55 (by decide) (fun c55 => ?_) (fun c55 => ?_)
      · refine lv_iconst (v := 0) hx hb dX0_write_72 (by decide) ?_
        refine lv_istore (lv' := [(7, .int 0), (6, .int (-1)), (5, .int (k_fo u.1 n0)), (0, .ref (q 0)), (1, .int (nI n0)), (2, .int (nI kk)), (3, .int th), (4, .int va)]) hx hb dX0_write_73 hl (by decide) rfl (fun ls hl => ?_)
        refine lv_iload hx hb dX0_write_75 (lv_at hl 0 rfl) ?_
        refine lv_if_eq (tgt := 90) hx hb dX0_write_77 (by decide) (fun c77 => ?_) (fun c77 => ?_)
        · refine lv_iconst (v := 0) hx hb dX0_write_90 (by decide) ?_
          refine lv_istore (lv' := [(8, .int 0), (7, .int 0), (6, .int (-1)), (5, .int (k_fo u.1 n0)), (0, .ref (q 0)), (1, .int (nI n0)), (2, .int (nI kk)), (3, .int th), (4, .int va)]) hx hb dX0_write_91 hl (by decide) rfl (fun ls hl => ?_)
          exact tail none _ _ ls (by rw [hq]; rfl) (Or.inl rfl) rfl (by rw [hq]; intro e h; cases h) (lv_sub hl [0, 1, 2, 3, 4, 5, 6, 7, 8] rfl)
        · exact absurd rfl c77
      · exact absurd rfl c55
    · exact absurd rfl c20
  · have hlast : L1.getLast? = some x := by rw [hq]; simp
    have hxin : x ∈ L1 := List.mem_of_getLast? hlast
    have hxE : x ∈ E kk := by rw [hL]; exact List.mem_append_left _ hxin
    have hx9 := hEg x hxE
    have hxb := (hEf x hxE).2.2.2
    have hxn := (hEf x hxE).2.1
    have hl : lv_has ls 12 [(6, .int (nI x)), (5, .int (k_fo u.1 n0)), (0, .ref (q 0)), (1, .int (nI n0)), (2, .int (nI kk)), (3, .int th), (4, .int va)] := by rw [hlast] at hl; exact hl
    refine lv_iload hx hb dX0_write_17 (lv_at hl 0 rfl) ?_
    refine lv_iconst (v := (-1)) hx hb dX0_write_19 (by decide) ?_
    refine lv_icmp_eq (tgt := 52) hx hb dX0_write_20 (by decide) (fun c20 => ?_) (fun c20 => ?_)
    · exact absurd c20 (pm_nm1 (by omega))
    · refine lv_aload_n hx hb dX0_write_23 rfl (lv_at hl 2 rfl) ?_
      refine x0_gev F hX dX0_write_24 ?_
      refine lv_iload hx hb dX0_write_27 (lv_at hl 0 rfl) ?_
      refine x0_lev F hX (by omega) dX0_write_29 ?_
      refine pm_top (y := nI (vv x)) (hx9.2.2.1) ?_
      refine lv_iload_n hx hb dX0_write_30 rfl (lv_at hl 3 rfl) ?_
      refine lv_icmp_ne (tgt := 52) hx hb dX0_write_31 (by decide) (fun c31 => ?_) (fun c31 => ?_)
      · refine lv_iload hx hb dX0_write_52 (lv_at hl 0 rfl) ?_
        refine lv_iconst (v := (-1)) hx hb dX0_write_54 (by decide) ?_
        refine lv_icmp_eq (tgt := 72) hx hb dX0_write_55 (by decide) (fun c55 => ?_) (fun c55 => ?_)
        · exact absurd c55 (pm_nm1 (by omega))
        · refine lv_aload_n hx hb dX0_write_58 rfl (lv_at hl 2 rfl) ?_
          refine x0_get F hX dX0_write_59 ?_
          refine lv_iload hx hb dX0_write_62 (lv_at hl 0 rfl) ?_
          refine x0_let F hX (by omega) dX0_write_64 ?_
          refine lv_if_eq (tgt := 72) hx hb dX0_write_65 (by decide) (fun c65 => ?_) (fun c65 => ?_)
          · have e0 : pm_lk u.1 (some x) = none := if_neg (by rw [show k_et u.1 x = 0 from c65]; decide)
            refine lv_iconst (v := 0) hx hb dX0_write_72 (by decide) ?_
            refine lv_istore (lv' := [(7, .int 0), (6, .int (nI x)), (5, .int (k_fo u.1 n0)), (0, .ref (q 0)), (1, .int (nI n0)), (2, .int (nI kk)), (3, .int th), (4, .int va)]) hx hb dX0_write_73 hl (by decide) rfl (fun ls hl => ?_)
            refine lv_iload hx hb dX0_write_75 (lv_at hl 0 rfl) ?_
            refine lv_if_eq (tgt := 90) hx hb dX0_write_77 (by decide) (fun c77 => ?_) (fun c77 => ?_)
            · refine lv_iconst (v := 0) hx hb dX0_write_90 (by decide) ?_
              refine lv_istore (lv' := [(8, .int 0), (7, .int 0), (6, .int (nI x)), (5, .int (k_fo u.1 n0)), (0, .ref (q 0)), (1, .int (nI n0)), (2, .int (nI kk)), (3, .int th), (4, .int va)]) hx hb dX0_write_91 hl (by decide) rfl (fun ls hl => ?_)
              exact tail (some x) _ _ ls hlast.symm (Or.inl rfl) (by rw [e0]; rfl) (fun e h => by
                have hpp := hEp
                rw [hL, hq, List.pairwise_append, List.concat_eq_append, List.pairwise_append] at hpp
                have hx0 : ps (vv x) < ps n0 := by
                  have := h1 x hxin
                  rcases Nat.lt_or_ge (ps (vv x)) (ps n0) with g | g
                  · exact g
                  · exact absurd (congrArg nI (pm_Io_inj hIo hxn hm (by omega))) c31
                rw [hq, List.concat_eq_append] at h
                rcases List.mem_append.mp h with h | h
                · have := hpp.1.2.2 e h x List.mem_cons_self; omega
                · rw [List.mem_singleton.mp h]; exact hx0) (lv_sub hl [0, 1, 2, 3, 4, 5, 6, 7, 8] rfl)
            · exact absurd rfl c77
          · have e0 : pm_lk u.1 (some x) = some (k_ea u.1 x) := if_pos (pm_not0 hxb c65)
            refine lv_iconst (v := 1) hx hb dX0_write_68 (by decide) ?_
            refine lv_goto (tgt := 73) hx hb dX0_write_69 (by decide) ?_
            refine lv_istore (lv' := [(7, .int 1), (6, .int (nI x)), (5, .int (k_fo u.1 n0)), (0, .ref (q 0)), (1, .int (nI n0)), (2, .int (nI kk)), (3, .int th), (4, .int va)]) hx hb dX0_write_73 hl (by decide) rfl (fun ls hl => ?_)
            refine lv_iload hx hb dX0_write_75 (lv_at hl 0 rfl) ?_
            refine lv_if_eq (tgt := 90) hx hb dX0_write_77 (by decide) (fun c77 => ?_) (fun c77 => ?_)
            · exact absurd c77 (by decide)
            · refine lv_aload_n hx hb dX0_write_80 rfl (lv_at hl 3 rfl) ?_
              refine x0_gea F hX dX0_write_81 ?_
              refine lv_iload hx hb dX0_write_84 (lv_at hl 1 rfl) ?_
              refine x0_lea F hX (by omega) dX0_write_86 ?_
              refine lv_goto (tgt := 91) hx hb dX0_write_87 (by decide) ?_
              refine lv_istore (lv' := [(8, .int (k_ea u.1 x)), (7, .int 1), (6, .int (nI x)), (5, .int (k_fo u.1 n0)), (0, .ref (q 0)), (1, .int (nI n0)), (2, .int (nI kk)), (3, .int th), (4, .int va)]) hx hb dX0_write_91 hl (by decide) rfl (fun ls hl => ?_)
              exact tail (some x) _ _ ls hlast.symm (Or.inr rfl) (by rw [e0]; rfl) (fun e h => by
                have hpp := hEp
                rw [hL, hq, List.pairwise_append, List.concat_eq_append, List.pairwise_append] at hpp
                have hx0 : ps (vv x) < ps n0 := by
                  have := h1 x hxin
                  rcases Nat.lt_or_ge (ps (vv x)) (ps n0) with g | g
                  · exact g
                  · exact absurd (congrArg nI (pm_Io_inj hIo hxn hm (by omega))) c31
                rw [hq, List.concat_eq_append] at h
                rcases List.mem_append.mp h with h | h
                · have := hpp.1.2.2 e h x List.mem_cons_self; omega
                · rw [List.mem_singleton.mp h]; exact hx0) (lv_sub hl [0, 1, 2, 3, 4, 5, 6, 7, 8] rfl)
      · refine lv_aload_n hx hb dX0_write_34 rfl (lv_at hl 2 rfl) ?_
        refine x0_get F hX dX0_write_35 ?_
        refine lv_iload hx hb dX0_write_38 (lv_at hl 0 rfl) ?_
        refine lv_iload_n hx hb dX0_write_40 rfl (lv_at hl 5 rfl) ?_
        refine x0_set F hX (by omega) (ht) dX0_write_41 (fun H locs hX => ?_)
        refine lv_aload_n hx hb dX0_write_42 rfl (lv_at hl 2 rfl) ?_
        refine x0_gea F hX dX0_write_43 ?_
        refine lv_iload hx hb dX0_write_46 (lv_at hl 0 rfl) ?_
        refine lv_iload hx hb dX0_write_48 (lv_at hl 6 rfl) ?_
        refine x0_sea F hX (by omega) dX0_write_50 (fun H locs hX => ?_)
        exact hret _ _ _ 51 ls hX ⟨ne, by omega, by omega, pm_wa hIv hIo hEs hEm hEw hm hk (A := P1) (e := x) (L2 := L2) (by rw [hL, hq, List.concat_eq_append]) (pm_eqN (by omega) (by omega) c31) (by rw [← List.concat_eq_append, ← hq]; exact h1) h2 th va ht⟩ dX0_write_51
end
section
/-! ===== the answers, case by case ===== -/
theorem pm_R0.okv {k : pm_K0} {b : pm_AB} {ne : Nat} (h : pm_R0 k b ne) {r v : Int32} (hh : pm_bl r (0 ≤ v ∧ v < k_cn k)) : pm_bl r (sp_ok b.1 v) := by
  rw [h.cn] at hh; exact hh
theorem sp_parent_1 {b : pm_AB} {v : Int32} (h : ¬ sp_ok b.1 v) : sp_parent b v = -1 := if_neg h
theorem sp_parent_2 {b : pm_AB} (hn : b.1 ≤ 40) {j : Nat} (hj : j < b.1) (h : nI j = 0) : sp_parent b (nI j) = -2 := by
  unfold sp_parent; rw [if_pos (sp_ok_nI hn hj), if_pos h]
theorem sp_parent_3 {b : pm_AB} (hn : b.1 ≤ 40) {j : Nat} (hj : j < b.1) (h : ¬ nI j = 0) : sp_parent b (nI j) = nI (b.2.1 j) := by
  unfold sp_parent; rw [if_pos (sp_ok_nI hn hj), if_neg h, pm_clN (by omega)]
theorem sp_ancestor_1 {b : pm_AB} {v w : Int32} (h : ¬ sp_ok b.1 v) : sp_ancestor b v w = -1 := if_neg (fun z => h z.1)
theorem sp_ancestor_2 {b : pm_AB} {v w : Int32} (h : ¬ sp_ok b.1 w) : sp_ancestor b v w = -1 := if_neg (fun z => h z.2)
theorem sp_ancestor_3 {b : pm_AB} (hn : b.1 ≤ 40) {j i : Nat} (hj : j < b.1) (hi : i < b.1) : sp_ancestor b (nI j) (nI i) = if pm_an b.2.1 j i = true then 1 else 0 := by
  unfold sp_ancestor; rw [if_pos ⟨sp_ok_nI hn hj, sp_ok_nI hn hi⟩, pm_clN (by omega), pm_clN (by omega)]
theorem sp_meet_1 {b : pm_AB} {v w : Int32} (h : ¬ sp_ok b.1 v) : sp_meet b v w (-1) := ⟨fun _ => rfl, fun z => absurd z.1 h⟩
theorem sp_meet_2 {b : pm_AB} {v w : Int32} (h : ¬ sp_ok b.1 w) : sp_meet b v w (-1) := ⟨fun _ => rfl, fun z => absurd z.2 h⟩
theorem sp_meet_3 {b : pm_AB} (hn : b.1 ≤ 40) {j i x : Nat} (hj : j < b.1) (hi : i < b.1) (hx : x < b.1) (h1 : pm_an b.2.1 x j = true) (h2 : pm_an b.2.1 x i = true) (h3 : ∀ y, y < b.1 → pm_an b.2.1 y j = true → pm_an b.2.1 y i = true → y ≤ x) : sp_meet b (nI j) (nI i) (nI x) := by
  refine ⟨fun z => absurd ⟨sp_ok_nI hn hj, sp_ok_nI hn hi⟩ z, fun _ => ⟨x, hx, rfl, ?_⟩⟩
  rw [pm_clN (by omega), pm_clN (by omega)]
  exact ⟨h1, h2, h3⟩
theorem sp_family_1 {b : pm_AB} {v : Int32} (h : ¬ sp_ok b.1 v) : sp_family b v = -1 := if_neg h
theorem sp_family_2 {b : pm_AB} (hn : b.1 ≤ 40) {j : Nat} (hj : j < b.1) : sp_family b (nI j) = nI (pm_cnt (fun w => pm_an b.2.1 j w) b.1) := by
  unfold sp_family; rw [if_pos (sp_ok_nI hn hj), pm_clN (by omega)]
theorem sp_has_1 {b : pm_AB} {v k : Int32} (h : ¬ sp_ok b.1 v) : sp_has b v k = -1 := if_neg h
theorem sp_has_2 {b : pm_AB} {v k : Int32} (h : sp_ok b.1 v) (h2 : ¬ sp_key k) : sp_has b v k = -2 := by
  unfold sp_has; rw [if_pos h, if_neg h2]
theorem sp_has_3 {b : pm_AB} (hn : b.1 ≤ 40) {j i : Nat} (hj : j < b.1) (hi : i < 32) : sp_has b (nI j) (nI i) = pm_on (b.2.2 j i) := by
  unfold sp_has; rw [if_pos (sp_ok_nI hn hj), if_pos (sp_key_nI hi), pm_clN (by omega), pm_clN (by omega)]; rfl
theorem sp_get_1 {b : pm_AB} {v k : Int32} (h : ¬ sp_ok b.1 v) : sp_get b v k = 0 := if_neg (fun z => h z.1)
theorem sp_get_2 {b : pm_AB} {v k : Int32} (h : ¬ sp_key k) : sp_get b v k = 0 := if_neg (fun z => h z.2)
theorem sp_get_3 {b : pm_AB} (hn : b.1 ≤ 40) {j i : Nat} (hj : j < b.1) (hi : i < 32) : sp_get b (nI j) (nI i) = (b.2.2 j i).getD 0 := by
  unfold sp_get; rw [if_pos ⟨sp_ok_nI hn hj, sp_key_nI hi⟩, pm_clN (by omega), pm_clN (by omega)]
theorem sp_size_1 {b : pm_AB} {v : Int32} (h : ¬ sp_ok b.1 v) : sp_size b v = -1 := if_neg h
theorem sp_size_2 {b : pm_AB} (hn : b.1 ≤ 40) {j : Nat} (hj : j < b.1) : sp_size b (nI j) = nI (pm_cnt (fun k => (b.2.2 j k).isSome) 32) := by
  unfold sp_size; rw [if_pos (sp_ok_nI hn hj), pm_clN (by omega)]
theorem sp_next_1 {b : pm_AB} {v f : Int32} (h : ¬ sp_ok b.1 v) : sp_next b v f (-1) := ⟨fun _ => rfl, fun z => absurd z h⟩
theorem sp_next_2 {b : pm_AB} (hn : b.1 ≤ 40) {j : Nat} (hj : j < b.1) {f r : Int32} (h : pm_first (fun k => f ≤ nI k ∧ (b.2.2 j k).isSome = true) 32 r) : sp_next b (nI j) f r := by
  refine ⟨fun z => absurd (sp_ok_nI hn hj) z, fun _ => ?_⟩
  rw [pm_clN (by omega)]; exact h
theorem sp_previous_1 {b : pm_AB} {v f : Int32} (h : ¬ sp_ok b.1 v) : sp_previous b v f (-1) := ⟨fun _ => rfl, fun z => absurd z h⟩
theorem sp_previous_2 {b : pm_AB} (hn : b.1 ≤ 40) {j : Nat} (hj : j < b.1) {f r : Int32} (h : pm_final (fun k => nI k ≤ f ∧ (b.2.2 j k).isSome = true) 32 r) : sp_previous b (nI j) f r := by
  refine ⟨fun z => absurd (sp_ok_nI hn hj) z, fun _ => ?_⟩
  rw [pm_clN (by omega)]; exact h
theorem sp_select_1 {b : pm_AB} {v f : Int32} (h : ¬ sp_ok b.1 v) : sp_select b v f (-1) := ⟨fun _ => rfl, fun z => absurd z h⟩
theorem sp_select_2 {b : pm_AB} (hn : b.1 ≤ 40) {j : Nat} (hj : j < b.1) {f r : Int32} (h : pm_first (fun k => (b.2.2 j k).isSome = true ∧ nI (pm_cnt (fun k => (b.2.2 j k).isSome) k) = f) 32 r) : sp_select b (nI j) f r := by
  refine ⟨fun z => absurd (sp_ok_nI hn hj) z, fun _ => ?_⟩
  rw [pm_clN (by omega)]; exact h
theorem sp_sum_1 {b : pm_AB} {v f t : Int32} (h : ¬ sp_ok b.1 v) : sp_sum b v f t = 0 := if_neg h
theorem sp_sum_2 {b : pm_AB} (hn : b.1 ≤ 40) {j : Nat} (hj : j < b.1) {f t : Int32} : sp_sum b (nI j) f t = pm_sum (fun k => if f ≤ nI k ∧ nI k ≤ t then (b.2.2 j k).getD 0 else 0) 32 := by
  unfold sp_sum; rw [if_pos (sp_ok_nI hn hj), pm_clN (by omega)]
theorem sp_differing_1 {b : pm_AB} {v w : Int32} (h : ¬ sp_ok b.1 v) : sp_differing b v w = -1 := if_neg (fun z => h z.1)
theorem sp_differing_2 {b : pm_AB} {v w : Int32} (h : ¬ sp_ok b.1 w) : sp_differing b v w = -1 := if_neg (fun z => h z.2)
theorem sp_differing_3 {b : pm_AB} (hn : b.1 ≤ 40) {j i : Nat} (hj : j < b.1) (hi : i < b.1) : sp_differing b (nI j) (nI i) = nI (pm_cnt (fun k => decide (b.2.2 j k ≠ b.2.2 i k)) 32) := by
  unfold sp_differing; rw [if_pos ⟨sp_ok_nI hn hj, sp_ok_nI hn hi⟩, pm_clN (by omega), pm_clN (by omega)]
theorem sp_spread_1 {b : pm_AB} {k : Int32} (h : ¬ sp_key k) : sp_spread b k = -1 := if_neg h
theorem sp_spread_2 {b : pm_AB} {j : Nat} (hj : j < 32) : sp_spread b (nI j) = nI (pm_cnt (fun v => (b.2.2 v j).isSome) b.1) := by
  unfold sp_spread; rw [if_pos (sp_key_nI hj), pm_clN (by omega)]
theorem sp_changes_1 {b : pm_AB} {k : Int32} (h : ¬ sp_key k) : sp_changes b k = -1 := if_neg h
theorem sp_changes_2 {b : pm_AB} {j : Nat} (hj : j < 32) : sp_changes b (nI j) = nI (pm_cnt (fun v => decide (0 < v ∧ b.2.2 v j ≠ b.2.2 (b.2.1 v) j)) b.1) := by
  unfold sp_changes; rw [if_pos (sp_key_nI hj), pm_clN (by omega)]
theorem sp_mk_1 {b b' : pm_AB} {okv okk : Prop} (h : ¬ okv) : sp_mk b okv okk b' (-1) b := ⟨fun _ => ⟨rfl, rfl⟩, fun z => absurd z h, fun z => absurd z h, fun z => absurd z h⟩
theorem sp_mk_2 {b b' : pm_AB} {okv okk : Prop} (h : okv) (h2 : ¬ okk) : sp_mk b okv okk b' (-2) b := ⟨fun z => absurd h z, fun _ _ => ⟨rfl, rfl⟩, fun _ z => absurd z h2, fun _ z => absurd z h2⟩
theorem sp_mk_3 {b b' : pm_AB} {okv okk : Prop} (h : okv) (h2 : okk) (h3 : b.1 = 40) : sp_mk b okv okk b' (-3) b := ⟨fun z => absurd h z, fun _ z => absurd h2 z, fun _ _ _ => ⟨rfl, rfl⟩, fun _ _ z => absurd h3 z⟩
theorem sp_mk_4 {b b' : pm_AB} {okv okk : Prop} (h : okv) (h2 : okk) (h3 : ¬ b.1 = 40) : sp_mk b okv okk b' (nI b.1) b' := ⟨fun z => absurd h z, fun _ z => absurd h2 z, fun _ _ z => absurd z h3, fun _ _ _ => ⟨rfl, rfl⟩⟩
theorem sp_plan_of {p : Int32} (h : sp_plan p) : ∃ f z, 1 ≤ z ∧ z ≤ 8 ∧ f + z ≤ 32 ∧ f * 16 + z ≤ 511 ∧ p = nI (f * 16 + z) ∧ p.toNatClampNeg / 16 = f ∧ p.toNatClampNeg % 16 = z := by
  obtain ⟨h1, h2, h3, h4, h5⟩ := h
  obtain ⟨j, hj, rfl⟩ := pm_of_nn h1
  have h6 : j ≤ 511 := (nI_leI (b := 511) hj (by decide)).mp h2
  rw [nI_clamp hj] at h3 h4 h5 ⊢
  exact ⟨j / 16, j % 16, h3, h4, h5, by omega, by rw [show j / 16 * 16 + j % 16 = j by omega], rfl, rfl⟩
theorem pm_first_go {p : Nat → Prop} {k : Nat} (h : ∀ j, j < k → ¬ p j) (hk : ¬ p k) : ∀ j, j < k + 1 → ¬ p j := by
  intro j hj
  rcases Nat.lt_or_ge j k with z | z
  · exact h j z
  · rw [show j = k by omega]; exact hk
end
section
/-! ===== PersistentMap: versions, parent, ancestor, has, get, size, differing, changes, meet ===== -/
theorem pm_on_0 {o : Option Int32} (h : pm_on o = 0) : o.getD 0 = 0 := by
  cases o
  · rfl
  · exact absurd h (by show ¬ (1 : Int32) = 0; decide)
theorem pm_on_n {o : Option Int32} (h : pm_on o = 0) : ¬ o.isSome = true := (pm_on_bl o).no h
theorem pm_on_y {o : Option Int32} (h : ¬ pm_on o = 0) : o.isSome = true := (pm_on_bl o).yes h
theorem pm_left (i : Int32) (c : Nat) : i - nI c + (-1) = i - nI (c + 1) := by
  rw [← nI_1, ← Int32.sub_sub, Int32.sub_eq_add_neg (i - nI c) 1]
theorem pm_left0 {i : Int32} {c : Nat} : i - nI c = 0 ↔ nI c = i := by
  rw [Int32.sub_eq_iff_eq_add, Int32.zero_add]
  exact eq_comm
set_option maxHeartbeats 4000000 in
set_option maxRecDepth 100000 in
theorem c0_versions (l : Launch) (D : va_G) (q : Nat → Nat) (a : Nat → ClassId) (u : pm_S0) {b : pm_AB} {ne : Nat} (hI : pm_R0 u.1 b ne) : pm_Mi l yX0_versions cX0_versions 1 .int (pm_rm 0) D (pm_t0 a) (pm_w0 q a) [.ref (q 0)] u (fun r u' => r = nI b.1 ∧ u'.1 = u.1) := by
  refine pm_Mi_of (by decide) (Nat.le_of_ble_eq_true rfl) ?_
  intro p e s m below meth c A args Q ls F hA hret hX hl
  have hx := F.1
  have hb := F.2.1
  have hl : lv_has ls 1 [(0, .ref (q 0))] := hl
  have hn := hI.n40
  refine lv_aload_n hx hb dX0_versions_0 rfl (lv_at hl 0 rfl) ?_
  refine x0_gcn F hX dX0_versions_1 ?_
  exact hret (k_cn u.1) u _ _ 4 ls hX (⟨hI.cn, rfl⟩) (rfl) dX0_versions_4

set_option maxHeartbeats 4000000 in
set_option maxRecDepth 100000 in
theorem c0_parent (l : Launch) (D : va_G) (q : Nat → Nat) (a : Nat → ClassId) (u : pm_S0) {b : pm_AB} {ne : Nat} (hI : pm_R0 u.1 b ne) (v : Int32) : pm_Mi l yX0_parent cX0_parent 2 .int (pm_rm 1) D (pm_t0 a) (pm_w0 q a) [.ref (q 0), .int v] u (fun r u' => r = sp_parent b v ∧ u'.1 = u.1) := by
  refine pm_Mi_of (by decide) (Nat.le_of_ble_eq_true rfl) ?_
  intro p e s m below meth c A args Q ls F hA hret hX hl
  have hx := F.1
  have hb := F.2.1
  have hl : lv_has ls 2 [(0, .ref (q 0)), (1, .int v)] := hl
  have hn := hI.n40
  refine lv_aload_n hx hb dX0_parent_0 rfl (lv_at hl 0 rfl) ?_
  refine lv_iload_n hx hb dX0_parent_1 rfl (lv_at hl 1 rfl) ?_
  refine pm_calli (rest := []) F hA hX (c0_isVersion l D q a u v) rfl rfl hG0_isVersion hd0_isVersion ⟨⟨rfl, rfl⟩, Nat.le_of_ble_eq_true rfl, Nat.le_of_ble_eq_true rfl⟩ rfl rfl hl.1 (Nat.le_of_ble_eq_true rfl) dX0_parent_2 ⟨Nat.zero_le _, Nat.zero_le _⟩ (fun r2 u2 H locs hw2 hX => ?_)
  rw [hw2.2] at hX
  have hb2 := hI.okv hw2.1
  refine lv_if_ne (tgt := 10) hx hb dX0_parent_5 (by decide) (fun c5 => ?_) (fun c5 => ?_)
  · have hv := hb2.yes c5
    obtain ⟨v1, hv1, rfl⟩ := sp_ok_of hn hv
    refine lv_iload_n hx hb dX0_parent_10 rfl (lv_at hl 1 rfl) ?_
    refine lv_if_ne (tgt := 19) hx hb dX0_parent_11 (by decide) (fun c11 => ?_) (fun c11 => ?_)
    · have hpos : 0 < v1 := by
        rcases Nat.eq_zero_or_pos v1 with z | z
        · exact absurd (by rw [z]; rfl) c11
        · exact z
      refine lv_aload_n hx hb dX0_parent_19 rfl (lv_at hl 0 rfl) ?_
      refine x0_gpa F hX dX0_parent_20 ?_
      refine lv_iload_n hx hb dX0_parent_23 rfl (lv_at hl 1 rfl) ?_
      refine x0_lpa F hX (by omega) dX0_parent_24 ?_
      exact hret (k_pa u.1 v1) u _ _ 25 ls hX (⟨(hI.iv.2 v1 hpos hv1).1.trans (sp_parent_3 hn hv1 c11).symm, rfl⟩) (rfl) dX0_parent_25
    · refine lv_bipush (v := (-2)) hx hb dX0_parent_14 (by decide) ?_
      refine lv_goto (tgt := 25) hx hb dX0_parent_16 (by decide) ?_
      exact hret (-2) u _ _ 25 ls hX (⟨(sp_parent_2 hn hv1 c11).symm, rfl⟩) (rfl) dX0_parent_25
  · have hv := hb2.no c5
    refine lv_iconst (v := (-1)) hx hb dX0_parent_8 (by decide) ?_
    exact hret (-1) u _ _ 9 ls hX (⟨(sp_parent_1 hv).symm, rfl⟩) (rfl) dX0_parent_9

set_option maxHeartbeats 4000000 in
set_option maxRecDepth 100000 in
theorem c0_ancestor (l : Launch) (D : va_G) (q : Nat → Nat) (a : Nat → ClassId) (u : pm_S0) {b : pm_AB} {ne : Nat} (hI : pm_R0 u.1 b ne) (v w : Int32) : pm_Mi l yX0_ancestor cX0_ancestor 3 .int (pm_rm 1) D (pm_t0 a) (pm_w0 q a) [.ref (q 0), .int v, .int w] u (fun r u' => r = sp_ancestor b v w ∧ u'.1 = u.1) := by
  refine pm_Mi_of (by decide) (Nat.le_of_ble_eq_true rfl) ?_
  intro p e s m below meth c A args Q ls F hA hret hX hl
  have hx := F.1
  have hb := F.2.1
  have hl : lv_has ls 3 [(0, .ref (q 0)), (1, .int v), (2, .int w)] := hl
  have hn := hI.n40
  refine lv_aload_n hx hb dX0_ancestor_0 rfl (lv_at hl 0 rfl) ?_
  refine lv_iload_n hx hb dX0_ancestor_1 rfl (lv_at hl 1 rfl) ?_
  refine pm_calli (rest := []) F hA hX (c0_isVersion l D q a u v) rfl rfl hG0_isVersion hd0_isVersion ⟨⟨rfl, rfl⟩, Nat.le_of_ble_eq_true rfl, Nat.le_of_ble_eq_true rfl⟩ rfl rfl hl.1 (Nat.le_of_ble_eq_true rfl) dX0_ancestor_2 ⟨Nat.zero_le _, Nat.zero_le _⟩ (fun r2 u2 H locs hw2 hX => ?_)
  rw [hw2.2] at hX
  have hb2 := hI.okv hw2.1
  refine lv_if_eq (tgt := 16) hx hb dX0_ancestor_5 (by decide) (fun c5 => ?_) (fun c5 => ?_)
  · have hv := hb2.no c5
    refine lv_iconst (v := (-1)) hx hb dX0_ancestor_16 (by decide) ?_
    exact hret (-1) u _ _ 17 ls hX (⟨(sp_ancestor_1 hv).symm, rfl⟩) (rfl) dX0_ancestor_17
  · have hv := hb2.yes c5
    obtain ⟨v1, hv1, rfl⟩ := sp_ok_of hn hv
    refine lv_aload_n hx hb dX0_ancestor_8 rfl (lv_at hl 0 rfl) ?_
    refine lv_iload_n hx hb dX0_ancestor_9 rfl (lv_at hl 2 rfl) ?_
    refine pm_calli (rest := []) F hA hX (c0_isVersion l D q a u w) rfl rfl hG0_isVersion hd0_isVersion ⟨⟨rfl, rfl⟩, Nat.le_of_ble_eq_true rfl, Nat.le_of_ble_eq_true rfl⟩ rfl rfl hl.1 (Nat.le_of_ble_eq_true rfl) dX0_ancestor_10 ⟨Nat.zero_le _, Nat.zero_le _⟩ (fun r10 u10 H locs hw10 hX => ?_)
    rw [hw10.2] at hX
    have hb10 := hI.okv hw10.1
    refine lv_if_ne (tgt := 18) hx hb dX0_ancestor_13 (by decide) (fun c13 => ?_) (fun c13 => ?_)
    · have hw := hb10.yes c13
      obtain ⟨w1, hw1, rfl⟩ := sp_ok_of hn hw
      refine lv_aload_n hx hb dX0_ancestor_18 rfl (lv_at hl 0 rfl) ?_
      refine lv_iload_n hx hb dX0_ancestor_19 rfl (lv_at hl 1 rfl) ?_
      refine lv_iload_n hx hb dX0_ancestor_20 rfl (lv_at hl 2 rfl) ?_
      refine pm_calli (rest := []) F hA hX (c0_isAncestor l D q a u hn hI.iv.2 hv1 hw1) rfl rfl hG0_isAncestor hd0_isAncestor ⟨⟨rfl, rfl⟩, Nat.le_of_ble_eq_true rfl, Nat.le_of_ble_eq_true rfl⟩ rfl rfl hl.1 (Nat.le_of_ble_eq_true rfl) dX0_ancestor_21 ⟨Nat.zero_le _, Nat.zero_le _⟩ (fun r21 u21 H locs hw21 hX => ?_)
      rw [hw21.2] at hX
      refine lv_if_eq (tgt := 31) hx hb dX0_ancestor_24 (by decide) (fun c24 => ?_) (fun c24 => ?_)
      · refine lv_iconst (v := 0) hx hb dX0_ancestor_31 (by decide) ?_
        exact hret 0 u _ _ 32 ls hX (⟨((sp_ancestor_3 hn hv1 hw1).trans (if_neg (hw21.1.no c24))).symm, rfl⟩) (rfl) dX0_ancestor_32
      · refine lv_iconst (v := 1) hx hb dX0_ancestor_27 (by decide) ?_
        refine lv_goto (tgt := 32) hx hb dX0_ancestor_28 (by decide) ?_
        exact hret 1 u _ _ 32 ls hX (⟨((sp_ancestor_3 hn hv1 hw1).trans (if_pos (hw21.1.yes c24))).symm, rfl⟩) (rfl) dX0_ancestor_32
    · have hw := hb10.no c13
      refine lv_iconst (v := (-1)) hx hb dX0_ancestor_16 (by decide) ?_
      exact hret (-1) u _ _ 17 ls hX (⟨(sp_ancestor_2 hw).symm, rfl⟩) (rfl) dX0_ancestor_17

set_option maxHeartbeats 4000000 in
set_option maxRecDepth 100000 in
theorem c0_has (l : Launch) (D : va_G) (q : Nat → Nat) (a : Nat → ClassId) (u : pm_S0) {b : pm_AB} {ne : Nat} (hI : pm_R0 u.1 b ne) (v k : Int32) : pm_Mi l yX0_has cX0_has 3 .int (pm_rm 2) D (pm_t0 a) (pm_w0 q a) [.ref (q 0), .int v, .int k] u (fun r u' => r = sp_has b v k ∧ u'.1 = u.1) := by
  refine pm_Mi_of (by decide) (Nat.le_of_ble_eq_true rfl) ?_
  intro p e s m below meth c A args Q ls F hA hret hX hl
  have hx := F.1
  have hb := F.2.1
  have hl : lv_has ls 3 [(0, .ref (q 0)), (1, .int v), (2, .int k)] := hl
  have hn := hI.n40
  refine lv_aload_n hx hb dX0_has_0 rfl (lv_at hl 0 rfl) ?_
  refine lv_iload_n hx hb dX0_has_1 rfl (lv_at hl 1 rfl) ?_
  refine pm_calli (rest := []) F hA hX (c0_isVersion l D q a u v) rfl rfl hG0_isVersion hd0_isVersion ⟨⟨rfl, rfl⟩, Nat.le_of_ble_eq_true rfl, Nat.le_of_ble_eq_true rfl⟩ rfl rfl hl.1 (Nat.le_of_ble_eq_true rfl) dX0_has_2 ⟨Nat.zero_le _, Nat.zero_le _⟩ (fun r2 u2 H locs hw2 hX => ?_)
  rw [hw2.2] at hX
  have hb2 := hI.okv hw2.1
  refine lv_if_ne (tgt := 10) hx hb dX0_has_5 (by decide) (fun c5 => ?_) (fun c5 => ?_)
  · have hv := hb2.yes c5
    obtain ⟨v1, hv1, rfl⟩ := sp_ok_of hn hv
    refine lv_iload_n hx hb dX0_has_10 rfl (lv_at hl 2 rfl) ?_
    refine pm_calls (rest := []) F (c0_isKey l k) hG0_isKey hd0_isKey ⟨⟨rfl, rfl⟩, Nat.le_of_ble_eq_true rfl, Nat.le_of_ble_eq_true rfl⟩ rfl rfl hl.1 (Nat.le_of_ble_eq_true rfl) dX0_has_11 ⟨Nat.zero_le _, Nat.zero_le _⟩ ?_
    refine lv_if_ne (tgt := 20) hx hb dX0_has_14 (by decide) (fun c14 => ?_) (fun c14 => ?_)
    · have hk := (pm_bl_if _).yes c14
      obtain ⟨k1, hk1, rfl⟩ := sp_key_of hk
      refine lv_aload_n hx hb dX0_has_20 rfl (lv_at hl 0 rfl) ?_
      refine lv_iload_n hx hb dX0_has_21 rfl (lv_at hl 1 rfl) ?_
      refine lv_iload_n hx hb dX0_has_22 rfl (lv_at hl 2 rfl) ?_
      refine pm_callv (rest := []) F hA hX (c0_look l D q a u (hI) hv1 hk1) rfl rfl hG0_look hd0_look ⟨⟨rfl, rfl⟩, Nat.le_of_ble_eq_true rfl, Nat.le_of_ble_eq_true rfl⟩ rfl rfl hl.1 (Nat.le_of_ble_eq_true rfl) dX0_has_23 ⟨Nat.zero_le _, Nat.zero_le _⟩ (fun u23 H locs hw23 hX => ?_)
      rw [hw23] at hX
      refine lv_aload_n hx hb dX0_has_26 rfl (lv_at hl 0 rfl) ?_
      refine x0_gtn F hX dX0_has_27 ?_
      refine pm_top (y := pm_on (b.2.2 v1 k1)) (rfl) ?_
      refine lv_if_eq (tgt := 37) hx hb dX0_has_30 (by decide) (fun c30 => ?_) (fun c30 => ?_)
      · refine lv_iconst (v := 0) hx hb dX0_has_37 (by decide) ?_
        exact hret 0 (u.1, pm_on (b.2.2 v1 k1), (b.2.2 v1 k1).getD 0) _ _ 38 ls hX (⟨by rw [sp_has_3 hn hv1 hk1, c30], rfl⟩) (rfl) dX0_has_38
      · refine lv_iconst (v := 1) hx hb dX0_has_33 (by decide) ?_
        refine lv_goto (tgt := 38) hx hb dX0_has_34 (by decide) ?_
        exact hret 1 (u.1, pm_on (b.2.2 v1 k1), (b.2.2 v1 k1).getD 0) _ _ 38 ls hX (⟨by rw [sp_has_3 hn hv1 hk1, pm_not0 (pm_on_bit _) c30], rfl⟩) (rfl) dX0_has_38
    · have hk := (pm_bl_if _).no c14
      refine lv_bipush (v := (-2)) hx hb dX0_has_17 (by decide) ?_
      exact hret (-2) u _ _ 19 ls hX (⟨(sp_has_2 hv hk).symm, rfl⟩) (rfl) dX0_has_19
  · have hv := hb2.no c5
    refine lv_iconst (v := (-1)) hx hb dX0_has_8 (by decide) ?_
    exact hret (-1) u _ _ 9 ls hX (⟨(sp_has_1 hv).symm, rfl⟩) (rfl) dX0_has_9

set_option maxHeartbeats 4000000 in
set_option maxRecDepth 100000 in
theorem c0_get (l : Launch) (D : va_G) (q : Nat → Nat) (a : Nat → ClassId) (u : pm_S0) {b : pm_AB} {ne : Nat} (hI : pm_R0 u.1 b ne) (v k : Int32) : pm_Mi l yX0_get cX0_get 3 .int (pm_rm 2) D (pm_t0 a) (pm_w0 q a) [.ref (q 0), .int v, .int k] u (fun r u' => r = sp_get b v k ∧ u'.1 = u.1) := by
  refine pm_Mi_of (by decide) (Nat.le_of_ble_eq_true rfl) ?_
  intro p e s m below meth c A args Q ls F hA hret hX hl
  have hx := F.1
  have hb := F.2.1
  have hl : lv_has ls 3 [(0, .ref (q 0)), (1, .int v), (2, .int k)] := hl
  have hn := hI.n40
  refine lv_aload_n hx hb dX0_get_0 rfl (lv_at hl 0 rfl) ?_
  refine lv_iload_n hx hb dX0_get_1 rfl (lv_at hl 1 rfl) ?_
  refine pm_calli (rest := []) F hA hX (c0_isVersion l D q a u v) rfl rfl hG0_isVersion hd0_isVersion ⟨⟨rfl, rfl⟩, Nat.le_of_ble_eq_true rfl, Nat.le_of_ble_eq_true rfl⟩ rfl rfl hl.1 (Nat.le_of_ble_eq_true rfl) dX0_get_2 ⟨Nat.zero_le _, Nat.zero_le _⟩ (fun r2 u2 H locs hw2 hX => ?_)
  rw [hw2.2] at hX
  have hb2 := hI.okv hw2.1
  refine lv_if_eq (tgt := 15) hx hb dX0_get_5 (by decide) (fun c5 => ?_) (fun c5 => ?_)
  · have hv := hb2.no c5
    refine lv_iconst (v := 0) hx hb dX0_get_15 (by decide) ?_
    exact hret 0 u _ _ 16 ls hX (⟨(sp_get_1 hv).symm, rfl⟩) (rfl) dX0_get_16
  · have hv := hb2.yes c5
    obtain ⟨v1, hv1, rfl⟩ := sp_ok_of hn hv
    refine lv_iload_n hx hb dX0_get_8 rfl (lv_at hl 2 rfl) ?_
    refine pm_calls (rest := []) F (c0_isKey l k) hG0_isKey hd0_isKey ⟨⟨rfl, rfl⟩, Nat.le_of_ble_eq_true rfl, Nat.le_of_ble_eq_true rfl⟩ rfl rfl hl.1 (Nat.le_of_ble_eq_true rfl) dX0_get_9 ⟨Nat.zero_le _, Nat.zero_le _⟩ ?_
    refine lv_if_ne (tgt := 17) hx hb dX0_get_12 (by decide) (fun c12 => ?_) (fun c12 => ?_)
    · have hk := (pm_bl_if _).yes c12
      obtain ⟨k1, hk1, rfl⟩ := sp_key_of hk
      refine lv_aload_n hx hb dX0_get_17 rfl (lv_at hl 0 rfl) ?_
      refine lv_iload_n hx hb dX0_get_18 rfl (lv_at hl 1 rfl) ?_
      refine lv_iload_n hx hb dX0_get_19 rfl (lv_at hl 2 rfl) ?_
      refine pm_callv (rest := []) F hA hX (c0_look l D q a u (hI) hv1 hk1) rfl rfl hG0_look hd0_look ⟨⟨rfl, rfl⟩, Nat.le_of_ble_eq_true rfl, Nat.le_of_ble_eq_true rfl⟩ rfl rfl hl.1 (Nat.le_of_ble_eq_true rfl) dX0_get_20 ⟨Nat.zero_le _, Nat.zero_le _⟩ (fun u20 H locs hw20 hX => ?_)
      rw [hw20] at hX
      refine lv_aload_n hx hb dX0_get_23 rfl (lv_at hl 0 rfl) ?_
      refine x0_gtn F hX dX0_get_24 ?_
      refine pm_top (y := pm_on (b.2.2 v1 k1)) (rfl) ?_
      refine lv_if_eq (tgt := 37) hx hb dX0_get_27 (by decide) (fun c27 => ?_) (fun c27 => ?_)
      · refine lv_iconst (v := 0) hx hb dX0_get_37 (by decide) ?_
        exact hret 0 (u.1, pm_on (b.2.2 v1 k1), (b.2.2 v1 k1).getD 0) _ _ 38 ls hX (⟨by rw [sp_get_3 hn hv1 hk1, pm_on_0 c27], rfl⟩) (rfl) dX0_get_38
      · refine lv_aload_n hx hb dX0_get_30 rfl (lv_at hl 0 rfl) ?_
        refine x0_gvn F hX dX0_get_31 ?_
        refine pm_top (y := (b.2.2 v1 k1).getD 0) (rfl) ?_
        refine lv_goto (tgt := 38) hx hb dX0_get_34 (by decide) ?_
        exact hret ((b.2.2 v1 k1).getD 0) (u.1, pm_on (b.2.2 v1 k1), (b.2.2 v1 k1).getD 0) _ _ 38 ls hX (⟨by rw [sp_get_3 hn hv1 hk1], rfl⟩) (rfl) dX0_get_38
    · have hk := (pm_bl_if _).no c12
      refine lv_iconst (v := 0) hx hb dX0_get_15 (by decide) ?_
      exact hret 0 u _ _ 16 ls hX (⟨(sp_get_2 hk).symm, rfl⟩) (rfl) dX0_get_16

set_option maxHeartbeats 4000000 in
set_option maxRecDepth 100000 in
theorem c0_size (l : Launch) (D : va_G) (q : Nat → Nat) (a : Nat → ClassId) (u : pm_S0) {b : pm_AB} {ne : Nat} (hI : pm_R0 u.1 b ne) (v : Int32) : pm_Mi l yX0_size cX0_size 4 .int (pm_rm 2) D (pm_t0 a) (pm_w0 q a) [.ref (q 0), .int v] u (fun r u' => r = sp_size b v ∧ u'.1 = u.1) := by
  refine pm_Mi_of (by decide) (Nat.le_of_ble_eq_true rfl) ?_
  intro p e s m below meth c A args Q ls F hA hret hX hl
  have hx := F.1
  have hb := F.2.1
  have hl : lv_has ls 4 [(0, .ref (q 0)), (1, .int v)] := hl
  have hn := hI.n40
  refine lv_aload_n hx hb dX0_size_0 rfl (lv_at hl 0 rfl) ?_
  refine lv_iload_n hx hb dX0_size_1 rfl (lv_at hl 1 rfl) ?_
  refine pm_calli (rest := []) F hA hX (c0_isVersion l D q a u v) rfl rfl hG0_isVersion hd0_isVersion ⟨⟨rfl, rfl⟩, Nat.le_of_ble_eq_true rfl, Nat.le_of_ble_eq_true rfl⟩ rfl rfl hl.1 (Nat.le_of_ble_eq_true rfl) dX0_size_2 ⟨Nat.zero_le _, Nat.zero_le _⟩ (fun r2 u2 H locs hw2 hX => ?_)
  rw [hw2.2] at hX
  have hb2 := hI.okv hw2.1
  refine lv_if_ne (tgt := 10) hx hb dX0_size_5 (by decide) (fun c5 => ?_) (fun c5 => ?_)
  · have hv := hb2.yes c5
    obtain ⟨v1, hv1, rfl⟩ := sp_ok_of hn hv
    refine lv_iconst (v := nI 0) hx hb dX0_size_10 (by decide) ?_
    refine lv_istore_n (lv' := [(2, .int (nI 0)), (0, .ref (q 0)), (1, .int (nI v1))]) hx hb dX0_size_11 rfl hl (by decide) rfl (fun ls hl => ?_)
    refine lv_iconst (v := nI 0) hx hb dX0_size_12 (by decide) ?_
    refine lv_istore_n (lv' := [(3, .int (nI 0)), (2, .int (nI 0)), (0, .ref (q 0)), (1, .int (nI v1))]) hx hb dX0_size_13 rfl hl (by decide) rfl (fun ls hl => ?_)
    have loop : ∀ (N k : Nat) (u2 : pm_S0) (H : Heap) (locs : List Loc) (ls : Array Slot), k + N = 32 → u2.1 = u.1 → pm_X D A s (pm_t0 a) (pm_w0 q a) u2 H locs → lv_has ls 4 [(3, .int (nI k)), (2, .int (nI (pm_cnt (fun k => (b.2.2 v1 k).isSome) k))), (0, .ref (q 0)), (1, .int (nI v1))] → W p l e (pm_rm 2) s m args below meth c H locs 0 0 Q (F0 m 14 ls []) := by
      intro N
      induction N with
      | zero =>
        intro k u2 H locs ls hk hu2 hX hl
        refine lv_iload_n hx hb dX0_size_14 rfl (lv_at hl 0 rfl) ?_
        refine lv_bipush (v := nI 32) hx hb dX0_size_15 (by decide) ?_
        refine lv_icmp_ge (tgt := 47) hx hb dX0_size_17 (by decide) (fun c17 => ?_) (fun c17 => ?_)
        · refine lv_iload_n hx hb dX0_size_47 rfl (lv_at hl 1 rfl) ?_
          exact hret (nI (pm_cnt (fun k => (b.2.2 v1 k).isSome) k)) u2 _ _ 48 ls hX (⟨by rw [sp_size_2 hn hv1, show k = 32 by omega], hu2⟩) (rfl) dX0_size_48
        · exact absurd (nI_le (by omega) (by omega)) c17
      | succ N ih =>
        intro k u2 H locs ls hk hu2 hX hl
        have hI2 : pm_R0 u2.1 b ne := by rw [hu2]; exact hI
        refine lv_iload_n hx hb dX0_size_14 rfl (lv_at hl 0 rfl) ?_
        refine lv_bipush (v := nI 32) hx hb dX0_size_15 (by decide) ?_
        refine lv_icmp_ge (tgt := 47) hx hb dX0_size_17 (by decide) (fun c17 => ?_) (fun c17 => ?_)
        · exact absurd c17 (nI_ge (by omega) (by omega))
        · refine lv_aload_n hx hb dX0_size_20 rfl (lv_at hl 2 rfl) ?_
          refine lv_iload_n hx hb dX0_size_21 rfl (lv_at hl 3 rfl) ?_
          refine lv_iload_n hx hb dX0_size_22 rfl (lv_at hl 0 rfl) ?_
          refine pm_callv (rest := []) F hA hX (c0_look l D q a u2 (hI2) hv1 (by omega)) rfl rfl hG0_look hd0_look ⟨⟨rfl, rfl⟩, Nat.le_of_ble_eq_true rfl, Nat.le_of_ble_eq_true rfl⟩ rfl rfl hl.1 (Nat.le_of_ble_eq_true rfl) dX0_size_23 ⟨Nat.zero_le _, Nat.zero_le _⟩ (fun u23 H locs hw23 hX => ?_)
          rw [hw23] at hX
          refine lv_iload_n hx hb dX0_size_26 rfl (lv_at hl 1 rfl) ?_
          refine lv_aload_n hx hb dX0_size_27 rfl (lv_at hl 2 rfl) ?_
          refine x0_gtn F hX dX0_size_28 ?_
          refine pm_top (y := pm_on (b.2.2 v1 k)) (rfl) ?_
          refine lv_if_eq (tgt := 38) hx hb dX0_size_31 (by decide) (fun c31 => ?_) (fun c31 => ?_)
          · refine lv_iconst (v := 0) hx hb dX0_size_38 (by decide) ?_
            refine lv_iadd hx hb dX0_size_39 ?_
            refine pm_top (y := nI (pm_cnt (fun k => (b.2.2 v1 k).isSome) (k + 1))) (by rw [pm_cnt_f (p := (fun k => (b.2.2 v1 k).isSome)) (pm_on_n c31), Int32.add_zero]) ?_
            refine lv_istore_n (lv' := [(2, .int (nI (pm_cnt (fun k => (b.2.2 v1 k).isSome) (k + 1)))), (3, .int (nI k)), (0, .ref (q 0)), (1, .int (nI v1))]) hx hb dX0_size_40 rfl hl (by decide) rfl (fun ls hl => ?_)
            refine lv_iinc (v := nI (k + 1)) (lv' := [(3, .int (nI (k + 1))), (2, .int (nI (pm_cnt (fun k => (b.2.2 v1 k).isSome) (k + 1)))), (0, .ref (q 0)), (1, .int (nI v1))]) hx hb dX0_size_41 hl (k := 1) rfl (nI_1 k) (by decide) rfl (fun ls hl => ?_)
            refine lv_goto (tgt := 14) hx hb dX0_size_44 (by decide) ?_
            exact ih (k + 1) (u2.1, pm_on (b.2.2 v1 k), (b.2.2 v1 k).getD 0) _ _ ls (by omega) hu2 hX (lv_sub hl [0, 1, 2, 3] rfl)
          · refine lv_iconst (v := 1) hx hb dX0_size_34 (by decide) ?_
            refine lv_goto (tgt := 39) hx hb dX0_size_35 (by decide) ?_
            refine lv_iadd hx hb dX0_size_39 ?_
            refine pm_top (y := nI (pm_cnt (fun k => (b.2.2 v1 k).isSome) (k + 1))) (by rw [pm_cnt_t (p := (fun k => (b.2.2 v1 k).isSome)) (pm_on_y c31)]; exact nI_1 _) ?_
            refine lv_istore_n (lv' := [(2, .int (nI (pm_cnt (fun k => (b.2.2 v1 k).isSome) (k + 1)))), (3, .int (nI k)), (0, .ref (q 0)), (1, .int (nI v1))]) hx hb dX0_size_40 rfl hl (by decide) rfl (fun ls hl => ?_)
            refine lv_iinc (v := nI (k + 1)) (lv' := [(3, .int (nI (k + 1))), (2, .int (nI (pm_cnt (fun k => (b.2.2 v1 k).isSome) (k + 1)))), (0, .ref (q 0)), (1, .int (nI v1))]) hx hb dX0_size_41 hl (k := 1) rfl (nI_1 k) (by decide) rfl (fun ls hl => ?_)
            refine lv_goto (tgt := 14) hx hb dX0_size_44 (by decide) ?_
            exact ih (k + 1) (u2.1, pm_on (b.2.2 v1 k), (b.2.2 v1 k).getD 0) _ _ ls (by omega) hu2 hX (lv_sub hl [0, 1, 2, 3] rfl)
    exact loop 32 0 u _ _ ls (by omega) rfl hX (lv_sub hl [0, 1, 2, 3] rfl)
  · have hv := hb2.no c5
    refine lv_iconst (v := (-1)) hx hb dX0_size_8 (by decide) ?_
    exact hret (-1) u _ _ 9 ls hX (⟨(sp_size_1 hv).symm, rfl⟩) (rfl) dX0_size_9

set_option maxHeartbeats 4000000 in
set_option maxRecDepth 100000 in
theorem c0_differing (l : Launch) (D : va_G) (q : Nat → Nat) (a : Nat → ClassId) (u : pm_S0) {b : pm_AB} {ne : Nat} (hI : pm_R0 u.1 b ne) (v w : Int32) : pm_Mi l yX0_differing cX0_differing 5 .int (pm_rm 3) D (pm_t0 a) (pm_w0 q a) [.ref (q 0), .int v, .int w] u (fun r u' => r = sp_differing b v w ∧ u'.1 = u.1) := by
  refine pm_Mi_of (by decide) (Nat.le_of_ble_eq_true rfl) ?_
  intro p e s m below meth c A args Q ls F hA hret hX hl
  have hx := F.1
  have hb := F.2.1
  have hl : lv_has ls 5 [(0, .ref (q 0)), (1, .int v), (2, .int w)] := hl
  have hn := hI.n40
  refine lv_aload_n hx hb dX0_differing_0 rfl (lv_at hl 0 rfl) ?_
  refine lv_iload_n hx hb dX0_differing_1 rfl (lv_at hl 1 rfl) ?_
  refine pm_calli (rest := []) F hA hX (c0_isVersion l D q a u v) rfl rfl hG0_isVersion hd0_isVersion ⟨⟨rfl, rfl⟩, Nat.le_of_ble_eq_true rfl, Nat.le_of_ble_eq_true rfl⟩ rfl rfl hl.1 (Nat.le_of_ble_eq_true rfl) dX0_differing_2 ⟨Nat.zero_le _, Nat.zero_le _⟩ (fun r2 u2 H locs hw2 hX => ?_)
  rw [hw2.2] at hX
  have hb2 := hI.okv hw2.1
  refine lv_if_eq (tgt := 16) hx hb dX0_differing_5 (by decide) (fun c5 => ?_) (fun c5 => ?_)
  · have hv := hb2.no c5
    refine lv_iconst (v := (-1)) hx hb dX0_differing_16 (by decide) ?_
    exact hret (-1) u _ _ 17 ls hX (⟨(sp_differing_1 hv).symm, rfl⟩) (rfl) dX0_differing_17
  · have hv := hb2.yes c5
    obtain ⟨v1, hv1, rfl⟩ := sp_ok_of hn hv
    refine lv_aload_n hx hb dX0_differing_8 rfl (lv_at hl 0 rfl) ?_
    refine lv_iload_n hx hb dX0_differing_9 rfl (lv_at hl 2 rfl) ?_
    refine pm_calli (rest := []) F hA hX (c0_isVersion l D q a u w) rfl rfl hG0_isVersion hd0_isVersion ⟨⟨rfl, rfl⟩, Nat.le_of_ble_eq_true rfl, Nat.le_of_ble_eq_true rfl⟩ rfl rfl hl.1 (Nat.le_of_ble_eq_true rfl) dX0_differing_10 ⟨Nat.zero_le _, Nat.zero_le _⟩ (fun r10 u10 H locs hw10 hX => ?_)
    rw [hw10.2] at hX
    have hb10 := hI.okv hw10.1
    refine lv_if_ne (tgt := 18) hx hb dX0_differing_13 (by decide) (fun c13 => ?_) (fun c13 => ?_)
    · have hw := hb10.yes c13
      obtain ⟨w1, hw1, rfl⟩ := sp_ok_of hn hw
      refine lv_iconst (v := nI 0) hx hb dX0_differing_18 (by decide) ?_
      refine lv_istore_n (lv' := [(3, .int (nI 0)), (0, .ref (q 0)), (1, .int (nI v1)), (2, .int (nI w1))]) hx hb dX0_differing_19 rfl hl (by decide) rfl (fun ls hl => ?_)
      refine lv_iconst (v := nI 0) hx hb dX0_differing_20 (by decide) ?_
      refine lv_istore (lv' := [(4, .int (nI 0)), (3, .int (nI 0)), (0, .ref (q 0)), (1, .int (nI v1)), (2, .int (nI w1))]) hx hb dX0_differing_21 hl (by decide) rfl (fun ls hl => ?_)
      have loop : ∀ (N k : Nat) (u2 : pm_S0) (H : Heap) (locs : List Loc) (ls : Array Slot), k + N = 32 → u2.1 = u.1 → pm_X D A s (pm_t0 a) (pm_w0 q a) u2 H locs → lv_has ls 5 [(4, .int (nI k)), (3, .int (nI (pm_cnt (fun k => decide (b.2.2 v1 k ≠ b.2.2 w1 k)) k))), (0, .ref (q 0)), (1, .int (nI v1)), (2, .int (nI w1))] → W p l e (pm_rm 3) s m args below meth c H locs 0 0 Q (F0 m 23 ls []) := by
        intro N
        induction N with
        | zero =>
          intro k u2 H locs ls hk hu2 hX hl
          refine lv_iload hx hb dX0_differing_23 (lv_at hl 0 rfl) ?_
          refine lv_bipush (v := nI 32) hx hb dX0_differing_25 (by decide) ?_
          refine lv_icmp_ge (tgt := 55) hx hb dX0_differing_27 (by decide) (fun c27 => ?_) (fun c27 => ?_)
          · refine lv_iload_n hx hb dX0_differing_55 rfl (lv_at hl 1 rfl) ?_
            exact hret (nI (pm_cnt (fun k => decide (b.2.2 v1 k ≠ b.2.2 w1 k)) k)) u2 _ _ 56 ls hX (⟨by rw [sp_differing_3 hn hv1 hw1, show k = 32 by omega], hu2⟩) (rfl) dX0_differing_56
          · exact absurd (nI_le (by omega) (by omega)) c27
        | succ N ih =>
          intro k u2 H locs ls hk hu2 hX hl
          have hI2 : pm_R0 u2.1 b ne := by rw [hu2]; exact hI
          refine lv_iload hx hb dX0_differing_23 (lv_at hl 0 rfl) ?_
          refine lv_bipush (v := nI 32) hx hb dX0_differing_25 (by decide) ?_
          refine lv_icmp_ge (tgt := 55) hx hb dX0_differing_27 (by decide) (fun c27 => ?_) (fun c27 => ?_)
          · exact absurd c27 (nI_ge (by omega) (by omega))
          · refine lv_iload_n hx hb dX0_differing_30 rfl (lv_at hl 1 rfl) ?_
            refine lv_aload_n hx hb dX0_differing_31 rfl (lv_at hl 2 rfl) ?_
            refine lv_iload_n hx hb dX0_differing_32 rfl (lv_at hl 3 rfl) ?_
            refine lv_iload_n hx hb dX0_differing_33 rfl (lv_at hl 4 rfl) ?_
            refine lv_iload hx hb dX0_differing_34 (lv_at hl 0 rfl) ?_
            refine pm_calli (rest := [.int (nI (pm_cnt (fun k => decide (b.2.2 v1 k ≠ b.2.2 w1 k)) k))]) F hA hX (c0_differ l D q a u2 hI2 hv1 hw1 (by omega)) rfl rfl hG0_differ hd0_differ ⟨⟨rfl, rfl⟩, Nat.le_of_ble_eq_true rfl, Nat.le_of_ble_eq_true rfl⟩ rfl rfl hl.1 (Nat.le_of_ble_eq_true rfl) dX0_differing_36 ⟨Nat.zero_le _, Nat.zero_le _⟩ (fun r36 u3 H locs hw36 hX => ?_)
            have hu3 : u3.1 = u.1 := hw36.2.trans hu2
            refine lv_if_eq (tgt := 46) hx hb dX0_differing_39 (by decide) (fun c39 => ?_) (fun c39 => ?_)
            · refine lv_iconst (v := 0) hx hb dX0_differing_46 (by decide) ?_
              refine lv_iadd hx hb dX0_differing_47 ?_
              refine pm_top (y := nI (pm_cnt (fun k => decide (b.2.2 v1 k ≠ b.2.2 w1 k)) (k + 1))) (by rw [pm_cnt_f (p := (fun k => decide (b.2.2 v1 k ≠ b.2.2 w1 k))) (by simpa using hw36.1.no c39), Int32.add_zero]) ?_
              refine lv_istore_n (lv' := [(3, .int (nI (pm_cnt (fun k => decide (b.2.2 v1 k ≠ b.2.2 w1 k)) (k + 1)))), (4, .int (nI k)), (0, .ref (q 0)), (1, .int (nI v1)), (2, .int (nI w1))]) hx hb dX0_differing_48 rfl hl (by decide) rfl (fun ls hl => ?_)
              refine lv_iinc (v := nI (k + 1)) (lv' := [(4, .int (nI (k + 1))), (3, .int (nI (pm_cnt (fun k => decide (b.2.2 v1 k ≠ b.2.2 w1 k)) (k + 1)))), (0, .ref (q 0)), (1, .int (nI v1)), (2, .int (nI w1))]) hx hb dX0_differing_49 hl (k := 1) rfl (nI_1 k) (by decide) rfl (fun ls hl => ?_)
              refine lv_goto (tgt := 23) hx hb dX0_differing_52 (by decide) ?_
              exact ih (k + 1) _ _ _ ls (by omega) hu3 hX (lv_sub hl [0, 1, 2, 3, 4] rfl)
            · refine lv_iconst (v := 1) hx hb dX0_differing_42 (by decide) ?_
              refine lv_goto (tgt := 47) hx hb dX0_differing_43 (by decide) ?_
              refine lv_iadd hx hb dX0_differing_47 ?_
              refine pm_top (y := nI (pm_cnt (fun k => decide (b.2.2 v1 k ≠ b.2.2 w1 k)) (k + 1))) (by rw [pm_cnt_t (p := (fun k => decide (b.2.2 v1 k ≠ b.2.2 w1 k))) (by simpa using hw36.1.yes c39)]; exact nI_1 _) ?_
              refine lv_istore_n (lv' := [(3, .int (nI (pm_cnt (fun k => decide (b.2.2 v1 k ≠ b.2.2 w1 k)) (k + 1)))), (4, .int (nI k)), (0, .ref (q 0)), (1, .int (nI v1)), (2, .int (nI w1))]) hx hb dX0_differing_48 rfl hl (by decide) rfl (fun ls hl => ?_)
              refine lv_iinc (v := nI (k + 1)) (lv' := [(4, .int (nI (k + 1))), (3, .int (nI (pm_cnt (fun k => decide (b.2.2 v1 k ≠ b.2.2 w1 k)) (k + 1)))), (0, .ref (q 0)), (1, .int (nI v1)), (2, .int (nI w1))]) hx hb dX0_differing_49 hl (k := 1) rfl (nI_1 k) (by decide) rfl (fun ls hl => ?_)
              refine lv_goto (tgt := 23) hx hb dX0_differing_52 (by decide) ?_
              exact ih (k + 1) _ _ _ ls (by omega) hu3 hX (lv_sub hl [0, 1, 2, 3, 4] rfl)
      exact loop 32 0 u _ _ ls (by omega) rfl hX (lv_sub hl [0, 1, 2, 3, 4] rfl)
    · have hw := hb10.no c13
      refine lv_iconst (v := (-1)) hx hb dX0_differing_16 (by decide) ?_
      exact hret (-1) u _ _ 17 ls hX (⟨(sp_differing_2 hw).symm, rfl⟩) (rfl) dX0_differing_17

set_option maxHeartbeats 4000000 in
set_option maxRecDepth 100000 in
theorem c0_changes (l : Launch) (D : va_G) (q : Nat → Nat) (a : Nat → ClassId) (u : pm_S0) {b : pm_AB} {ne : Nat} (hI : pm_R0 u.1 b ne) (k : Int32) : pm_Mi l yX0_changes cX0_changes 4 .int (pm_rm 3) D (pm_t0 a) (pm_w0 q a) [.ref (q 0), .int k] u (fun r u' => r = sp_changes b k ∧ u'.1 = u.1) := by
  refine pm_Mi_of (by decide) (Nat.le_of_ble_eq_true rfl) ?_
  intro p e s m below meth c A args Q ls F hA hret hX hl
  have hx := F.1
  have hb := F.2.1
  have hl : lv_has ls 4 [(0, .ref (q 0)), (1, .int k)] := hl
  have hn := hI.n40
  refine lv_iload_n hx hb dX0_changes_0 rfl (lv_at hl 1 rfl) ?_
  refine pm_calls (rest := []) F (c0_isKey l k) hG0_isKey hd0_isKey ⟨⟨rfl, rfl⟩, Nat.le_of_ble_eq_true rfl, Nat.le_of_ble_eq_true rfl⟩ rfl rfl hl.1 (Nat.le_of_ble_eq_true rfl) dX0_changes_1 ⟨Nat.zero_le _, Nat.zero_le _⟩ ?_
  refine lv_if_ne (tgt := 9) hx hb dX0_changes_4 (by decide) (fun c4 => ?_) (fun c4 => ?_)
  · have hk := (pm_bl_if _).yes c4
    obtain ⟨k1, hk1, rfl⟩ := sp_key_of hk
    refine lv_iconst (v := nI 0) hx hb dX0_changes_9 (by decide) ?_
    refine lv_istore_n (lv' := [(2, .int (nI 0)), (0, .ref (q 0)), (1, .int (nI k1))]) hx hb dX0_changes_10 rfl hl (by decide) rfl (fun ls hl => ?_)
    refine lv_iconst (v := nI 1) hx hb dX0_changes_11 (by decide) ?_
    refine lv_istore_n (lv' := [(3, .int (nI 1)), (2, .int (nI 0)), (0, .ref (q 0)), (1, .int (nI k1))]) hx hb dX0_changes_12 rfl hl (by decide) rfl (fun ls hl => ?_)
    have loop : ∀ (N v : Nat) (u2 : pm_S0) (H : Heap) (locs : List Loc) (ls : Array Slot), v + N = b.1 → 1 ≤ v → u2.1 = u.1 → pm_X D A s (pm_t0 a) (pm_w0 q a) u2 H locs → lv_has ls 4 [(3, .int (nI v)), (2, .int (nI (pm_cnt (fun v => decide (0 < v ∧ b.2.2 v k1 ≠ b.2.2 (b.2.1 v) k1)) v))), (0, .ref (q 0)), (1, .int (nI k1))] → W p l e (pm_rm 3) s m args below meth c H locs 0 0 Q (F0 m 13 ls []) := by
      intro N
      induction N with
      | zero =>
        intro v u2 H locs ls hv h1 hu2 hX hl
        have hI2 : pm_R0 u2.1 b ne := by rw [hu2]; exact hI
        refine lv_iload_n hx hb dX0_changes_13 rfl (lv_at hl 0 rfl) ?_
        refine lv_aload_n hx hb dX0_changes_14 rfl (lv_at hl 2 rfl) ?_
        refine x0_gcn F hX dX0_changes_15 ?_
        refine pm_top (y := nI b.1) (hI2.cn) ?_
        refine lv_icmp_ge (tgt := 50) hx hb dX0_changes_18 (by decide) (fun c18 => ?_) (fun c18 => ?_)
        · refine lv_iload_n hx hb dX0_changes_50 rfl (lv_at hl 1 rfl) ?_
          exact hret (nI (pm_cnt (fun v => decide (0 < v ∧ b.2.2 v k1 ≠ b.2.2 (b.2.1 v) k1)) v)) u2 _ _ 51 ls hX (⟨by rw [sp_changes_2 hk1, show v = b.1 by omega], hu2⟩) (rfl) dX0_changes_51
        · exact absurd (nI_le (by omega) (by omega)) c18
      | succ N ih =>
        intro v u2 H locs ls hv h1 hu2 hX hl
        have hI2 : pm_R0 u2.1 b ne := by rw [hu2]; exact hI
        have hpv := hI2.iv.2 v (by omega) (by omega)
        refine lv_iload_n hx hb dX0_changes_13 rfl (lv_at hl 0 rfl) ?_
        refine lv_aload_n hx hb dX0_changes_14 rfl (lv_at hl 2 rfl) ?_
        refine x0_gcn F hX dX0_changes_15 ?_
        refine pm_top (y := nI b.1) (hI2.cn) ?_
        refine lv_icmp_ge (tgt := 50) hx hb dX0_changes_18 (by decide) (fun c18 => ?_) (fun c18 => ?_)
        · exact absurd c18 (nI_ge (by omega) (by omega))
        · refine lv_iload_n hx hb dX0_changes_21 rfl (lv_at hl 1 rfl) ?_
          refine lv_aload_n hx hb dX0_changes_22 rfl (lv_at hl 2 rfl) ?_
          refine lv_iload_n hx hb dX0_changes_23 rfl (lv_at hl 0 rfl) ?_
          refine lv_aload_n hx hb dX0_changes_24 rfl (lv_at hl 2 rfl) ?_
          refine x0_gpa F hX dX0_changes_25 ?_
          refine lv_iload_n hx hb dX0_changes_28 rfl (lv_at hl 0 rfl) ?_
          refine x0_lpa F hX (by omega) dX0_changes_29 ?_
          refine pm_top (y := nI (b.2.1 v)) (hpv.1) ?_
          refine lv_iload_n hx hb dX0_changes_30 rfl (lv_at hl 3 rfl) ?_
          refine pm_calli (rest := [.int (nI (pm_cnt (fun v => decide (0 < v ∧ b.2.2 v k1 ≠ b.2.2 (b.2.1 v) k1)) v))]) F hA hX (c0_differ l D q a u2 hI2 (v := v) (w := b.2.1 v) (by omega) (by omega) hk1) rfl rfl hG0_differ hd0_differ ⟨⟨rfl, rfl⟩, Nat.le_of_ble_eq_true rfl, Nat.le_of_ble_eq_true rfl⟩ rfl rfl hl.1 (Nat.le_of_ble_eq_true rfl) dX0_changes_31 ⟨Nat.zero_le _, Nat.zero_le _⟩ (fun r31 u3 H locs hw31 hX => ?_)
          have hu3 : u3.1 = u.1 := hw31.2.trans hu2
          refine lv_if_eq (tgt := 41) hx hb dX0_changes_34 (by decide) (fun c34 => ?_) (fun c34 => ?_)
          · refine lv_iconst (v := 0) hx hb dX0_changes_41 (by decide) ?_
            refine lv_iadd hx hb dX0_changes_42 ?_
            refine pm_top (y := nI (pm_cnt (fun v => decide (0 < v ∧ b.2.2 v k1 ≠ b.2.2 (b.2.1 v) k1)) (v + 1))) (by rw [pm_cnt_f (p := (fun v => decide (0 < v ∧ b.2.2 v k1 ≠ b.2.2 (b.2.1 v) k1))) (fun z => (hw31.1.no c34) (of_decide_eq_true z).2), Int32.add_zero]) ?_
            refine lv_istore_n (lv' := [(2, .int (nI (pm_cnt (fun v => decide (0 < v ∧ b.2.2 v k1 ≠ b.2.2 (b.2.1 v) k1)) (v + 1)))), (3, .int (nI v)), (0, .ref (q 0)), (1, .int (nI k1))]) hx hb dX0_changes_43 rfl hl (by decide) rfl (fun ls hl => ?_)
            refine lv_iinc (v := nI (v + 1)) (lv' := [(3, .int (nI (v + 1))), (2, .int (nI (pm_cnt (fun v => decide (0 < v ∧ b.2.2 v k1 ≠ b.2.2 (b.2.1 v) k1)) (v + 1)))), (0, .ref (q 0)), (1, .int (nI k1))]) hx hb dX0_changes_44 hl (k := 1) rfl (nI_1 v) (by decide) rfl (fun ls hl => ?_)
            refine lv_goto (tgt := 13) hx hb dX0_changes_47 (by decide) ?_
            exact ih (v + 1) _ _ _ ls (by omega) (by omega) hu3 hX (lv_sub hl [0, 1, 2, 3] rfl)
          · refine lv_iconst (v := 1) hx hb dX0_changes_37 (by decide) ?_
            refine lv_goto (tgt := 42) hx hb dX0_changes_38 (by decide) ?_
            refine lv_iadd hx hb dX0_changes_42 ?_
            refine pm_top (y := nI (pm_cnt (fun v => decide (0 < v ∧ b.2.2 v k1 ≠ b.2.2 (b.2.1 v) k1)) (v + 1))) (by rw [pm_cnt_t (p := (fun v => decide (0 < v ∧ b.2.2 v k1 ≠ b.2.2 (b.2.1 v) k1))) (decide_eq_true ⟨by omega, hw31.1.yes c34⟩)]; exact nI_1 _) ?_
            refine lv_istore_n (lv' := [(2, .int (nI (pm_cnt (fun v => decide (0 < v ∧ b.2.2 v k1 ≠ b.2.2 (b.2.1 v) k1)) (v + 1)))), (3, .int (nI v)), (0, .ref (q 0)), (1, .int (nI k1))]) hx hb dX0_changes_43 rfl hl (by decide) rfl (fun ls hl => ?_)
            refine lv_iinc (v := nI (v + 1)) (lv' := [(3, .int (nI (v + 1))), (2, .int (nI (pm_cnt (fun v => decide (0 < v ∧ b.2.2 v k1 ≠ b.2.2 (b.2.1 v) k1)) (v + 1)))), (0, .ref (q 0)), (1, .int (nI k1))]) hx hb dX0_changes_44 hl (k := 1) rfl (nI_1 v) (by decide) rfl (fun ls hl => ?_)
            refine lv_goto (tgt := 13) hx hb dX0_changes_47 (by decide) ?_
            exact ih (v + 1) _ _ _ ls (by omega) (by omega) hu3 hX (lv_sub hl [0, 1, 2, 3] rfl)
    exact loop (b.1 - 1) 1 u _ _ ls (by have := hI.iv.1.1; omega) (Nat.le_refl 1) rfl hX (lv_sub hl [0, 1, 2, 3] rfl)
  · have hk := (pm_bl_if _).no c4
    refine lv_iconst (v := (-1)) hx hb dX0_changes_7 (by decide) ?_
    exact hret (-1) u _ _ 8 ls hX (⟨(sp_changes_1 hk).symm, rfl⟩) (rfl) dX0_changes_8

set_option maxHeartbeats 4000000 in
set_option maxRecDepth 100000 in
theorem c0_meet (l : Launch) (D : va_G) (q : Nat → Nat) (a : Nat → ClassId) (u : pm_S0) {b : pm_AB} {ne : Nat} (hI : pm_R0 u.1 b ne) (v w : Int32) : pm_Mi l yX0_meet cX0_meet 5 .int (pm_rm 1) D (pm_t0 a) (pm_w0 q a) [.ref (q 0), .int v, .int w] u (fun r u' => sp_meet b v w r ∧ u'.1 = u.1) := by
  refine pm_Mi_of (by decide) (Nat.le_of_ble_eq_true rfl) ?_
  intro p e s m below meth c A args Q ls F hA hret hX hl
  have hx := F.1
  have hb := F.2.1
  have hl : lv_has ls 5 [(0, .ref (q 0)), (1, .int v), (2, .int w)] := hl
  have hn := hI.n40
  refine lv_aload_n hx hb dX0_meet_0 rfl (lv_at hl 0 rfl) ?_
  refine lv_iload_n hx hb dX0_meet_1 rfl (lv_at hl 1 rfl) ?_
  refine pm_calli (rest := []) F hA hX (c0_isVersion l D q a u v) rfl rfl hG0_isVersion hd0_isVersion ⟨⟨rfl, rfl⟩, Nat.le_of_ble_eq_true rfl, Nat.le_of_ble_eq_true rfl⟩ rfl rfl hl.1 (Nat.le_of_ble_eq_true rfl) dX0_meet_2 ⟨Nat.zero_le _, Nat.zero_le _⟩ (fun r2 u2 H locs hw2 hX => ?_)
  rw [hw2.2] at hX
  have hb2 := hI.okv hw2.1
  refine lv_if_eq (tgt := 16) hx hb dX0_meet_5 (by decide) (fun c5 => ?_) (fun c5 => ?_)
  · have hv := hb2.no c5
    refine lv_iconst (v := (-1)) hx hb dX0_meet_16 (by decide) ?_
    exact hret (-1) u _ _ 17 ls hX (⟨sp_meet_1 hv, rfl⟩) (rfl) dX0_meet_17
  · have hv := hb2.yes c5
    obtain ⟨v1, hv1, rfl⟩ := sp_ok_of hn hv
    refine lv_aload_n hx hb dX0_meet_8 rfl (lv_at hl 0 rfl) ?_
    refine lv_iload_n hx hb dX0_meet_9 rfl (lv_at hl 2 rfl) ?_
    refine pm_calli (rest := []) F hA hX (c0_isVersion l D q a u w) rfl rfl hG0_isVersion hd0_isVersion ⟨⟨rfl, rfl⟩, Nat.le_of_ble_eq_true rfl, Nat.le_of_ble_eq_true rfl⟩ rfl rfl hl.1 (Nat.le_of_ble_eq_true rfl) dX0_meet_10 ⟨Nat.zero_le _, Nat.zero_le _⟩ (fun r10 u10 H locs hw10 hX => ?_)
    rw [hw10.2] at hX
    have hb10 := hI.okv hw10.1
    refine lv_if_ne (tgt := 18) hx hb dX0_meet_13 (by decide) (fun c13 => ?_) (fun c13 => ?_)
    · have hw := hb10.yes c13
      obtain ⟨w1, hw1, rfl⟩ := sp_ok_of hn hw
      refine lv_iload_n hx hb dX0_meet_18 rfl (lv_at hl 1 rfl) ?_
      refine lv_istore_n (lv' := [(3, .int (nI v1)), (0, .ref (q 0)), (1, .int (nI v1)), (2, .int (nI w1))]) hx hb dX0_meet_19 rfl hl (by decide) rfl (fun ls hl => ?_)
      refine lv_iconst (v := nI 0) hx hb dX0_meet_20 (by decide) ?_
      refine lv_istore (lv' := [(4, .int (nI 0)), (3, .int (nI v1)), (0, .ref (q 0)), (1, .int (nI v1)), (2, .int (nI w1))]) hx hb dX0_meet_21 hl (by decide) rfl (fun ls hl => ?_)
      have hd := pm_dn_of hI.iv
      have loop : ∀ (N x i : Nat) (H : Heap) (locs : List Loc) (ls : Array Slot), x < N → x < b.1 → i + x ≤ v1 → pm_an b.2.1 x v1 = true → (∀ y, y < b.1 → pm_an b.2.1 y v1 = true → pm_an b.2.1 y w1 = true → y ≤ x) → pm_X D A s (pm_t0 a) (pm_w0 q a) u H locs → lv_has ls 5 [(4, .int (nI i)), (3, .int (nI x)), (0, .ref (q 0)), (1, .int (nI v1)), (2, .int (nI w1))] → W p l e (pm_rm 1) s m args below meth c H locs 0 0 Q (F0 m 23 ls []) := by
        intro N
        induction N with
        | zero => intro x i H locs ls hxN; omega
        | succ N ih =>
          intro x i H locs ls hxN hxb hi ha hmax hX hl
          refine lv_iload hx hb dX0_meet_23 (lv_at hl 0 rfl) ?_
          refine lv_bipush (v := nI 40) hx hb dX0_meet_25 (by decide) ?_
          refine lv_icmp_ge (tgt := 52) hx hb dX0_meet_27 (by decide) (fun c27 => ?_) (fun c27 => ?_)
          · exact absurd c27 (nI_ge (by omega) (by omega))
          · refine lv_aload_n hx hb dX0_meet_30 rfl (lv_at hl 2 rfl) ?_
            refine lv_iload_n hx hb dX0_meet_31 rfl (lv_at hl 1 rfl) ?_
            refine lv_iload_n hx hb dX0_meet_32 rfl (lv_at hl 4 rfl) ?_
            refine pm_calli (rest := []) F hA hX (c0_isAncestor l D q a u hn hI.iv.2 hxb hw1) rfl rfl hG0_isAncestor hd0_isAncestor ⟨⟨rfl, rfl⟩, Nat.le_of_ble_eq_true rfl, Nat.le_of_ble_eq_true rfl⟩ rfl rfl hl.1 (Nat.le_of_ble_eq_true rfl) dX0_meet_33 ⟨Nat.zero_le _, Nat.zero_le _⟩ (fun r33 u33 H locs hw33 hX => ?_)
            rw [hw33.2] at hX
            refine lv_if_ne (tgt := 52) hx hb dX0_meet_36 (by decide) (fun c36 => ?_) (fun c36 => ?_)
            · refine lv_iload_n hx hb dX0_meet_52 rfl (lv_at hl 1 rfl) ?_
              exact hret (nI x) u _ _ 53 ls hX (⟨sp_meet_3 hn hv1 hw1 hxb ha (hw33.1.yes c36) hmax, rfl⟩) (rfl) dX0_meet_53
            · have hna := hw33.1.no c36
              have hx0 : 0 < x := by
                rcases Nat.eq_zero_or_pos x with z | z
                · exact absurd (by rw [z]; exact pm_an_zero hn hd w1 hw1) hna
                · exact z
              have hpx := hI.iv.2 x hx0 hxb
              refine lv_aload_n hx hb dX0_meet_39 rfl (lv_at hl 2 rfl) ?_
              refine x0_gpa F hX dX0_meet_40 ?_
              refine lv_iload_n hx hb dX0_meet_43 rfl (lv_at hl 1 rfl) ?_
              refine x0_lpa F hX (by omega) dX0_meet_44 ?_
              refine pm_top (y := nI (b.2.1 x)) (hpx.1) ?_
              refine lv_istore_n (lv' := [(3, .int (nI (b.2.1 x))), (4, .int (nI i)), (0, .ref (q 0)), (1, .int (nI v1)), (2, .int (nI w1))]) hx hb dX0_meet_45 rfl hl (by decide) rfl (fun ls hl => ?_)
              refine lv_iinc (v := nI (i + 1)) (lv' := [(4, .int (nI (i + 1))), (3, .int (nI (b.2.1 x))), (0, .ref (q 0)), (1, .int (nI v1)), (2, .int (nI w1))]) hx hb dX0_meet_46 hl (k := 1) rfl (nI_1 i) (by decide) rfl (fun ls hl => ?_)
              refine lv_goto (tgt := 23) hx hb dX0_meet_49 (by decide) ?_
              refine ih (b.2.1 x) (i + 1) _ _ ls (by omega) (by omega) (by omega) ?_ ?_ hX (lv_sub hl [0, 1, 2, 3, 4] rfl)
              · exact pm_an_trans hn hd (by rw [pm_an_up hn hd hpx.2 hxb]; exact pm_an_self _ _) v1 hv1 ha
              · intro y hy h1 h2
                have hle := hmax y hy h1 h2
                have hne : y ≠ x := fun z => hna (by rw [← z]; exact h2)
                have h3 := pm_an_cmp hn hd hle v1 hv1 h1 ha
                rw [pm_an_up hn hd (by omega) hxb] at h3
                exact pm_an_le h3
      exact loop (v1 + 1) v1 0 _ _ ls (by omega) hv1 (by omega) (pm_an_self _ _) (fun y _ h _ => pm_an_le h) hX (lv_sub hl [0, 1, 2, 3, 4] rfl)
    · have hw := hb10.no c13
      refine lv_iconst (v := (-1)) hx hb dX0_meet_16 (by decide) ?_
      exact hret (-1) u _ _ 17 ls hX (⟨sp_meet_2 hw, rfl⟩) (rfl) dX0_meet_17
end
section
/-! ===== PersistentMap: next, previous, select, sum, family, spread ===== -/
set_option maxHeartbeats 4000000 in
set_option maxRecDepth 100000 in
theorem c0_next (l : Launch) (D : va_G) (q : Nat → Nat) (a : Nat → ClassId) (u : pm_S0) {b : pm_AB} {ne : Nat} (hI : pm_R0 u.1 b ne) (v f : Int32) : pm_Mi l yX0_next cX0_next 4 .int (pm_rm 2) D (pm_t0 a) (pm_w0 q a) [.ref (q 0), .int v, .int f] u (fun r u' => sp_next b v f r ∧ u'.1 = u.1) := by
  refine pm_Mi_of (by decide) (Nat.le_of_ble_eq_true rfl) ?_
  intro p e s m below meth c A args Q ls F hA hret hX hl
  have hx := F.1
  have hb := F.2.1
  have hl : lv_has ls 4 [(0, .ref (q 0)), (1, .int v), (2, .int f)] := hl
  have hn := hI.n40
  refine lv_aload_n hx hb dX0_next_0 rfl (lv_at hl 0 rfl) ?_
  refine lv_iload_n hx hb dX0_next_1 rfl (lv_at hl 1 rfl) ?_
  refine pm_calli (rest := []) F hA hX (c0_isVersion l D q a u v) rfl rfl hG0_isVersion hd0_isVersion ⟨⟨rfl, rfl⟩, Nat.le_of_ble_eq_true rfl, Nat.le_of_ble_eq_true rfl⟩ rfl rfl hl.1 (Nat.le_of_ble_eq_true rfl) dX0_next_2 ⟨Nat.zero_le _, Nat.zero_le _⟩ (fun r2 u2 H locs hw2 hX => ?_)
  rw [hw2.2] at hX
  have hb2 := hI.okv hw2.1
  refine lv_if_ne (tgt := 10) hx hb dX0_next_5 (by decide) (fun c5 => ?_) (fun c5 => ?_)
  · have hv := hb2.yes c5
    obtain ⟨v1, hv1, rfl⟩ := sp_ok_of hn hv
    have loop : ∀ (N k : Nat) (u2 : pm_S0) (H : Heap) (locs : List Loc) (ls : Array Slot), 32 ≤ k + N → k < 2 ^ 31 → f ≤ nI k → (∀ j, j < k → j < 32 → ¬ (f ≤ nI j ∧ (b.2.2 v1 j).isSome = true)) → u2.1 = u.1 → pm_X D A s (pm_t0 a) (pm_w0 q a) u2 H locs → lv_has ls 4 [(3, .int (nI k)), (0, .ref (q 0)), (1, .int (nI v1)), (2, .int f)] → W p l e (pm_rm 2) s m args below meth c H locs 0 0 Q (F0 m 20 ls []) := by
      intro N
      induction N with
      | zero =>
        intro k u2 H locs ls hk hk3 hf hj hu2 hX hl
        refine lv_iload_n hx hb dX0_next_20 rfl (lv_at hl 0 rfl) ?_
        refine lv_bipush (v := nI 32) hx hb dX0_next_21 (by decide) ?_
        refine lv_icmp_ge (tgt := 47) hx hb dX0_next_23 (by decide) (fun c23 => ?_) (fun c23 => ?_)
        · refine lv_bipush (v := (-2)) hx hb dX0_next_47 (by decide) ?_
          exact hret (-2) u2 _ _ 49 ls hX (⟨sp_next_2 hn hv1 (Or.inr ⟨fun j hj2 => hj j (by omega) hj2, rfl⟩), hu2⟩) (rfl) dX0_next_49
        · exact absurd (nI_le (by omega) (by omega)) c23
      | succ N ih =>
        intro k u2 H locs ls hk hk3 hf hj hu2 hX hl
        have hI2 : pm_R0 u2.1 b ne := by rw [hu2]; exact hI
        refine lv_iload_n hx hb dX0_next_20 rfl (lv_at hl 0 rfl) ?_
        refine lv_bipush (v := nI 32) hx hb dX0_next_21 (by decide) ?_
        refine lv_icmp_ge (tgt := 47) hx hb dX0_next_23 (by decide) (fun c23 => ?_) (fun c23 => ?_)
        · have hk2 : 32 ≤ k := (nI_leI (by omega) (by omega)).mp c23
          refine lv_bipush (v := (-2)) hx hb dX0_next_47 (by decide) ?_
          exact hret (-2) u2 _ _ 49 ls hX (⟨sp_next_2 hn hv1 (Or.inr ⟨fun j hj2 => hj j (by omega) hj2, rfl⟩), hu2⟩) (rfl) dX0_next_49
        · have hk2 : k < 32 := by
            rcases Nat.lt_or_ge k 32 with z | z
            · exact z
            · exact absurd (nI_le z (by omega)) c23
          refine lv_aload_n hx hb dX0_next_26 rfl (lv_at hl 1 rfl) ?_
          refine lv_iload_n hx hb dX0_next_27 rfl (lv_at hl 2 rfl) ?_
          refine lv_iload_n hx hb dX0_next_28 rfl (lv_at hl 0 rfl) ?_
          refine pm_callv (rest := []) F hA hX (c0_look l D q a u2 (hI2) hv1 hk2) rfl rfl hG0_look hd0_look ⟨⟨rfl, rfl⟩, Nat.le_of_ble_eq_true rfl, Nat.le_of_ble_eq_true rfl⟩ rfl rfl hl.1 (Nat.le_of_ble_eq_true rfl) dX0_next_29 ⟨Nat.zero_le _, Nat.zero_le _⟩ (fun u29 H locs hw29 hX => ?_)
          rw [hw29] at hX
          refine lv_aload_n hx hb dX0_next_32 rfl (lv_at hl 1 rfl) ?_
          refine x0_gtn F hX dX0_next_33 ?_
          refine pm_top (y := pm_on (b.2.2 v1 k)) (rfl) ?_
          refine lv_if_eq (tgt := 41) hx hb dX0_next_36 (by decide) (fun c36 => ?_) (fun c36 => ?_)
          · refine lv_iinc (v := nI (k + 1)) (lv' := [(3, .int (nI (k + 1))), (0, .ref (q 0)), (1, .int (nI v1)), (2, .int f)]) hx hb dX0_next_41 hl (k := 0) rfl (nI_1 k) (by decide) rfl (fun ls hl => ?_)
            refine lv_goto (tgt := 20) hx hb dX0_next_44 (by decide) ?_
            refine ih (k + 1) (u2.1, pm_on (b.2.2 v1 k), (b.2.2 v1 k).getD 0) _ _ ls (by omega) (by omega) (Int32.le_trans hf (nI_le (by omega) (by omega))) ?_ hu2 hX (lv_sub hl [0, 1, 2, 3] rfl)
            intro j h1 h2
            rcases Nat.lt_or_ge j k with z | z
            · exact hj j z h2
            · rw [show j = k by omega]; exact fun y => pm_on_n c36 y.2
          · refine lv_iload_n hx hb dX0_next_39 rfl (lv_at hl 0 rfl) ?_
            exact hret (nI k) (u2.1, pm_on (b.2.2 v1 k), (b.2.2 v1 k).getD 0) _ _ 40 ls hX (⟨sp_next_2 hn hv1 (Or.inl ⟨k, hk2, ⟨hf, pm_on_y c36⟩, fun j hj2 => hj j hj2 (by omega), rfl⟩), hu2⟩) (rfl) dX0_next_40
    refine lv_iload_n hx hb dX0_next_10 rfl (lv_at hl 2 rfl) ?_
    refine lv_if_ge (tgt := 18) hx hb dX0_next_11 (by decide) (fun c11 => ?_) (fun c11 => ?_)
    · obtain ⟨f1, hf1, hf2⟩ := pm_of_nn c11
      refine lv_iload_n hx hb dX0_next_18 rfl (lv_at hl 2 rfl) ?_
      refine lv_istore_n (lv' := [(3, .int f), (0, .ref (q 0)), (1, .int (nI v1)), (2, .int f)]) hx hb dX0_next_19 rfl hl (by decide) rfl (fun ls hl => ?_)
      exact loop 32 f1 u _ _ ls (by omega) hf1 (by rw [hf2]; exact Int32.le_refl _) (fun j h1 h2 z => nI_ge h1 hf1 (by rw [← hf2]; exact z.1)) rfl hX (by rw [← hf2]; exact lv_sub hl [0, 1, 2, 3] rfl)
    · refine lv_iconst (v := nI 0) hx hb dX0_next_14 (by decide) ?_
      refine lv_goto (tgt := 19) hx hb dX0_next_15 (by decide) ?_
      refine lv_istore_n (lv' := [(3, .int (nI 0)), (0, .ref (q 0)), (1, .int (nI v1)), (2, .int f)]) hx hb dX0_next_19 rfl hl (by decide) rfl (fun ls hl => ?_)
      exact loop 32 0 u _ _ ls (by omega) (by omega) (Int32.le_of_lt (Int32.not_le.mp c11)) (fun j h => by omega) rfl hX (lv_sub hl [0, 1, 2, 3] rfl)
  · have hv := hb2.no c5
    refine lv_iconst (v := (-1)) hx hb dX0_next_8 (by decide) ?_
    exact hret (-1) u _ _ 9 ls hX (⟨sp_next_1 hv, rfl⟩) (rfl) dX0_next_9

set_option maxHeartbeats 4000000 in
set_option maxRecDepth 100000 in
theorem c0_previous (l : Launch) (D : va_G) (q : Nat → Nat) (a : Nat → ClassId) (u : pm_S0) {b : pm_AB} {ne : Nat} (hI : pm_R0 u.1 b ne) (v t : Int32) : pm_Mi l yX0_previous cX0_previous 4 .int (pm_rm 2) D (pm_t0 a) (pm_w0 q a) [.ref (q 0), .int v, .int t] u (fun r u' => sp_previous b v t r ∧ u'.1 = u.1) := by
  refine pm_Mi_of (by decide) (Nat.le_of_ble_eq_true rfl) ?_
  intro p e s m below meth c A args Q ls F hA hret hX hl
  have hx := F.1
  have hb := F.2.1
  have hl : lv_has ls 4 [(0, .ref (q 0)), (1, .int v), (2, .int t)] := hl
  have hn := hI.n40
  refine lv_aload_n hx hb dX0_previous_0 rfl (lv_at hl 0 rfl) ?_
  refine lv_iload_n hx hb dX0_previous_1 rfl (lv_at hl 1 rfl) ?_
  refine pm_calli (rest := []) F hA hX (c0_isVersion l D q a u v) rfl rfl hG0_isVersion hd0_isVersion ⟨⟨rfl, rfl⟩, Nat.le_of_ble_eq_true rfl, Nat.le_of_ble_eq_true rfl⟩ rfl rfl hl.1 (Nat.le_of_ble_eq_true rfl) dX0_previous_2 ⟨Nat.zero_le _, Nat.zero_le _⟩ (fun r2 u2 H locs hw2 hX => ?_)
  rw [hw2.2] at hX
  have hb2 := hI.okv hw2.1
  refine lv_if_ne (tgt := 10) hx hb dX0_previous_5 (by decide) (fun c5 => ?_) (fun c5 => ?_)
  · have hv := hb2.yes c5
    obtain ⟨v1, hv1, rfl⟩ := sp_ok_of hn hv
    have loop : ∀ (k : Nat) (u2 : pm_S0) (H : Heap) (locs : List Loc) (ls : Array Slot), k ≤ 32 → (∀ j, j < k → nI j ≤ t) → (∀ j, k ≤ j → j < 32 → ¬ (nI j ≤ t ∧ (b.2.2 v1 j).isSome = true)) → u2.1 = u.1 → pm_X D A s (pm_t0 a) (pm_w0 q a) u2 H locs → lv_has ls 4 [(3, .int (nI k + (-1))), (0, .ref (q 0)), (1, .int (nI v1)), (2, .int t)] → W p l e (pm_rm 2) s m args below meth c H locs 0 0 Q (F0 m 23 ls []) := by
      intro k
      induction k with
      | zero =>
        intro u2 H locs ls hk ht hj hu2 hX hl
        refine lv_iload_n hx hb dX0_previous_23 rfl (lv_at hl 0 rfl) ?_
        refine lv_if_lt (tgt := 48) hx hb dX0_previous_24 (by decide) (fun c24 => ?_) (fun c24 => ?_)
        · refine lv_bipush (v := (-2)) hx hb dX0_previous_48 (by decide) ?_
          exact hret (-2) u2 _ _ 50 ls hX (⟨sp_previous_2 hn hv1 (Or.inr ⟨fun j hj2 => hj j (by omega) hj2, rfl⟩), hu2⟩) (rfl) dX0_previous_50
        · exact absurd (show nI 0 + (-1) < 0 by decide) c24
      | succ k ih =>
        intro u2 H locs ls hk ht hj hu2 hX hl
        have hI2 : pm_R0 u2.1 b ne := by rw [hu2]; exact hI
        refine lv_iload_n hx hb dX0_previous_23 rfl (lv_at hl 0 rfl) ?_
        refine pm_top (y := nI k) (pk_m1 k) ?_
        refine lv_if_lt (tgt := 48) hx hb dX0_previous_24 (by decide) (fun c24 => ?_) (fun c24 => ?_)
        · exact absurd c24 (nI_pos (by omega))
        · refine lv_aload_n hx hb dX0_previous_27 rfl (lv_at hl 1 rfl) ?_
          refine lv_iload_n hx hb dX0_previous_28 rfl (lv_at hl 2 rfl) ?_
          refine lv_iload_n hx hb dX0_previous_29 rfl (lv_at hl 0 rfl) ?_
          refine pm_top (y := nI k) (pk_m1 k) ?_
          refine pm_callv (rest := []) F hA hX (c0_look l D q a u2 (hI2) hv1 (by omega)) rfl rfl hG0_look hd0_look ⟨⟨rfl, rfl⟩, Nat.le_of_ble_eq_true rfl, Nat.le_of_ble_eq_true rfl⟩ rfl rfl hl.1 (Nat.le_of_ble_eq_true rfl) dX0_previous_30 ⟨Nat.zero_le _, Nat.zero_le _⟩ (fun u30 H locs hw30 hX => ?_)
          rw [hw30] at hX
          refine lv_aload_n hx hb dX0_previous_33 rfl (lv_at hl 1 rfl) ?_
          refine x0_gtn F hX dX0_previous_34 ?_
          refine pm_top (y := pm_on (b.2.2 v1 k)) (rfl) ?_
          refine lv_if_eq (tgt := 42) hx hb dX0_previous_37 (by decide) (fun c37 => ?_) (fun c37 => ?_)
          · refine lv_iinc (v := nI k + (-1)) (lv' := [(3, .int (nI k + (-1))), (0, .ref (q 0)), (1, .int (nI v1)), (2, .int t)]) hx hb dX0_previous_42 hl (k := 0) rfl (by rw [pk_m1]; rfl) (by decide) rfl (fun ls hl => ?_)
            refine lv_goto (tgt := 23) hx hb dX0_previous_45 (by decide) ?_
            refine ih (u2.1, pm_on (b.2.2 v1 k), (b.2.2 v1 k).getD 0) _ _ ls (by omega) (fun j h => ht j (by omega)) ?_ hu2 hX (lv_sub hl [0, 1, 2, 3] rfl)
            intro j h1 h2
            rcases Nat.lt_or_ge k j with z | z
            · exact hj j (by omega) h2
            · rw [show j = k by omega]; exact fun y => pm_on_n c37 y.2
          · refine lv_iload_n hx hb dX0_previous_40 rfl (lv_at hl 0 rfl) ?_
            refine pm_top (y := nI k) (pk_m1 k) ?_
            exact hret (nI k) (u2.1, pm_on (b.2.2 v1 k), (b.2.2 v1 k).getD 0) _ _ 41 ls hX (⟨sp_previous_2 hn hv1 (Or.inl ⟨k, by omega, ⟨ht k (by omega), pm_on_y c37⟩, fun j h1 h2 => hj j (by omega) h2, rfl⟩), hu2⟩) (rfl) dX0_previous_41
    refine lv_iload_n hx hb dX0_previous_10 rfl (lv_at hl 2 rfl) ?_
    refine lv_bipush (v := nI 32) hx hb dX0_previous_11 (by decide) ?_
    refine lv_icmp_lt (tgt := 21) hx hb dX0_previous_13 (by decide) (fun c13 => ?_) (fun c13 => ?_)
    · refine lv_iload_n hx hb dX0_previous_21 rfl (lv_at hl 2 rfl) ?_
      refine lv_istore_n (lv' := [(3, .int t), (0, .ref (q 0)), (1, .int (nI v1)), (2, .int t)]) hx hb dX0_previous_22 rfl hl (by decide) rfl (fun ls hl => ?_)
      by_cases c0 : t < 0
      · refine lv_iload_n hx hb dX0_previous_23 rfl (lv_at hl 0 rfl) ?_
        refine lv_if_lt (tgt := 48) hx hb dX0_previous_24 (by decide) (fun c24 => ?_) (fun c24 => ?_)
        · refine lv_bipush (v := (-2)) hx hb dX0_previous_48 (by decide) ?_
          exact hret (-2) u _ _ 50 ls hX (⟨sp_previous_2 hn hv1 (Or.inr ⟨fun j hj2 z => absurd (Int32.lt_of_le_of_lt z.1 c0) (nI_pos (by omega)), rfl⟩), rfl⟩) (rfl) dX0_previous_50
        · exact absurd c0 c24
      · obtain ⟨t1, ht1, ht2⟩ := pm_of_nn (pm_nneg c0)
        have ht3 : t1 < 32 := (nI_ltI ht1 (by decide)).mp (by rw [← ht2]; exact c13)
        refine loop (t1 + 1) u _ _ ls (by omega) (fun j h => by rw [ht2]; exact nI_le (by omega) (by omega)) (fun j h1 h2 z => nI_ge (a := t1) (b := j) (by omega) (by omega) (by rw [← ht2]; exact z.1)) rfl hX ?_
        rw [pk_m1, ← ht2]
        exact lv_sub hl [0, 1, 2, 3] rfl
    · refine lv_bipush (v := nI 31) hx hb dX0_previous_16 (by decide) ?_
      refine lv_goto (tgt := 22) hx hb dX0_previous_18 (by decide) ?_
      refine lv_istore_n (lv' := [(3, .int (nI 31)), (0, .ref (q 0)), (1, .int (nI v1)), (2, .int t)]) hx hb dX0_previous_22 rfl hl (by decide) rfl (fun ls hl => ?_)
      refine loop 32 u _ _ ls (by omega) (fun j h => Int32.le_trans (nI_le (b := 32) (by omega) (by decide)) (Int32.not_lt.mp c13)) (fun j h1 h2 => by omega) rfl hX ?_
      rw [show nI 32 + (-1) = nI 31 by decide]
      exact lv_sub hl [0, 1, 2, 3] rfl
  · have hv := hb2.no c5
    refine lv_iconst (v := (-1)) hx hb dX0_previous_8 (by decide) ?_
    exact hret (-1) u _ _ 9 ls hX (⟨sp_previous_1 hv, rfl⟩) (rfl) dX0_previous_9

set_option maxHeartbeats 4000000 in
set_option maxRecDepth 100000 in
theorem c0_select (l : Launch) (D : va_G) (q : Nat → Nat) (a : Nat → ClassId) (u : pm_S0) {b : pm_AB} {ne : Nat} (hI : pm_R0 u.1 b ne) (v f : Int32) : pm_Mi l yX0_select cX0_select 5 .int (pm_rm 2) D (pm_t0 a) (pm_w0 q a) [.ref (q 0), .int v, .int f] u (fun r u' => sp_select b v f r ∧ u'.1 = u.1) := by
  refine pm_Mi_of (by decide) (Nat.le_of_ble_eq_true rfl) ?_
  intro p e s m below meth c A args Q ls F hA hret hX hl
  have hx := F.1
  have hb := F.2.1
  have hl : lv_has ls 5 [(0, .ref (q 0)), (1, .int v), (2, .int f)] := hl
  have hn := hI.n40
  refine lv_aload_n hx hb dX0_select_0 rfl (lv_at hl 0 rfl) ?_
  refine lv_iload_n hx hb dX0_select_1 rfl (lv_at hl 1 rfl) ?_
  refine pm_calli (rest := []) F hA hX (c0_isVersion l D q a u v) rfl rfl hG0_isVersion hd0_isVersion ⟨⟨rfl, rfl⟩, Nat.le_of_ble_eq_true rfl, Nat.le_of_ble_eq_true rfl⟩ rfl rfl hl.1 (Nat.le_of_ble_eq_true rfl) dX0_select_2 ⟨Nat.zero_le _, Nat.zero_le _⟩ (fun r2 u2 H locs hw2 hX => ?_)
  rw [hw2.2] at hX
  have hb2 := hI.okv hw2.1
  refine lv_if_ne (tgt := 10) hx hb dX0_select_5 (by decide) (fun c5 => ?_) (fun c5 => ?_)
  · have hv := hb2.yes c5
    obtain ⟨v1, hv1, rfl⟩ := sp_ok_of hn hv
    refine lv_iload_n hx hb dX0_select_10 rfl (lv_at hl 2 rfl) ?_
    refine lv_istore_n (lv' := [(3, .int f), (0, .ref (q 0)), (1, .int (nI v1)), (2, .int f)]) hx hb dX0_select_11 rfl hl (by decide) rfl (fun ls hl => ?_)
    refine lv_iconst (v := nI 0) hx hb dX0_select_12 (by decide) ?_
    refine lv_istore (lv' := [(4, .int (nI 0)), (3, .int f), (0, .ref (q 0)), (1, .int (nI v1)), (2, .int f)]) hx hb dX0_select_13 hl (by decide) rfl (fun ls hl => ?_)
    have loop : ∀ (N k : Nat) (u2 : pm_S0) (H : Heap) (locs : List Loc) (ls : Array Slot), k + N = 32 → (∀ j, j < k → ¬ ((b.2.2 v1 j).isSome = true ∧ nI (pm_cnt (fun k => (b.2.2 v1 k).isSome) j) = f)) → u2.1 = u.1 → pm_X D A s (pm_t0 a) (pm_w0 q a) u2 H locs → lv_has ls 5 [(4, .int (nI k)), (3, .int (f - nI (pm_cnt (fun k => (b.2.2 v1 k).isSome) k))), (0, .ref (q 0)), (1, .int (nI v1)), (2, .int f)] → W p l e (pm_rm 2) s m args below meth c H locs 0 0 Q (F0 m 15 ls []) := by
      intro N
      induction N with
      | zero =>
        intro k u2 H locs ls hk hj hu2 hX hl
        refine lv_iload hx hb dX0_select_15 (lv_at hl 0 rfl) ?_
        refine lv_bipush (v := nI 32) hx hb dX0_select_17 (by decide) ?_
        refine lv_icmp_ge (tgt := 52) hx hb dX0_select_19 (by decide) (fun c19 => ?_) (fun c19 => ?_)
        · refine lv_bipush (v := (-2)) hx hb dX0_select_52 (by decide) ?_
          exact hret (-2) u2 _ _ 54 ls hX (⟨sp_select_2 hn hv1 (Or.inr ⟨fun j hj2 => hj j (by omega), rfl⟩), hu2⟩) (rfl) dX0_select_54
        · exact absurd (nI_le (by omega) (by omega)) c19
      | succ N ih =>
        intro k u2 H locs ls hk hj hu2 hX hl
        have hI2 : pm_R0 u2.1 b ne := by rw [hu2]; exact hI
        refine lv_iload hx hb dX0_select_15 (lv_at hl 0 rfl) ?_
        refine lv_bipush (v := nI 32) hx hb dX0_select_17 (by decide) ?_
        refine lv_icmp_ge (tgt := 52) hx hb dX0_select_19 (by decide) (fun c19 => ?_) (fun c19 => ?_)
        · exact absurd c19 (nI_ge (by omega) (by omega))
        · refine lv_aload_n hx hb dX0_select_22 rfl (lv_at hl 2 rfl) ?_
          refine lv_iload_n hx hb dX0_select_23 rfl (lv_at hl 3 rfl) ?_
          refine lv_iload hx hb dX0_select_24 (lv_at hl 0 rfl) ?_
          refine pm_callv (rest := []) F hA hX (c0_look l D q a u2 (hI2) hv1 (by omega)) rfl rfl hG0_look hd0_look ⟨⟨rfl, rfl⟩, Nat.le_of_ble_eq_true rfl, Nat.le_of_ble_eq_true rfl⟩ rfl rfl hl.1 (Nat.le_of_ble_eq_true rfl) dX0_select_26 ⟨Nat.zero_le _, Nat.zero_le _⟩ (fun u26 H locs hw26 hX => ?_)
          rw [hw26] at hX
          refine lv_aload_n hx hb dX0_select_29 rfl (lv_at hl 2 rfl) ?_
          refine x0_gtn F hX dX0_select_30 ?_
          refine pm_top (y := pm_on (b.2.2 v1 k)) (rfl) ?_
          refine lv_if_eq (tgt := 46) hx hb dX0_select_33 (by decide) (fun c33 => ?_) (fun c33 => ?_)
          · refine lv_iinc (v := nI (k + 1)) (lv' := [(4, .int (nI (k + 1))), (3, .int (f - nI (pm_cnt (fun k => (b.2.2 v1 k).isSome) k))), (0, .ref (q 0)), (1, .int (nI v1)), (2, .int f)]) hx hb dX0_select_46 hl (k := 0) rfl (nI_1 k) (by decide) rfl (fun ls hl => ?_)
            refine lv_goto (tgt := 15) hx hb dX0_select_49 (by decide) ?_
            refine ih (k + 1) (u2.1, pm_on (b.2.2 v1 k), (b.2.2 v1 k).getD 0) _ _ ls (by omega) (pm_first_go hj (fun z => pm_on_n c33 z.1)) hu2 hX ?_
            rw [pm_cnt_f (p := (fun k => (b.2.2 v1 k).isSome)) (pm_on_n c33)]
            exact lv_sub hl [0, 1, 2, 3, 4] rfl
          · refine lv_iload_n hx hb dX0_select_36 rfl (lv_at hl 1 rfl) ?_
            refine lv_if_ne (tgt := 43) hx hb dX0_select_37 (by decide) (fun c37 => ?_) (fun c37 => ?_)
            · refine lv_iinc (v := f - nI (pm_cnt (fun k => (b.2.2 v1 k).isSome) (k + 1))) (lv' := [(3, .int (f - nI (pm_cnt (fun k => (b.2.2 v1 k).isSome) (k + 1)))), (4, .int (nI k)), (0, .ref (q 0)), (1, .int (nI v1)), (2, .int f)]) hx hb dX0_select_43 hl (k := 1) rfl (by rw [pm_cnt_t (p := (fun k => (b.2.2 v1 k).isSome)) (pm_on_y c33), ← pm_left]; rfl) (by decide) rfl (fun ls hl => ?_)
              refine lv_iinc (v := nI (k + 1)) (lv' := [(4, .int (nI (k + 1))), (3, .int (f - nI (pm_cnt (fun k => (b.2.2 v1 k).isSome) (k + 1)))), (0, .ref (q 0)), (1, .int (nI v1)), (2, .int f)]) hx hb dX0_select_46 hl (k := 1) rfl (nI_1 k) (by decide) rfl (fun ls hl => ?_)
              refine lv_goto (tgt := 15) hx hb dX0_select_49 (by decide) ?_
              exact ih (k + 1) (u2.1, pm_on (b.2.2 v1 k), (b.2.2 v1 k).getD 0) _ _ ls (by omega) (pm_first_go hj (fun z => c37 (pm_left0.mpr z.2))) hu2 hX (lv_sub hl [0, 1, 2, 3, 4] rfl)
            · refine lv_iload hx hb dX0_select_40 (lv_at hl 0 rfl) ?_
              exact hret (nI k) (u2.1, pm_on (b.2.2 v1 k), (b.2.2 v1 k).getD 0) _ _ 42 ls hX (⟨sp_select_2 hn hv1 (Or.inl ⟨k, by omega, ⟨pm_on_y c33, pm_left0.mp c37⟩, hj, rfl⟩), hu2⟩) (rfl) dX0_select_42
    refine loop 32 0 u _ _ ls (by omega) (fun j h => by omega) rfl hX ?_
    rw [show pm_cnt (fun k => (b.2.2 v1 k).isSome) 0 = 0 from rfl, nI_0, Int32.sub_zero]
    exact lv_sub hl [0, 1, 2, 3, 4] rfl
  · have hv := hb2.no c5
    refine lv_iconst (v := (-1)) hx hb dX0_select_8 (by decide) ?_
    exact hret (-1) u _ _ 9 ls hX (⟨sp_select_1 hv, rfl⟩) (rfl) dX0_select_9

set_option maxHeartbeats 4000000 in
set_option maxRecDepth 100000 in
theorem c0_sum (l : Launch) (D : va_G) (q : Nat → Nat) (a : Nat → ClassId) (u : pm_S0) {b : pm_AB} {ne : Nat} (hI : pm_R0 u.1 b ne) (v f t : Int32) : pm_Mi l yX0_sum cX0_sum 7 .int (pm_rm 2) D (pm_t0 a) (pm_w0 q a) [.ref (q 0), .int v, .int f, .int t] u (fun r u' => r = sp_sum b v f t ∧ u'.1 = u.1) := by
  refine pm_Mi_of (by decide) (Nat.le_of_ble_eq_true rfl) ?_
  intro p e s m below meth c A args Q ls F hA hret hX hl
  have hx := F.1
  have hb := F.2.1
  have hl : lv_has ls 7 [(0, .ref (q 0)), (1, .int v), (2, .int f), (3, .int t)] := hl
  have hn := hI.n40
  refine lv_aload_n hx hb dX0_sum_0 rfl (lv_at hl 0 rfl) ?_
  refine lv_iload_n hx hb dX0_sum_1 rfl (lv_at hl 1 rfl) ?_
  refine pm_calli (rest := []) F hA hX (c0_isVersion l D q a u v) rfl rfl hG0_isVersion hd0_isVersion ⟨⟨rfl, rfl⟩, Nat.le_of_ble_eq_true rfl, Nat.le_of_ble_eq_true rfl⟩ rfl rfl hl.1 (Nat.le_of_ble_eq_true rfl) dX0_sum_2 ⟨Nat.zero_le _, Nat.zero_le _⟩ (fun r2 u2 H locs hw2 hX => ?_)
  rw [hw2.2] at hX
  have hb2 := hI.okv hw2.1
  refine lv_if_ne (tgt := 10) hx hb dX0_sum_5 (by decide) (fun c5 => ?_) (fun c5 => ?_)
  · have hv := hb2.yes c5
    obtain ⟨v1, hv1, rfl⟩ := sp_ok_of hn hv
    have loop : ∀ (N k : Nat) (ed : Int32) (u2 : pm_S0) (H : Heap) (locs : List Loc) (ls : Array Slot), 32 ≤ k + N → k < 2 ^ 31 → f ≤ nI k → ed < nI 32 → (∀ j, j < 32 → (nI j ≤ ed ↔ nI j ≤ t)) → u2.1 = u.1 → pm_X D A s (pm_t0 a) (pm_w0 q a) u2 H locs → lv_has ls 7 [(6, .int (nI k)), (5, .int ed), (4, .int (pm_sum (fun k => if f ≤ nI k ∧ nI k ≤ t then (b.2.2 v1 k).getD 0 else 0) (min k 32))), (0, .ref (q 0)), (1, .int (nI v1)), (2, .int f), (3, .int t)] → W p l e (pm_rm 2) s m args below meth c H locs 0 0 Q (F0 m 38 ls []) := by
      intro N
      induction N with
      | zero =>
        intro k ed u2 H locs ls hk hk3 hf he1 he2 hu2 hX hl
        refine lv_iload hx hb dX0_sum_38 (lv_at hl 0 rfl) ?_
        refine lv_iload hx hb dX0_sum_40 (lv_at hl 1 rfl) ?_
        refine lv_icmp_gt (tgt := 78) hx hb dX0_sum_42 (by decide) (fun c42 => ?_) (fun c42 => ?_)
        · refine lv_iload hx hb dX0_sum_78 (lv_at hl 2 rfl) ?_
          exact hret (pm_sum (fun k => if f ≤ nI k ∧ nI k ≤ t then (b.2.2 v1 k).getD 0 else 0) (min k 32)) u2 _ _ 80 ls hX (⟨by
            rw [sp_sum_2 hn hv1]
            rcases Nat.lt_or_ge k 32 with z | z
            · rw [Nat.min_eq_left (by omega)]
              have := pm_sum_rest (f := (fun k => if f ≤ nI k ∧ nI k ≤ t then (b.2.2 v1 k).getD 0 else 0)) (m := k) (32 - k) (fun j h1 h2 => if_neg (fun y => by
                have y1 := (he2 j (by omega)).mpr y.2
                exact absurd (Int32.le_trans (nI_le h1 (by omega)) y1) (Int32.not_le.mpr c42)))
              rw [show k + (32 - k) = 32 by omega] at this
              exact this.symm
            · rw [Nat.min_eq_right z], hu2⟩) (rfl) dX0_sum_80
        · exact absurd (Int32.lt_of_lt_of_le he1 (nI_le (by omega) (by omega))) c42
      | succ N ih =>
        intro k ed u2 H locs ls hk hk3 hf he1 he2 hu2 hX hl
        have hI2 : pm_R0 u2.1 b ne := by rw [hu2]; exact hI
        refine lv_iload hx hb dX0_sum_38 (lv_at hl 0 rfl) ?_
        refine lv_iload hx hb dX0_sum_40 (lv_at hl 1 rfl) ?_
        refine lv_icmp_gt (tgt := 78) hx hb dX0_sum_42 (by decide) (fun c42 => ?_) (fun c42 => ?_)
        · refine lv_iload hx hb dX0_sum_78 (lv_at hl 2 rfl) ?_
          exact hret (pm_sum (fun k => if f ≤ nI k ∧ nI k ≤ t then (b.2.2 v1 k).getD 0 else 0) (min k 32)) u2 _ _ 80 ls hX (⟨by
            rw [sp_sum_2 hn hv1]
            rcases Nat.lt_or_ge k 32 with z | z
            · rw [Nat.min_eq_left (by omega)]
              have := pm_sum_rest (f := (fun k => if f ≤ nI k ∧ nI k ≤ t then (b.2.2 v1 k).getD 0 else 0)) (m := k) (32 - k) (fun j h1 h2 => if_neg (fun y => by
                have y1 := (he2 j (by omega)).mpr y.2
                exact absurd (Int32.le_trans (nI_le h1 (by omega)) y1) (Int32.not_le.mpr c42)))
              rw [show k + (32 - k) = 32 by omega] at this
              exact this.symm
            · rw [Nat.min_eq_right z], hu2⟩) (rfl) dX0_sum_80
        · have hk2 : k < 32 := (nI_ltI hk3 (by decide)).mp (Int32.lt_of_le_of_lt (Int32.not_lt.mp c42) he1)
          refine lv_aload_n hx hb dX0_sum_45 rfl (lv_at hl 3 rfl) ?_
          refine lv_iload_n hx hb dX0_sum_46 rfl (lv_at hl 4 rfl) ?_
          refine lv_iload hx hb dX0_sum_47 (lv_at hl 0 rfl) ?_
          refine pm_callv (rest := []) F hA hX (c0_look l D q a u2 (hI2) hv1 hk2) rfl rfl hG0_look hd0_look ⟨⟨rfl, rfl⟩, Nat.le_of_ble_eq_true rfl, Nat.le_of_ble_eq_true rfl⟩ rfl rfl hl.1 (Nat.le_of_ble_eq_true rfl) dX0_sum_49 ⟨Nat.zero_le _, Nat.zero_le _⟩ (fun u49 H locs hw49 hX => ?_)
          rw [hw49] at hX
          refine lv_iload hx hb dX0_sum_52 (lv_at hl 2 rfl) ?_
          refine lv_aload_n hx hb dX0_sum_54 rfl (lv_at hl 3 rfl) ?_
          refine x0_gtn F hX dX0_sum_55 ?_
          refine pm_top (y := pm_on (b.2.2 v1 k)) (rfl) ?_
          refine lv_if_eq (tgt := 68) hx hb dX0_sum_58 (by decide) (fun c58 => ?_) (fun c58 => ?_)
          · refine lv_iconst (v := 0) hx hb dX0_sum_68 (by decide) ?_
            refine lv_iadd hx hb dX0_sum_69 ?_
            refine pm_top (y := pm_sum (fun k => if f ≤ nI k ∧ nI k ≤ t then (b.2.2 v1 k).getD 0 else 0) (min (k + 1) 32)) (by rw [Nat.min_eq_left (by omega), Nat.min_eq_left (by omega)]; show _ = pm_sum (fun k => if f ≤ nI k ∧ nI k ≤ t then (b.2.2 v1 k).getD 0 else 0) k + (fun k => if f ≤ nI k ∧ nI k ≤ t then (b.2.2 v1 k).getD 0 else 0) k; rw [show (fun k => if f ≤ nI k ∧ nI k ≤ t then (b.2.2 v1 k).getD 0 else 0) k = (b.2.2 v1 k).getD 0 from if_pos ⟨hf, (he2 k hk2).mp (Int32.not_lt.mp c42)⟩]; rw [pm_on_0 c58]) ?_
            refine lv_istore (lv' := [(4, .int (pm_sum (fun k => if f ≤ nI k ∧ nI k ≤ t then (b.2.2 v1 k).getD 0 else 0) (min (k + 1) 32))), (6, .int (nI k)), (5, .int ed), (0, .ref (q 0)), (1, .int (nI v1)), (2, .int f), (3, .int t)]) hx hb dX0_sum_70 hl (by decide) rfl (fun ls hl => ?_)
            refine lv_iinc (v := nI (k + 1)) (lv' := [(6, .int (nI (k + 1))), (4, .int (pm_sum (fun k => if f ≤ nI k ∧ nI k ≤ t then (b.2.2 v1 k).getD 0 else 0) (min (k + 1) 32))), (5, .int ed), (0, .ref (q 0)), (1, .int (nI v1)), (2, .int f), (3, .int t)]) hx hb dX0_sum_72 hl (k := 1) rfl (nI_1 k) (by decide) rfl (fun ls hl => ?_)
            refine lv_goto (tgt := 38) hx hb dX0_sum_75 (by decide) ?_
            exact ih (k + 1) ed (u2.1, pm_on (b.2.2 v1 k), (b.2.2 v1 k).getD 0) _ _ ls (by omega) (by omega) (Int32.le_trans hf (nI_le (by omega) (by omega))) he1 he2 hu2 hX (lv_sub hl [0, 2, 1, 3, 4, 5, 6] rfl)
          · refine lv_aload_n hx hb dX0_sum_61 rfl (lv_at hl 3 rfl) ?_
            refine x0_gvn F hX dX0_sum_62 ?_
            refine pm_top (y := (b.2.2 v1 k).getD 0) (rfl) ?_
            refine lv_goto (tgt := 69) hx hb dX0_sum_65 (by decide) ?_
            refine lv_iadd hx hb dX0_sum_69 ?_
            refine pm_top (y := pm_sum (fun k => if f ≤ nI k ∧ nI k ≤ t then (b.2.2 v1 k).getD 0 else 0) (min (k + 1) 32)) (by rw [Nat.min_eq_left (by omega), Nat.min_eq_left (by omega)]; show _ = pm_sum (fun k => if f ≤ nI k ∧ nI k ≤ t then (b.2.2 v1 k).getD 0 else 0) k + (fun k => if f ≤ nI k ∧ nI k ≤ t then (b.2.2 v1 k).getD 0 else 0) k; rw [show (fun k => if f ≤ nI k ∧ nI k ≤ t then (b.2.2 v1 k).getD 0 else 0) k = (b.2.2 v1 k).getD 0 from if_pos ⟨hf, (he2 k hk2).mp (Int32.not_lt.mp c42)⟩]) ?_
            refine lv_istore (lv' := [(4, .int (pm_sum (fun k => if f ≤ nI k ∧ nI k ≤ t then (b.2.2 v1 k).getD 0 else 0) (min (k + 1) 32))), (6, .int (nI k)), (5, .int ed), (0, .ref (q 0)), (1, .int (nI v1)), (2, .int f), (3, .int t)]) hx hb dX0_sum_70 hl (by decide) rfl (fun ls hl => ?_)
            refine lv_iinc (v := nI (k + 1)) (lv' := [(6, .int (nI (k + 1))), (4, .int (pm_sum (fun k => if f ≤ nI k ∧ nI k ≤ t then (b.2.2 v1 k).getD 0 else 0) (min (k + 1) 32))), (5, .int ed), (0, .ref (q 0)), (1, .int (nI v1)), (2, .int f), (3, .int t)]) hx hb dX0_sum_72 hl (k := 1) rfl (nI_1 k) (by decide) rfl (fun ls hl => ?_)
            refine lv_goto (tgt := 38) hx hb dX0_sum_75 (by decide) ?_
            exact ih (k + 1) ed (u2.1, pm_on (b.2.2 v1 k), (b.2.2 v1 k).getD 0) _ _ ls (by omega) (by omega) (Int32.le_trans hf (nI_le (by omega) (by omega))) he1 he2 hu2 hX (lv_sub hl [0, 2, 1, 3, 4, 5, 6] rfl)
    refine lv_iconst (v := 0) hx hb dX0_sum_10 (by decide) ?_
    refine lv_istore (lv' := [(4, .int 0), (0, .ref (q 0)), (1, .int (nI v1)), (2, .int f), (3, .int t)]) hx hb dX0_sum_11 hl (by decide) rfl (fun ls hl => ?_)
    refine lv_iload_n hx hb dX0_sum_13 rfl (lv_at hl 4 rfl) ?_
    refine lv_bipush (v := nI 32) hx hb dX0_sum_14 (by decide) ?_
    refine lv_icmp_lt (tgt := 24) hx hb dX0_sum_16 (by decide) (fun c16 => ?_) (fun c16 => ?_)
    · refine lv_iload_n hx hb dX0_sum_24 rfl (lv_at hl 4 rfl) ?_
      refine lv_istore (lv' := [(5, .int t), (4, .int 0), (0, .ref (q 0)), (1, .int (nI v1)), (2, .int f), (3, .int t)]) hx hb dX0_sum_25 hl (by decide) rfl (fun ls hl => ?_)
      refine lv_iload_n hx hb dX0_sum_27 rfl (lv_at hl 4 rfl) ?_
      refine lv_if_ge (tgt := 35) hx hb dX0_sum_28 (by decide) (fun c28 => ?_) (fun c28 => ?_)
      · obtain ⟨f1, hf1, hf2⟩ := pm_of_nn c28
        refine lv_iload_n hx hb dX0_sum_35 rfl (lv_at hl 4 rfl) ?_
        refine lv_istore (lv' := [(6, .int f), (5, .int t), (4, .int 0), (0, .ref (q 0)), (1, .int (nI v1)), (2, .int f), (3, .int t)]) hx hb dX0_sum_36 hl (by decide) rfl (fun ls hl => ?_)
        refine loop 32 f1 t u _ _ ls (by omega) hf1 (by rw [hf2]; exact Int32.le_refl _) c16 (fun j h => Iff.rfl) rfl hX ?_
        rw [pm_sum_zero (f := (fun k => if f ≤ nI k ∧ nI k ≤ t then (b.2.2 v1 k).getD 0 else 0)) (fun j h => if_neg (fun z => nI_ge (a := j) (b := f1) (by omega) hf1 (by rw [← hf2]; exact z.1))), ← hf2]
        exact lv_sub hl [0, 1, 2, 3, 4, 5, 6] rfl
      · refine lv_iconst (v := nI 0) hx hb dX0_sum_31 (by decide) ?_
        refine lv_goto (tgt := 36) hx hb dX0_sum_32 (by decide) ?_
        refine lv_istore (lv' := [(6, .int (nI 0)), (5, .int t), (4, .int 0), (0, .ref (q 0)), (1, .int (nI v1)), (2, .int f), (3, .int t)]) hx hb dX0_sum_36 hl (by decide) rfl (fun ls hl => ?_)
        exact loop 32 0 t u _ _ ls (by omega) (by omega) (Int32.le_of_lt (Int32.not_le.mp c28)) c16 (fun j h => Iff.rfl) rfl hX (lv_sub hl [0, 1, 2, 3, 4, 5, 6] rfl)
    · refine lv_bipush (v := nI 31) hx hb dX0_sum_19 (by decide) ?_
      refine lv_goto (tgt := 25) hx hb dX0_sum_21 (by decide) ?_
      refine lv_istore (lv' := [(5, .int (nI 31)), (4, .int 0), (0, .ref (q 0)), (1, .int (nI v1)), (2, .int f), (3, .int t)]) hx hb dX0_sum_25 hl (by decide) rfl (fun ls hl => ?_)
      refine lv_iload_n hx hb dX0_sum_27 rfl (lv_at hl 4 rfl) ?_
      refine lv_if_ge (tgt := 35) hx hb dX0_sum_28 (by decide) (fun c28 => ?_) (fun c28 => ?_)
      · obtain ⟨f1, hf1, hf2⟩ := pm_of_nn c28
        refine lv_iload_n hx hb dX0_sum_35 rfl (lv_at hl 4 rfl) ?_
        refine lv_istore (lv' := [(6, .int f), (5, .int (nI 31)), (4, .int 0), (0, .ref (q 0)), (1, .int (nI v1)), (2, .int f), (3, .int t)]) hx hb dX0_sum_36 hl (by decide) rfl (fun ls hl => ?_)
        refine loop 32 f1 (nI 31) u _ _ ls (by omega) hf1 (by rw [hf2]; exact Int32.le_refl _) (by decide) (fun j h => ⟨fun _ => Int32.le_trans (nI_le (b := 32) (by omega) (by decide)) (Int32.not_lt.mp c16), fun _ => nI_le (by omega) (by decide)⟩) rfl hX ?_
        rw [pm_sum_zero (f := (fun k => if f ≤ nI k ∧ nI k ≤ t then (b.2.2 v1 k).getD 0 else 0)) (fun j h => if_neg (fun z => nI_ge (a := j) (b := f1) (by omega) hf1 (by rw [← hf2]; exact z.1))), ← hf2]
        exact lv_sub hl [0, 1, 2, 3, 4, 5, 6] rfl
      · refine lv_iconst (v := nI 0) hx hb dX0_sum_31 (by decide) ?_
        refine lv_goto (tgt := 36) hx hb dX0_sum_32 (by decide) ?_
        refine lv_istore (lv' := [(6, .int (nI 0)), (5, .int (nI 31)), (4, .int 0), (0, .ref (q 0)), (1, .int (nI v1)), (2, .int f), (3, .int t)]) hx hb dX0_sum_36 hl (by decide) rfl (fun ls hl => ?_)
        exact loop 32 0 (nI 31) u _ _ ls (by omega) (by omega) (Int32.le_of_lt (Int32.not_le.mp c28)) (by decide) (fun j h => ⟨fun _ => Int32.le_trans (nI_le (b := 32) (by omega) (by decide)) (Int32.not_lt.mp c16), fun _ => nI_le (by omega) (by decide)⟩) rfl hX (lv_sub hl [0, 1, 2, 3, 4, 5, 6] rfl)
  · have hv := hb2.no c5
    refine lv_iconst (v := 0) hx hb dX0_sum_8 (by decide) ?_
    exact hret 0 u _ _ 9 ls hX (⟨(sp_sum_1 hv).symm, rfl⟩) (rfl) dX0_sum_9

set_option maxHeartbeats 4000000 in
set_option maxRecDepth 100000 in
theorem c0_family (l : Launch) (D : va_G) (q : Nat → Nat) (a : Nat → ClassId) (u : pm_S0) {b : pm_AB} {ne : Nat} (hI : pm_R0 u.1 b ne) (v : Int32) : pm_Mi l yX0_family cX0_family 4 .int (pm_rm 1) D (pm_t0 a) (pm_w0 q a) [.ref (q 0), .int v] u (fun r u' => r = sp_family b v ∧ u'.1 = u.1) := by
  refine pm_Mi_of (by decide) (Nat.le_of_ble_eq_true rfl) ?_
  intro p e s m below meth c A args Q ls F hA hret hX hl
  have hx := F.1
  have hb := F.2.1
  have hl : lv_has ls 4 [(0, .ref (q 0)), (1, .int v)] := hl
  have hn := hI.n40
  refine lv_aload_n hx hb dX0_family_0 rfl (lv_at hl 0 rfl) ?_
  refine lv_iload_n hx hb dX0_family_1 rfl (lv_at hl 1 rfl) ?_
  refine pm_calli (rest := []) F hA hX (c0_isVersion l D q a u v) rfl rfl hG0_isVersion hd0_isVersion ⟨⟨rfl, rfl⟩, Nat.le_of_ble_eq_true rfl, Nat.le_of_ble_eq_true rfl⟩ rfl rfl hl.1 (Nat.le_of_ble_eq_true rfl) dX0_family_2 ⟨Nat.zero_le _, Nat.zero_le _⟩ (fun r2 u2 H locs hw2 hX => ?_)
  rw [hw2.2] at hX
  have hb2 := hI.okv hw2.1
  refine lv_if_ne (tgt := 10) hx hb dX0_family_5 (by decide) (fun c5 => ?_) (fun c5 => ?_)
  · have hv := hb2.yes c5
    obtain ⟨v1, hv1, rfl⟩ := sp_ok_of hn hv
    refine lv_iconst (v := nI 0) hx hb dX0_family_10 (by decide) ?_
    refine lv_istore_n (lv' := [(2, .int (nI 0)), (0, .ref (q 0)), (1, .int (nI v1))]) hx hb dX0_family_11 rfl hl (by decide) rfl (fun ls hl => ?_)
    refine lv_iload_n hx hb dX0_family_12 rfl (lv_at hl 2 rfl) ?_
    refine lv_istore_n (lv' := [(3, .int (nI v1)), (2, .int (nI 0)), (0, .ref (q 0)), (1, .int (nI v1))]) hx hb dX0_family_13 rfl hl (by decide) rfl (fun ls hl => ?_)
    obtain ⟨od, ps, lb, E, vv, hIv, hIo, hEs, hEm⟩ := id hI
    obtain ⟨P1, B1, hod⟩ := List.append_of_mem ((pm_Io_in hIo).mpr hv1)
    obtain ⟨hc, hperm, hpw, -, -, ha1, ha2⟩ := id hIo
    rw [hod] at hc hperm hpw
    have hcB := pm_chn_at P1 _ hc
    have hin : ∀ x, x ∈ v1 :: B1 → x < b.1 := fun x h => (pm_Io_in hIo).mp (by rw [hod]; exact List.mem_append_right _ h)
    rw [List.pairwise_append] at hpw
    have htot : (v1 :: B1).countP (fun w => pm_an b.2.1 v1 w) = pm_cnt (fun w => pm_an b.2.1 v1 w) b.1 := by
      rw [pm_cnt_range, ← hperm.countP_eq, List.countP_append]
      have : P1.countP (fun w => pm_an b.2.1 v1 w) = 0 := by
        rw [List.countP_eq_zero]
        intro x hx hh
        have h1 := hpw.2.2 x hx v1 List.mem_cons_self
        have h2 := ha1 v1 x hv1 ((pm_Io_in hIo).mp (by rw [hod]; exact List.mem_append_left _ hx)) hh
        omega
      omega
    have hps : ∀ x ∈ v1 :: B1, ps v1 ≤ ps x := by
      intro x hx
      rcases List.mem_cons.mp hx with rfl | hx
      · exact Nat.le_refl _
      · have := hpw.2.1
        rw [List.pairwise_cons] at this
        exact Nat.le_of_lt (this.1 x hx)
    have loop : ∀ (T : List Nat) (at_ : Int32) (c0 : Nat) (H : Heap) (locs : List Loc) (ls : Array Slot), (∀ x ∈ T, x ∈ v1 :: B1) → T.Pairwise (fun x y => ps x < ps y) → pm_chn (k_fo u.1) at_ T → c0 + T.countP (fun w => pm_an b.2.1 v1 w) = pm_cnt (fun w => pm_an b.2.1 v1 w) b.1 → pm_X D A s (pm_t0 a) (pm_w0 q a) u H locs → lv_has ls 4 [(3, .int at_), (2, .int (nI c0)), (0, .ref (q 0)), (1, .int (nI v1))] → W p l e (pm_rm 1) s m args below meth c H locs 0 0 Q (F0 m 14 ls []) := by
      intro T
      induction T with
      | nil =>
        intro at_ c0 H locs ls hT hTp hTc hcnt hX hl
        have hTc : at_ = -1 := hTc
        subst hTc
        refine lv_iload_n hx hb dX0_family_14 rfl (lv_at hl 0 rfl) ?_
        refine lv_iconst (v := (-1)) hx hb dX0_family_15 (by decide) ?_
        refine lv_icmp_eq (tgt := 41) hx hb dX0_family_16 (by decide) (fun c16 => ?_) (fun c16 => ?_)
        · refine lv_iload_n hx hb dX0_family_41 rfl (lv_at hl 1 rfl) ?_
          exact hret (nI c0) u _ _ 42 ls hX (⟨by rw [sp_family_2 hn hv1, ← hcnt]; rfl, rfl⟩) (rfl) dX0_family_42
        · exact absurd rfl c16
      | cons x t ih =>
        intro at_ c0 H locs ls hT hTp hTc hcnt hX hl
        obtain ⟨hT1, hT2⟩ := hTc
        subst hT1
        have hxb := hin x (hT x List.mem_cons_self)
        rw [List.pairwise_cons] at hTp
        refine lv_iload_n hx hb dX0_family_14 rfl (lv_at hl 0 rfl) ?_
        refine lv_iconst (v := (-1)) hx hb dX0_family_15 (by decide) ?_
        refine lv_icmp_eq (tgt := 41) hx hb dX0_family_16 (by decide) (fun c16 => ?_) (fun c16 => ?_)
        · exact absurd c16 (pm_nm1 (by omega))
        · refine lv_aload_n hx hb dX0_family_19 rfl (lv_at hl 2 rfl) ?_
          refine lv_iload_n hx hb dX0_family_20 rfl (lv_at hl 3 rfl) ?_
          refine lv_iload_n hx hb dX0_family_21 rfl (lv_at hl 0 rfl) ?_
          refine pm_calli (rest := []) F hA hX (c0_isAncestor l D q a u hn hI.iv.2 hv1 hxb) rfl rfl hG0_isAncestor hd0_isAncestor ⟨⟨rfl, rfl⟩, Nat.le_of_ble_eq_true rfl, Nat.le_of_ble_eq_true rfl⟩ rfl rfl hl.1 (Nat.le_of_ble_eq_true rfl) dX0_family_22 ⟨Nat.zero_le _, Nat.zero_le _⟩ (fun r22 u22 H locs hw22 hX => ?_)
          rw [hw22.2] at hX
          refine lv_if_eq (tgt := 41) hx hb dX0_family_25 (by decide) (fun c25 => ?_) (fun c25 => ?_)
          · refine lv_iload_n hx hb dX0_family_41 rfl (lv_at hl 1 rfl) ?_
            exact hret (nI c0) u _ _ 42 ls hX (⟨by
              rw [sp_family_2 hn hv1, ← hcnt]
              have hz : (x :: t).countP (fun w => pm_an b.2.1 v1 w) = 0 := by
                rw [List.countP_eq_zero]
                intro y hy hh
                rcases List.mem_cons.mp hy with rfl | hy2
                · exact hw22.1.no c25 hh
                · exact hw22.1.no c25 (ha2 v1 x y hv1 hxb (hin y (hT y hy)) (hps x (hT x List.mem_cons_self)) (Nat.le_of_lt (hTp.1 y hy2)) hh)
              rw [hz]; rfl, rfl⟩) (rfl) dX0_family_42
          · refine lv_iinc (v := nI (c0 + 1)) (lv' := [(2, .int (nI (c0 + 1))), (3, .int (nI x)), (0, .ref (q 0)), (1, .int (nI v1))]) hx hb dX0_family_28 hl (k := 1) rfl (nI_1 c0) (by decide) rfl (fun ls hl => ?_)
            refine lv_aload_n hx hb dX0_family_31 rfl (lv_at hl 2 rfl) ?_
            refine x0_gfo F hX dX0_family_32 ?_
            refine lv_iload_n hx hb dX0_family_35 rfl (lv_at hl 1 rfl) ?_
            refine x0_lfo F hX (by omega) dX0_family_36 ?_
            refine lv_istore_n (lv' := [(3, .int (k_fo u.1 x)), (2, .int (nI (c0 + 1))), (0, .ref (q 0)), (1, .int (nI v1))]) hx hb dX0_family_37 rfl hl (by decide) rfl (fun ls hl => ?_)
            refine lv_goto (tgt := 14) hx hb dX0_family_38 (by decide) ?_
            refine ih _ (c0 + 1) _ _ ls (fun y h => hT y (List.mem_cons_of_mem _ h)) hTp.2 hT2 ?_ hX (lv_sub hl [0, 1, 2, 3] rfl)
            have e9 : (x :: t).countP (fun w => pm_an b.2.1 v1 w) = t.countP (fun w => pm_an b.2.1 v1 w) + 1 := List.countP_cons_of_pos (hw22.1.yes c25)
            omega
    exact loop (v1 :: B1) (nI v1) 0 _ _ ls (fun _ h => h) hpw.2.1 ⟨rfl, hcB⟩ (by omega) hX (lv_sub hl [0, 1, 2, 3] rfl)
  · have hv := hb2.no c5
    refine lv_iconst (v := (-1)) hx hb dX0_family_8 (by decide) ?_
    exact hret (-1) u _ _ 9 ls hX (⟨(sp_family_1 hv).symm, rfl⟩) (rfl) dX0_family_9

theorem pm_hs {nx : Nat → Int32} {h : Int32} {L0 L : List Nat} (hc : pm_chn nx h (L0 ++ L)) : (L0 = [] ∧ pm_chn nx h L) ∨ ∃ f, f ∈ L0 ∧ L0.getLast? = some f ∧ pm_chn nx (nx f) L := by
  rcases List.eq_nil_or_concat L0 with rfl | ⟨A, x, rfl⟩
  · exact Or.inl ⟨rfl, hc⟩
  · refine Or.inr ⟨x, by simp, by simp, ?_⟩
    rw [List.concat_eq_append, List.append_assoc] at hc
    exact pm_chn_at A _ hc
set_option maxHeartbeats 4000000 in
set_option maxRecDepth 100000 in
theorem c0_spread (l : Launch) (D : va_G) (q : Nat → Nat) (a : Nat → ClassId) (u : pm_S0) {b : pm_AB} {ne : Nat} (hI : pm_R0 u.1 b ne) (k : Int32) : pm_Mi l yX0_spread cX0_spread 5 .int (pm_rm 1) D (pm_t0 a) (pm_w0 q a) [.ref (q 0), .int k] u (fun r u' => r = sp_spread b k ∧ u'.1 = u.1) := by
  refine pm_Mi_of (by decide) (Nat.le_of_ble_eq_true rfl) ?_
  intro p e s m below meth c A args Q ls F hA hret hX hl
  have hx := F.1
  have hb := F.2.1
  have hl : lv_has ls 5 [(0, .ref (q 0)), (1, .int k)] := hl
  have hn := hI.n40
  refine lv_iload_n hx hb dX0_spread_0 rfl (lv_at hl 1 rfl) ?_
  refine pm_calls (rest := []) F (c0_isKey l k) hG0_isKey hd0_isKey ⟨⟨rfl, rfl⟩, Nat.le_of_ble_eq_true rfl, Nat.le_of_ble_eq_true rfl⟩ rfl rfl hl.1 (Nat.le_of_ble_eq_true rfl) dX0_spread_1 ⟨Nat.zero_le _, Nat.zero_le _⟩ ?_
  refine lv_if_ne (tgt := 9) hx hb dX0_spread_4 (by decide) (fun c4 => ?_) (fun c4 => ?_)
  · have hk := (pm_bl_if _).yes c4
    obtain ⟨k1, hk1, rfl⟩ := sp_key_of hk
    refine lv_iconst (v := nI 0) hx hb dX0_spread_9 (by decide) ?_
    refine lv_istore_n (lv' := [(2, .int (nI 0)), (0, .ref (q 0)), (1, .int (nI k1))]) hx hb dX0_spread_10 rfl hl (by decide) rfl (fun ls hl => ?_)
    refine lv_iconst (v := (-1)) hx hb dX0_spread_11 (by decide) ?_
    refine lv_istore_n (lv' := [(3, .int (-1)), (2, .int (nI 0)), (0, .ref (q 0)), (1, .int (nI k1))]) hx hb dX0_spread_12 rfl hl (by decide) rfl (fun ls hl => ?_)
    refine lv_iconst (v := nI 0) hx hb dX0_spread_13 (by decide) ?_
    refine lv_istore (lv' := [(4, .int (nI 0)), (3, .int (-1)), (2, .int (nI 0)), (0, .ref (q 0)), (1, .int (nI k1))]) hx hb dX0_spread_14 hl (by decide) rfl (fun ls hl => ?_)
    obtain ⟨od, ps, lb, E, vv, hIv, hIo, hEs, hEm⟩ := id hI
    obtain ⟨hEc, hEp, hEf⟩ := hEs.2.1 k1 hk1
    obtain ⟨hc, hperm, hpw, -, hlab, -, -⟩ := id hIo
    have hEg : ∀ e ∈ E k1, e < 640 ∧ vv e < 40 ∧ k_ev u.1 e = nI (vv e) ∧ k_la u.1 (vv e) = lN (lb (vv e)) ∧ lb (vv e) < 2 ^ 61 := by
      intro e h
      obtain ⟨g1, g2, g3, g4⟩ := hEf e h
      have := hEs.1.1
      exact ⟨by omega, by omega, g3, hlab _ g2⟩
    have loop : ∀ (T : List Nat) (at_ : Int32) (c0 : Nat) (L0 L : List Nat) (H : Heap) (locs : List Loc) (ls : Array Slot), (∀ x ∈ T, x < b.1) → T.Pairwise (fun x y => ps x < ps y) → pm_chn (k_fo u.1) at_ T → E k1 = L0 ++ L → (∀ e ∈ L0, ∀ x ∈ T, ps (vv e) ≤ ps x) → c0 + T.countP (fun v => (b.2.2 v k1).isSome) = pm_cnt (fun v => (b.2.2 v k1).isSome) b.1 → pm_X D A s (pm_t0 a) (pm_w0 q a) u H locs → lv_has ls 5 [(4, .int at_), (2, .int (nI c0)), (3, .int (pm_ov L0.getLast?)), (0, .ref (q 0)), (1, .int (nI k1))] → W p l e (pm_rm 1) s m args below meth c H locs 0 0 Q (F0 m 16 ls []) := by
      intro T
      induction T with
      | nil =>
        intro at_ c0 L0 L H locs ls hT hTp hTc hL hL0 hcnt hX hl
        have hTc : at_ = -1 := hTc
        subst hTc
        refine lv_iload hx hb dX0_spread_16 (lv_at hl 0 rfl) ?_
        refine lv_iconst (v := (-1)) hx hb dX0_spread_18 (by decide) ?_
        refine lv_icmp_eq (tgt := 65) hx hb dX0_spread_19 (by decide) (fun c19 => ?_) (fun c19 => ?_)
        · refine lv_iload_n hx hb dX0_spread_65 rfl (lv_at hl 1 rfl) ?_
          exact hret (nI c0) u _ _ 66 ls hX (⟨by rw [sp_spread_2 hk1, ← hcnt]; rfl, rfl⟩) (rfl) dX0_spread_66
        · exact absurd rfl c19
      | cons x t ih =>
        intro at_ c0 L0 L H locs ls hT hTp hTc hL hL0 hcnt hX hl
        obtain ⟨hT1, hT2⟩ := hTc
        subst hT1
        have hxb := hT x List.mem_cons_self
        rw [List.pairwise_cons] at hTp
        have hLp : L.Pairwise (fun x y => ps (vv x) < ps (vv y)) := by
          have := hEp
          rw [hL, List.pairwise_append] at this
          exact this.2.1
        have hLE : ∀ e ∈ L, e ∈ E k1 := fun e h => by rw [hL]; exact List.mem_append_right _ h
        obtain ⟨L1, L2, hL12, h1, h2⟩ := pm_split (g := fun e => ps (vv e)) (c := ps x) L hLp
        have hL3 : E k1 = (L0 ++ L1) ++ L2 := by rw [hL, hL12, List.append_assoc]
        have hfl : (E k1).filter (fun e => decide (ps (vv e) ≤ ps x)) = L0 ++ L1 := by
          rw [hL3]
          refine pm_filt (fun e h => ?_) (fun e h => ?_)
          · rcases List.mem_append.mp h with z | z
            · simpa using hL0 e z x List.mem_cons_self
            · simpa using h1 e z
          · have := h2 e h; simp; omega
        have hM : b.2.2 x k1 = pm_lk u.1 (L0 ++ L1).getLast? := by rw [hEm x k1 hxb hk1, hfl]
        have hadv : pm_adv (fun e => decide (lb (vv e) ≤ lb x)) (pm_ov L0.getLast?) L = pm_ov (L0 ++ L1).getLast? := by
          rw [pm_adv_congr (p' := fun e => decide (ps (vv e) ≤ ps x)) _ _ (fun e h => by
            have := pm_Io_cmp hIo (hEf e (hLE e h)).2.1 hxb
            simp [this])]
          rw [pm_adv_filter (g := fun e => ps (vv e)) (c := ps x) L L0.getLast? hLp, hL12, pm_filt (fun e h => by simpa using h1 e h) (fun e h => by have := h2 e h; simp; omega), List.getLast?_append]
        have hsrc : (pm_ov L0.getLast? = -1 ∧ ∃ kk, kk < 32 ∧ nI k1 = nI kk ∧ pm_chn (k_en u.1) (k_he u.1 kk) L) ∨ (∃ f, f < 640 ∧ pm_ov L0.getLast? = nI f ∧ pm_chn (k_en u.1) (k_en u.1 f) L) := by
          rw [hL] at hEc
          rcases pm_hs hEc with ⟨z, hz⟩ | ⟨f, hf, z, hz⟩
          · exact Or.inl ⟨by rw [z]; rfl, k1, hk1, rfl, hz⟩
          · exact Or.inr ⟨f, (hEg f (by rw [hL]; exact List.mem_append_left _ hf)).1, by rw [z]; rfl, hz⟩
        have hL0' : ∀ e ∈ L0 ++ L1, ∀ y ∈ t, ps (vv e) ≤ ps y := by
          intro e he y hy
          have h3 : ps (vv e) ≤ ps x := by
            rcases List.mem_append.mp he with z | z
            · exact hL0 e z x List.mem_cons_self
            · exact h1 e z
          have := hTp.1 y hy
          omega
        refine lv_iload hx hb dX0_spread_16 (lv_at hl 0 rfl) ?_
        refine lv_iconst (v := (-1)) hx hb dX0_spread_18 (by decide) ?_
        refine lv_icmp_eq (tgt := 65) hx hb dX0_spread_19 (by decide) (fun c19 => ?_) (fun c19 => ?_)
        · exact absurd c19 (pm_nm1 (by omega))
        · refine lv_aload_n hx hb dX0_spread_22 rfl (lv_at hl 3 rfl) ?_
          refine lv_iload_n hx hb dX0_spread_23 rfl (lv_at hl 4 rfl) ?_
          refine lv_iload_n hx hb dX0_spread_24 rfl (lv_at hl 2 rfl) ?_
          refine lv_iload hx hb dX0_spread_25 (lv_at hl 0 rfl) ?_
          refine pm_calli (rest := []) F hA hX (c0_advance l D q a u (lb := lb) (vv := vv) (L := L) (j := x) (by omega) (hlab x hxb) (fun e h => hEg e (hLE e h)) (nI k1) (pm_ov L0.getLast?) hsrc) rfl rfl hG0_advance hd0_advance ⟨⟨rfl, rfl⟩, Nat.le_of_ble_eq_true rfl, Nat.le_of_ble_eq_true rfl⟩ rfl rfl hl.1 (Nat.le_of_ble_eq_true rfl) dX0_spread_27 ⟨Nat.zero_le _, Nat.zero_le _⟩ (fun r27 u27 H locs hw27 hX => ?_)
          rw [hw27.2] at hX
          refine pm_top (y := pm_ov (L0 ++ L1).getLast?) (hw27.1.trans hadv) ?_
          refine lv_istore_n (lv' := [(3, .int (pm_ov (L0 ++ L1).getLast?)), (4, .int (nI x)), (2, .int (nI c0)), (0, .ref (q 0)), (1, .int (nI k1))]) hx hb dX0_spread_30 rfl hl (by decide) rfl (fun ls hl => ?_)
          cases hg : (L0 ++ L1).getLast? with
          | none =>
            rw [hg] at hl hM
            have hl : lv_has ls 5 [(3, .int (-1)), (4, .int (nI x)), (2, .int (nI c0)), (0, .ref (q 0)), (1, .int (nI k1))] := hl
            refine lv_iload_n hx hb dX0_spread_31 rfl (lv_at hl 2 rfl) ?_
            refine lv_iload_n hx hb dX0_spread_32 rfl (lv_at hl 0 rfl) ?_
            refine lv_iconst (v := (-1)) hx hb dX0_spread_33 (by decide) ?_
            refine lv_icmp_eq (tgt := 50) hx hb dX0_spread_34 (by decide) (fun c34 => ?_) (fun c34 => ?_)
            · refine lv_iconst (v := 0) hx hb dX0_spread_50 (by decide) ?_
              refine lv_iadd hx hb dX0_spread_51 ?_
              refine pm_top (y := nI c0) (Int32.add_zero _) ?_
              refine lv_istore_n (lv' := [(2, .int (nI c0)), (3, .int (-1)), (4, .int (nI x)), (0, .ref (q 0)), (1, .int (nI k1))]) hx hb dX0_spread_52 rfl hl (by decide) rfl (fun ls hl => ?_)
              refine lv_aload_n hx hb dX0_spread_53 rfl (lv_at hl 3 rfl) ?_
              refine x0_gfo F hX dX0_spread_54 ?_
              refine lv_iload hx hb dX0_spread_57 (lv_at hl 2 rfl) ?_
              refine x0_lfo F hX (by omega) dX0_spread_59 ?_
              refine lv_istore (lv' := [(4, .int (k_fo u.1 x)), (2, .int (nI c0)), (3, .int (-1)), (0, .ref (q 0)), (1, .int (nI k1))]) hx hb dX0_spread_60 hl (by decide) rfl (fun ls hl => ?_)
              refine lv_goto (tgt := 16) hx hb dX0_spread_62 (by decide) ?_
              refine ih _ (c0) (L0 ++ L1) L2 _ _ ls (fun y h => hT y (List.mem_cons_of_mem _ h)) hTp.2 hT2 hL3 hL0' ?_ hX (by rw [hg]; exact lv_sub hl [0, 1, 2, 3, 4] rfl)
              rw [List.countP_cons_of_neg (by rw [hM]; exact Bool.false_ne_true)] at hcnt
              exact hcnt
            · exact absurd rfl c34
          | some y =>
            rw [hg] at hl hM
            have hyE : y ∈ E k1 := by rw [hL3]; exact List.mem_append_left _ (List.mem_of_getLast? hg)
            have hy6 := (hEg y hyE).1
            have hbit := (hEf y hyE).2.2.2
            have hl : lv_has ls 5 [(3, .int (nI y)), (4, .int (nI x)), (2, .int (nI c0)), (0, .ref (q 0)), (1, .int (nI k1))] := hl
            refine lv_iload_n hx hb dX0_spread_31 rfl (lv_at hl 2 rfl) ?_
            refine lv_iload_n hx hb dX0_spread_32 rfl (lv_at hl 0 rfl) ?_
            refine lv_iconst (v := (-1)) hx hb dX0_spread_33 (by decide) ?_
            refine lv_icmp_eq (tgt := 50) hx hb dX0_spread_34 (by decide) (fun c34 => ?_) (fun c34 => ?_)
            · exact absurd c34 (pm_nm1 (by omega))
            · refine lv_aload_n hx hb dX0_spread_37 rfl (lv_at hl 3 rfl) ?_
              refine x0_get F hX dX0_spread_38 ?_
              refine lv_iload_n hx hb dX0_spread_41 rfl (lv_at hl 0 rfl) ?_
              refine x0_let F hX (by omega) dX0_spread_42 ?_
              refine lv_if_eq (tgt := 50) hx hb dX0_spread_43 (by decide) (fun c43 => ?_) (fun c43 => ?_)
              · have e0 : b.2.2 x k1 = none := hM.trans (if_neg (by rw [show k_et u.1 y = 0 from c43]; decide))
                refine lv_iconst (v := 0) hx hb dX0_spread_50 (by decide) ?_
                refine lv_iadd hx hb dX0_spread_51 ?_
                refine pm_top (y := nI c0) (Int32.add_zero _) ?_
                refine lv_istore_n (lv' := [(2, .int (nI c0)), (3, .int (nI y)), (4, .int (nI x)), (0, .ref (q 0)), (1, .int (nI k1))]) hx hb dX0_spread_52 rfl hl (by decide) rfl (fun ls hl => ?_)
                refine lv_aload_n hx hb dX0_spread_53 rfl (lv_at hl 3 rfl) ?_
                refine x0_gfo F hX dX0_spread_54 ?_
                refine lv_iload hx hb dX0_spread_57 (lv_at hl 2 rfl) ?_
                refine x0_lfo F hX (by omega) dX0_spread_59 ?_
                refine lv_istore (lv' := [(4, .int (k_fo u.1 x)), (2, .int (nI c0)), (3, .int (nI y)), (0, .ref (q 0)), (1, .int (nI k1))]) hx hb dX0_spread_60 hl (by decide) rfl (fun ls hl => ?_)
                refine lv_goto (tgt := 16) hx hb dX0_spread_62 (by decide) ?_
                refine ih _ (c0) (L0 ++ L1) L2 _ _ ls (fun y h => hT y (List.mem_cons_of_mem _ h)) hTp.2 hT2 hL3 hL0' ?_ hX (by rw [hg]; exact lv_sub hl [0, 1, 2, 3, 4] rfl)
                rw [List.countP_cons_of_neg (by rw [e0]; exact Bool.false_ne_true)] at hcnt
                exact hcnt
              · have e0 : b.2.2 x k1 = some (k_ea u.1 y) := hM.trans (if_pos (pm_not0 hbit c43))
                refine lv_iconst (v := 1) hx hb dX0_spread_46 (by decide) ?_
                refine lv_goto (tgt := 51) hx hb dX0_spread_47 (by decide) ?_
                refine lv_iadd hx hb dX0_spread_51 ?_
                refine pm_top (y := nI (c0 + 1)) (nI_1 c0) ?_
                refine lv_istore_n (lv' := [(2, .int (nI (c0 + 1))), (3, .int (nI y)), (4, .int (nI x)), (0, .ref (q 0)), (1, .int (nI k1))]) hx hb dX0_spread_52 rfl hl (by decide) rfl (fun ls hl => ?_)
                refine lv_aload_n hx hb dX0_spread_53 rfl (lv_at hl 3 rfl) ?_
                refine x0_gfo F hX dX0_spread_54 ?_
                refine lv_iload hx hb dX0_spread_57 (lv_at hl 2 rfl) ?_
                refine x0_lfo F hX (by omega) dX0_spread_59 ?_
                refine lv_istore (lv' := [(4, .int (k_fo u.1 x)), (2, .int (nI (c0 + 1))), (3, .int (nI y)), (0, .ref (q 0)), (1, .int (nI k1))]) hx hb dX0_spread_60 hl (by decide) rfl (fun ls hl => ?_)
                refine lv_goto (tgt := 16) hx hb dX0_spread_62 (by decide) ?_
                refine ih _ (c0 + 1) (L0 ++ L1) L2 _ _ ls (fun y h => hT y (List.mem_cons_of_mem _ h)) hTp.2 hT2 hL3 hL0' ?_ hX (by rw [hg]; exact lv_sub hl [0, 1, 2, 3, 4] rfl)
                rw [List.countP_cons_of_pos (by rw [e0]; rfl)] at hcnt
                omega
    exact loop od (nI 0) 0 [] (E k1) _ _ ls (fun x h => (pm_Io_in hIo).mp h) hpw hc rfl (fun e h => by cases h) (by rw [pm_cnt_range, ← hperm.countP_eq]; omega) hX (lv_sub hl [0, 2, 1, 3, 4] rfl)
  · have hk := (pm_bl_if _).no c4
    refine lv_iconst (v := (-1)) hx hb dX0_spread_7 (by decide) ?_
    exact hret (-1) u _ _ 8 ls hX (⟨(sp_spread_1 hk).symm, rfl⟩) (rfl) dX0_spread_8
end
section
/-! ===== PersistentMap: put, remove, fill, graft, exchange ===== -/
/-- between two calls -/
def pm_Rc (k : pm_K0) (b : pm_AB) : Prop := ∃ ne, ne ≤ 16 * (b.1 - 1) ∧ pm_R0 k b ne
theorem pm_fil_n (b : pm_AB) (w f : Nat) (x st : Int32) (i : Nat) : (pm_fil b w f x st i).1 = b.1 := by
  induction i with
  | zero => rfl
  | succ i ih => exact ih
theorem pm_grf_n (b : pm_AB) (w src f : Nat) (i : Nat) : (pm_grf b w src f i).1 = b.1 := by
  induction i with
  | zero => rfl
  | succ i ih => exact ih
theorem pm_grf_old (b : pm_AB) (w src f : Nat) (i : Nat) {y : Nat} (h : y ≠ w) (k : Nat) : (pm_grf b w src f i).2.2 y k = b.2.2 y k := by
  induction i with
  | zero => rfl
  | succ i ih =>
    show (if y = w ∧ k = f + i then _ else (pm_grf b w src f i).2.2 y k) = _
    rw [if_neg (fun z => h z.1)]; exact ih
theorem pm_opn_old {b : pm_AB} {v y : Nat} (h : y < b.1) (k : Nat) : (pm_opn b v).2.2 y k = b.2.2 y k := if_neg (by omega)
theorem pm_planz {f z : Nat} (h1 : 1 ≤ z) (h2 : z ≤ 8) (h : f * 16 + z ≤ 511) : nI (f * 16 + z) &&& 15 = nI z ∧ nI (f * 16 + z) >>> ((4 : Int32) &&& 31) = nI f := by
  have := pm_plan_n h
  rw [show (f * 16 + z) % 16 = z by omega, show (f * 16 + z) / 16 = f by omega] at this
  exact this
set_option maxHeartbeats 4000000 in
set_option maxRecDepth 100000 in
theorem c0_put (l : Launch) (D : va_G) (q : Nat → Nat) (a : Nat → ClassId) (u : pm_S0) {b : pm_AB} {ne : Nat} (hI : pm_R0 u.1 b ne) (hne : ne ≤ 16 * (b.1 - 1)) (v k x : Int32) : pm_Mi l yX0_put cX0_put 5 .int (pm_rm 3) D (pm_t0 a) (pm_w0 q a) [.ref (q 0), .int v, .int k, .int x] u (fun r u' => ∃ x9, sp_put b v k x r x9 ∧ pm_Rc u'.1 x9) := by
  refine pm_Mi_of (by decide) (Nat.le_of_ble_eq_true rfl) ?_
  intro p e s m below meth c A args Q ls F hA hret hX hl
  have hx := F.1
  have hb := F.2.1
  have hl : lv_has ls 5 [(0, .ref (q 0)), (1, .int v), (2, .int k), (3, .int x)] := hl
  have hn := hI.n40
  have hn1 := hI.iv.1.1
  refine lv_aload_n hx hb dX0_put_0 rfl (lv_at hl 0 rfl) ?_
  refine lv_iload_n hx hb dX0_put_1 rfl (lv_at hl 1 rfl) ?_
  refine pm_calli (rest := []) F hA hX (c0_isVersion l D q a u v) rfl rfl hG0_isVersion hd0_isVersion ⟨⟨rfl, rfl⟩, Nat.le_of_ble_eq_true rfl, Nat.le_of_ble_eq_true rfl⟩ rfl rfl hl.1 (Nat.le_of_ble_eq_true rfl) dX0_put_2 ⟨Nat.zero_le _, Nat.zero_le _⟩ (fun r2 u2 H locs hw2 hX => ?_)
  rw [hw2.2] at hX
  have hb2 := hI.okv hw2.1
  refine lv_if_ne (tgt := 10) hx hb dX0_put_5 (by decide) (fun c5 => ?_) (fun c5 => ?_)
  · have hv := hb2.yes c5
    obtain ⟨v1, hv1, rfl⟩ := sp_ok_of hn hv
    refine lv_iload_n hx hb dX0_put_10 rfl (lv_at hl 2 rfl) ?_
    refine pm_calls (rest := []) F (c0_isKey l k) hG0_isKey hd0_isKey ⟨⟨rfl, rfl⟩, Nat.le_of_ble_eq_true rfl, Nat.le_of_ble_eq_true rfl⟩ rfl rfl hl.1 (Nat.le_of_ble_eq_true rfl) dX0_put_11 ⟨Nat.zero_le _, Nat.zero_le _⟩ ?_
    refine lv_if_ne (tgt := 20) hx hb dX0_put_14 (by decide) (fun c14 => ?_) (fun c14 => ?_)
    · have hk := (pm_bl_if _).yes c14
      obtain ⟨k1, hk1, rfl⟩ := sp_key_of hk
      refine lv_aload_n hx hb dX0_put_20 rfl (lv_at hl 0 rfl) ?_
      refine x0_gcn F hX dX0_put_21 ?_
      refine pm_top (y := nI b.1) (hI.cn) ?_
      refine lv_bipush (v := nI 40) hx hb dX0_put_24 (by decide) ?_
      refine lv_icmp_ne (tgt := 32) hx hb dX0_put_26 (by decide) (fun c26 => ?_) (fun c26 => ?_)
      · have h40 : ¬ b.1 = 40 := fun z => c26 (by rw [z])
        refine lv_aload_n hx hb dX0_put_32 rfl (lv_at hl 0 rfl) ?_
        refine lv_iload_n hx hb dX0_put_33 rfl (lv_at hl 1 rfl) ?_
        refine pm_calli (rest := []) F hA hX (c0_open l D q a u hI hv1 (by omega)) rfl rfl hG0_open hd0_open ⟨⟨rfl, rfl⟩, Nat.le_of_ble_eq_true rfl, Nat.le_of_ble_eq_true rfl⟩ rfl rfl hl.1 (Nat.le_of_ble_eq_true rfl) dX0_put_34 ⟨Nat.zero_le _, Nat.zero_le _⟩ (fun r34 u34 H locs hw34 hX => ?_)
        obtain ⟨hr34, hRw⟩ := hw34
        refine pm_top (y := nI b.1) (hr34) ?_
        refine lv_istore (lv' := [(4, .int (nI b.1)), (0, .ref (q 0)), (1, .int (nI v1)), (2, .int (nI k1)), (3, .int x)]) hx hb dX0_put_37 hl (by decide) rfl (fun ls hl => ?_)
        refine lv_aload_n hx hb dX0_put_39 rfl (lv_at hl 1 rfl) ?_
        refine lv_iload hx hb dX0_put_40 (lv_at hl 0 rfl) ?_
        refine lv_iload_n hx hb dX0_put_42 rfl (lv_at hl 3 rfl) ?_
        refine lv_iconst (v := 1) hx hb dX0_put_43 (by decide) ?_
        refine lv_iload_n hx hb dX0_put_44 rfl (lv_at hl 4 rfl) ?_
        refine pm_callv (rest := []) F hA hX (c0_write l D q a u34 hRw (by show b.1 < b.1 + 1; omega) hk1 (by omega) 1 x (by decide)) rfl rfl hG0_write hd0_write ⟨⟨rfl, rfl⟩, Nat.le_of_ble_eq_true rfl, Nat.le_of_ble_eq_true rfl⟩ rfl rfl hl.1 (Nat.le_of_ble_eq_true rfl) dX0_put_45 ⟨Nat.zero_le _, Nat.zero_le _⟩ (fun u45 H locs hw45 hX => ?_)
        obtain ⟨ne2, h1, h2, h3⟩ := hw45
        rw [show (if (1 : Int32) = 1 then some (x : Int32) else none) = (some x) from rfl] at h3
        refine lv_iload hx hb dX0_put_48 (lv_at hl 0 rfl) ?_
        exact hret (nI b.1) u45 _ _ 50 ls hX (⟨pm_wr (pm_opn b v1) b.1 k1 (some x), by unfold sp_put; rw [pm_clN (by omega), pm_clN (by omega)]; exact sp_mk_4 hv hk h40, ne2, by show ne2 ≤ 16 * (b.1 + 1 - 1); omega, h3.r0⟩) (rfl) dX0_put_50
      · have h40 : b.1 = 40 := pm_eqN (by omega) (by omega) c26
        refine lv_bipush (v := (-3)) hx hb dX0_put_29 (by decide) ?_
        exact hret (-3) u _ _ 31 ls hX (⟨b, sp_mk_3 hv hk h40, ne, hne, hI⟩) (rfl) dX0_put_31
    · have hk := (pm_bl_if _).no c14
      refine lv_bipush (v := (-2)) hx hb dX0_put_17 (by decide) ?_
      exact hret (-2) u _ _ 19 ls hX (⟨b, sp_mk_2 hv hk, ne, hne, hI⟩) (rfl) dX0_put_19
  · have hv := hb2.no c5
    refine lv_iconst (v := (-1)) hx hb dX0_put_8 (by decide) ?_
    exact hret (-1) u _ _ 9 ls hX (⟨b, sp_mk_1 hv, ne, hne, hI⟩) (rfl) dX0_put_9

set_option maxHeartbeats 4000000 in
set_option maxRecDepth 100000 in
theorem c0_remove (l : Launch) (D : va_G) (q : Nat → Nat) (a : Nat → ClassId) (u : pm_S0) {b : pm_AB} {ne : Nat} (hI : pm_R0 u.1 b ne) (hne : ne ≤ 16 * (b.1 - 1)) (v k : Int32) : pm_Mi l yX0_remove cX0_remove 4 .int (pm_rm 3) D (pm_t0 a) (pm_w0 q a) [.ref (q 0), .int v, .int k] u (fun r u' => ∃ x9, sp_remove b v k r x9 ∧ pm_Rc u'.1 x9) := by
  refine pm_Mi_of (by decide) (Nat.le_of_ble_eq_true rfl) ?_
  intro p e s m below meth c A args Q ls F hA hret hX hl
  have hx := F.1
  have hb := F.2.1
  have hl : lv_has ls 4 [(0, .ref (q 0)), (1, .int v), (2, .int k)] := hl
  have hn := hI.n40
  have hn1 := hI.iv.1.1
  refine lv_aload_n hx hb dX0_remove_0 rfl (lv_at hl 0 rfl) ?_
  refine lv_iload_n hx hb dX0_remove_1 rfl (lv_at hl 1 rfl) ?_
  refine pm_calli (rest := []) F hA hX (c0_isVersion l D q a u v) rfl rfl hG0_isVersion hd0_isVersion ⟨⟨rfl, rfl⟩, Nat.le_of_ble_eq_true rfl, Nat.le_of_ble_eq_true rfl⟩ rfl rfl hl.1 (Nat.le_of_ble_eq_true rfl) dX0_remove_2 ⟨Nat.zero_le _, Nat.zero_le _⟩ (fun r2 u2 H locs hw2 hX => ?_)
  rw [hw2.2] at hX
  have hb2 := hI.okv hw2.1
  refine lv_if_ne (tgt := 10) hx hb dX0_remove_5 (by decide) (fun c5 => ?_) (fun c5 => ?_)
  · have hv := hb2.yes c5
    obtain ⟨v1, hv1, rfl⟩ := sp_ok_of hn hv
    refine lv_iload_n hx hb dX0_remove_10 rfl (lv_at hl 2 rfl) ?_
    refine pm_calls (rest := []) F (c0_isKey l k) hG0_isKey hd0_isKey ⟨⟨rfl, rfl⟩, Nat.le_of_ble_eq_true rfl, Nat.le_of_ble_eq_true rfl⟩ rfl rfl hl.1 (Nat.le_of_ble_eq_true rfl) dX0_remove_11 ⟨Nat.zero_le _, Nat.zero_le _⟩ ?_
    refine lv_if_ne (tgt := 20) hx hb dX0_remove_14 (by decide) (fun c14 => ?_) (fun c14 => ?_)
    · have hk := (pm_bl_if _).yes c14
      obtain ⟨k1, hk1, rfl⟩ := sp_key_of hk
      refine lv_aload_n hx hb dX0_remove_20 rfl (lv_at hl 0 rfl) ?_
      refine x0_gcn F hX dX0_remove_21 ?_
      refine pm_top (y := nI b.1) (hI.cn) ?_
      refine lv_bipush (v := nI 40) hx hb dX0_remove_24 (by decide) ?_
      refine lv_icmp_ne (tgt := 32) hx hb dX0_remove_26 (by decide) (fun c26 => ?_) (fun c26 => ?_)
      · have h40 : ¬ b.1 = 40 := fun z => c26 (by rw [z])
        refine lv_aload_n hx hb dX0_remove_32 rfl (lv_at hl 0 rfl) ?_
        refine lv_iload_n hx hb dX0_remove_33 rfl (lv_at hl 1 rfl) ?_
        refine pm_calli (rest := []) F hA hX (c0_open l D q a u hI hv1 (by omega)) rfl rfl hG0_open hd0_open ⟨⟨rfl, rfl⟩, Nat.le_of_ble_eq_true rfl, Nat.le_of_ble_eq_true rfl⟩ rfl rfl hl.1 (Nat.le_of_ble_eq_true rfl) dX0_remove_34 ⟨Nat.zero_le _, Nat.zero_le _⟩ (fun r34 u34 H locs hw34 hX => ?_)
        obtain ⟨hr34, hRw⟩ := hw34
        refine pm_top (y := nI b.1) (hr34) ?_
        refine lv_istore_n (lv' := [(3, .int (nI b.1)), (0, .ref (q 0)), (1, .int (nI v1)), (2, .int (nI k1))]) hx hb dX0_remove_37 rfl hl (by decide) rfl (fun ls hl => ?_)
        refine lv_aload_n hx hb dX0_remove_38 rfl (lv_at hl 1 rfl) ?_
        refine lv_iload_n hx hb dX0_remove_39 rfl (lv_at hl 0 rfl) ?_
        refine lv_iload_n hx hb dX0_remove_40 rfl (lv_at hl 3 rfl) ?_
        refine lv_iconst (v := 0) hx hb dX0_remove_41 (by decide) ?_
        refine lv_iconst (v := 0) hx hb dX0_remove_42 (by decide) ?_
        refine pm_callv (rest := []) F hA hX (c0_write l D q a u34 hRw (by show b.1 < b.1 + 1; omega) hk1 (by omega) 0 0 (by decide)) rfl rfl hG0_write hd0_write ⟨⟨rfl, rfl⟩, Nat.le_of_ble_eq_true rfl, Nat.le_of_ble_eq_true rfl⟩ rfl rfl hl.1 (Nat.le_of_ble_eq_true rfl) dX0_remove_43 ⟨Nat.zero_le _, Nat.zero_le _⟩ (fun u43 H locs hw43 hX => ?_)
        obtain ⟨ne2, h1, h2, h3⟩ := hw43
        rw [show (if (0 : Int32) = 1 then some (0 : Int32) else none) = none from rfl] at h3
        refine lv_iload_n hx hb dX0_remove_46 rfl (lv_at hl 0 rfl) ?_
        exact hret (nI b.1) u43 _ _ 47 ls hX (⟨pm_wr (pm_opn b v1) b.1 k1 none, by unfold sp_remove; rw [pm_clN (by omega), pm_clN (by omega)]; exact sp_mk_4 hv hk h40, ne2, by show ne2 ≤ 16 * (b.1 + 1 - 1); omega, h3.r0⟩) (rfl) dX0_remove_47
      · have h40 : b.1 = 40 := pm_eqN (by omega) (by omega) c26
        refine lv_bipush (v := (-3)) hx hb dX0_remove_29 (by decide) ?_
        exact hret (-3) u _ _ 31 ls hX (⟨b, sp_mk_3 hv hk h40, ne, hne, hI⟩) (rfl) dX0_remove_31
    · have hk := (pm_bl_if _).no c14
      refine lv_bipush (v := (-2)) hx hb dX0_remove_17 (by decide) ?_
      exact hret (-2) u _ _ 19 ls hX (⟨b, sp_mk_2 hv hk, ne, hne, hI⟩) (rfl) dX0_remove_19
  · have hv := hb2.no c5
    refine lv_iconst (v := (-1)) hx hb dX0_remove_8 (by decide) ?_
    exact hret (-1) u _ _ 9 ls hX (⟨b, sp_mk_1 hv, ne, hne, hI⟩) (rfl) dX0_remove_9

set_option maxHeartbeats 4000000 in
set_option maxRecDepth 100000 in
theorem c0_fill (l : Launch) (D : va_G) (q : Nat → Nat) (a : Nat → ClassId) (u : pm_S0) {b : pm_AB} {ne : Nat} (hI : pm_R0 u.1 b ne) (hne : ne ≤ 16 * (b.1 - 1)) (v g x t : Int32) : pm_Mi l yX0_fill cX0_fill 8 .int (pm_rm 3) D (pm_t0 a) (pm_w0 q a) [.ref (q 0), .int v, .int g, .int x, .int t] u (fun r u' => ∃ x9, sp_fill b v g x t r x9 ∧ pm_Rc u'.1 x9) := by
  refine pm_Mi_of (by decide) (Nat.le_of_ble_eq_true rfl) ?_
  intro p e s m below meth c A args Q ls F hA hret hX hl
  have hx := F.1
  have hb := F.2.1
  have hl : lv_has ls 8 [(0, .ref (q 0)), (1, .int v), (2, .int g), (3, .int x), (4, .int t)] := hl
  have hn := hI.n40
  have hn1 := hI.iv.1.1
  refine lv_aload_n hx hb dX0_fill_0 rfl (lv_at hl 0 rfl) ?_
  refine lv_iload_n hx hb dX0_fill_1 rfl (lv_at hl 1 rfl) ?_
  refine pm_calli (rest := []) F hA hX (c0_isVersion l D q a u v) rfl rfl hG0_isVersion hd0_isVersion ⟨⟨rfl, rfl⟩, Nat.le_of_ble_eq_true rfl, Nat.le_of_ble_eq_true rfl⟩ rfl rfl hl.1 (Nat.le_of_ble_eq_true rfl) dX0_fill_2 ⟨Nat.zero_le _, Nat.zero_le _⟩ (fun r2 u2 H locs hw2 hX => ?_)
  rw [hw2.2] at hX
  have hb2 := hI.okv hw2.1
  refine lv_if_ne (tgt := 10) hx hb dX0_fill_5 (by decide) (fun c5 => ?_) (fun c5 => ?_)
  · have hv := hb2.yes c5
    obtain ⟨v1, hv1, rfl⟩ := sp_ok_of hn hv
    refine lv_iload_n hx hb dX0_fill_10 rfl (lv_at hl 2 rfl) ?_
    refine pm_calls (rest := []) F (c0_isPlan l g) hG0_isPlan hd0_isPlan ⟨⟨rfl, rfl⟩, Nat.le_of_ble_eq_true rfl, Nat.le_of_ble_eq_true rfl⟩ rfl rfl hl.1 (Nat.le_of_ble_eq_true rfl) dX0_fill_11 ⟨Nat.zero_le _, Nat.zero_le _⟩ ?_
    refine lv_if_ne (tgt := 20) hx hb dX0_fill_14 (by decide) (fun c14 => ?_) (fun c14 => ?_)
    · have hg := (pm_bl_if _).yes c14
      obtain ⟨f1, z1, hz1, hz2, hz3, hz4, rfl, hz5, hz6⟩ := sp_plan_of hg
      refine lv_aload_n hx hb dX0_fill_20 rfl (lv_at hl 0 rfl) ?_
      refine x0_gcn F hX dX0_fill_21 ?_
      refine pm_top (y := nI b.1) (hI.cn) ?_
      refine lv_bipush (v := nI 40) hx hb dX0_fill_24 (by decide) ?_
      refine lv_icmp_ne (tgt := 32) hx hb dX0_fill_26 (by decide) (fun c26 => ?_) (fun c26 => ?_)
      · have h40 : ¬ b.1 = 40 := fun z => c26 (by rw [z])
        refine lv_aload_n hx hb dX0_fill_32 rfl (lv_at hl 0 rfl) ?_
        refine lv_iload_n hx hb dX0_fill_33 rfl (lv_at hl 1 rfl) ?_
        refine pm_calli (rest := []) F hA hX (c0_open l D q a u hI hv1 (by omega)) rfl rfl hG0_open hd0_open ⟨⟨rfl, rfl⟩, Nat.le_of_ble_eq_true rfl, Nat.le_of_ble_eq_true rfl⟩ rfl rfl hl.1 (Nat.le_of_ble_eq_true rfl) dX0_fill_34 ⟨Nat.zero_le _, Nat.zero_le _⟩ (fun r34 u34 H locs hw34 hX => ?_)
        obtain ⟨hr34, hRw⟩ := hw34
        refine pm_top (y := nI b.1) (hr34) ?_
        refine lv_istore (lv' := [(5, .int (nI b.1)), (0, .ref (q 0)), (1, .int (nI v1)), (2, .int (nI (f1 * 16 + z1))), (3, .int x), (4, .int t)]) hx hb dX0_fill_37 hl (by decide) rfl (fun ls hl => ?_)
        refine lv_iload_n hx hb dX0_fill_39 rfl (lv_at hl 3 rfl) ?_
        refine lv_iconst (v := 4) hx hb dX0_fill_40 (by decide) ?_
        refine lv_ishr hx hb dX0_fill_41 ?_
        refine pm_top (y := nI f1) ((pm_planz hz1 hz2 hz4).2) ?_
        refine lv_istore (lv' := [(6, .int (nI f1)), (5, .int (nI b.1)), (0, .ref (q 0)), (1, .int (nI v1)), (2, .int (nI (f1 * 16 + z1))), (3, .int x), (4, .int t)]) hx hb dX0_fill_42 hl (by decide) rfl (fun ls hl => ?_)
        refine lv_iconst (v := nI 0) hx hb dX0_fill_44 (by decide) ?_
        refine lv_istore (lv' := [(7, .int (nI 0)), (6, .int (nI f1)), (5, .int (nI b.1)), (0, .ref (q 0)), (1, .int (nI v1)), (2, .int (nI (f1 * 16 + z1))), (3, .int x), (4, .int t)]) hx hb dX0_fill_45 hl (by decide) rfl (fun ls hl => ?_)
        have loop : ∀ (N i : Nat) (u2 : pm_S0) (n2 : Nat) (H : Heap) (locs : List Loc) (ls : Array Slot), i + N = z1 → n2 ≤ ne + 2 * i → pm_Rw u2.1 (pm_fil (pm_opn b v1) b.1 f1 x t i) n2 b.1 → pm_X D A s (pm_t0 a) (pm_w0 q a) u2 H locs → lv_has ls 8 [(7, .int (nI i)), (6, .int (nI f1)), (5, .int (nI b.1)), (0, .ref (q 0)), (1, .int (nI v1)), (2, .int (nI (f1 * 16 + z1))), (3, .int x), (4, .int t)] → W p l e (pm_rm 3) s m args below meth c H locs 0 0 Q (F0 m 47 ls []) := by
          intro N
          induction N with
          | zero =>
            intro i u2 n2 H locs ls hi hn2 hR2 hX hl
            refine lv_iload hx hb dX0_fill_47 (lv_at hl 0 rfl) ?_
            refine lv_iload_n hx hb dX0_fill_49 rfl (lv_at hl 5 rfl) ?_
            refine lv_bipush (v := 15) hx hb dX0_fill_50 (by decide) ?_
            refine lv_iand hx hb dX0_fill_52 ?_
            refine pm_top (y := nI z1) ((pm_planz hz1 hz2 hz4).1) ?_
            refine lv_icmp_ge (tgt := 81) hx hb dX0_fill_53 (by decide) (fun c53 => ?_) (fun c53 => ?_)
            · refine lv_iload hx hb dX0_fill_81 (lv_at hl 2 rfl) ?_
              exact hret (nI b.1) u2 _ _ 83 ls hX (⟨pm_fil (pm_opn b v1) b.1 f1 x t i, by unfold sp_fill; rw [pm_clN (by omega), hz5, hz6, show i = z1 by omega]; exact sp_mk_4 hv hg h40, n2, by rw [pm_fil_n]; show n2 ≤ 16 * (b.1 + 1 - 1); omega, hR2.r0⟩) (rfl) dX0_fill_83
            · exact absurd (nI_le (by omega) (by omega)) c53
          | succ N ih =>
            intro i u2 n2 H locs ls hi hn2 hR2 hX hl
            refine lv_iload hx hb dX0_fill_47 (lv_at hl 0 rfl) ?_
            refine lv_iload_n hx hb dX0_fill_49 rfl (lv_at hl 5 rfl) ?_
            refine lv_bipush (v := 15) hx hb dX0_fill_50 (by decide) ?_
            refine lv_iand hx hb dX0_fill_52 ?_
            refine pm_top (y := nI z1) ((pm_planz hz1 hz2 hz4).1) ?_
            refine lv_icmp_ge (tgt := 81) hx hb dX0_fill_53 (by decide) (fun c53 => ?_) (fun c53 => ?_)
            · exact absurd c53 (nI_ge (by omega) (by omega))
            · refine lv_aload_n hx hb dX0_fill_56 rfl (lv_at hl 3 rfl) ?_
              refine lv_iload hx hb dX0_fill_57 (lv_at hl 2 rfl) ?_
              refine lv_iload hx hb dX0_fill_59 (lv_at hl 1 rfl) ?_
              refine lv_iload hx hb dX0_fill_61 (lv_at hl 0 rfl) ?_
              refine lv_iadd hx hb dX0_fill_63 ?_
              refine pm_top (y := nI (f1 + i)) (nI_add f1 i) ?_
              refine lv_iconst (v := 1) hx hb dX0_fill_64 (by decide) ?_
              refine lv_iload_n hx hb dX0_fill_65 rfl (lv_at hl 6 rfl) ?_
              refine lv_iload hx hb dX0_fill_66 (lv_at hl 0 rfl) ?_
              refine lv_iload hx hb dX0_fill_68 (lv_at hl 7 rfl) ?_
              refine lv_imul hx hb dX0_fill_70 ?_
              refine lv_iadd hx hb dX0_fill_71 ?_
              refine pm_callv (rest := []) F hA hX (c0_write l D q a u2 hR2 (by rw [pm_fil_n]; show b.1 < b.1 + 1; omega) (kk := f1 + i) (by omega) (by omega) 1 (x + nI i * t) (by decide)) rfl rfl hG0_write hd0_write ⟨⟨rfl, rfl⟩, Nat.le_of_ble_eq_true rfl, Nat.le_of_ble_eq_true rfl⟩ rfl rfl hl.1 (Nat.le_of_ble_eq_true rfl) dX0_fill_72 ⟨Nat.zero_le _, Nat.zero_le _⟩ (fun u3 H locs hw72 hX => ?_)
              obtain ⟨n3, h1, h2, h3⟩ := hw72
              refine lv_iinc (v := nI (i + 1)) (lv' := [(7, .int (nI (i + 1))), (6, .int (nI f1)), (5, .int (nI b.1)), (0, .ref (q 0)), (1, .int (nI v1)), (2, .int (nI (f1 * 16 + z1))), (3, .int x), (4, .int t)]) hx hb dX0_fill_75 hl (k := 0) rfl (nI_1 i) (by decide) rfl (fun ls hl => ?_)
              refine lv_goto (tgt := 47) hx hb dX0_fill_78 (by decide) ?_
              exact ih (i + 1) u3 n3 _ _ ls (by omega) (by omega) h3 hX (lv_sub hl [0, 1, 2, 3, 4, 5, 6, 7] rfl)
        exact loop z1 0 _ ne _ _ ls (by omega) (by omega) hRw hX (lv_sub hl [0, 1, 2, 3, 4, 5, 6, 7] rfl)
      · have h40 : b.1 = 40 := pm_eqN (by omega) (by omega) c26
        refine lv_bipush (v := (-3)) hx hb dX0_fill_29 (by decide) ?_
        exact hret (-3) u _ _ 31 ls hX (⟨b, sp_mk_3 hv hg h40, ne, hne, hI⟩) (rfl) dX0_fill_31
    · have hg := (pm_bl_if _).no c14
      refine lv_bipush (v := (-2)) hx hb dX0_fill_17 (by decide) ?_
      exact hret (-2) u _ _ 19 ls hX (⟨b, sp_mk_2 hv hg, ne, hne, hI⟩) (rfl) dX0_fill_19
  · have hv := hb2.no c5
    refine lv_iconst (v := (-1)) hx hb dX0_fill_8 (by decide) ?_
    exact hret (-1) u _ _ 9 ls hX (⟨b, sp_mk_1 hv, ne, hne, hI⟩) (rfl) dX0_fill_9

set_option maxHeartbeats 4000000 in
set_option maxRecDepth 100000 in
theorem c0_graft (l : Launch) (D : va_G) (q : Nat → Nat) (a : Nat → ClassId) (u : pm_S0) {b : pm_AB} {ne : Nat} (hI : pm_R0 u.1 b ne) (hne : ne ≤ 16 * (b.1 - 1)) (v w g : Int32) : pm_Mi l yX0_graft cX0_graft 7 .int (pm_rm 3) D (pm_t0 a) (pm_w0 q a) [.ref (q 0), .int v, .int w, .int g] u (fun r u' => ∃ x9, sp_graft b v w g r x9 ∧ pm_Rc u'.1 x9) := by
  refine pm_Mi_of (by decide) (Nat.le_of_ble_eq_true rfl) ?_
  intro p e s m below meth c A args Q ls F hA hret hX hl
  have hx := F.1
  have hb := F.2.1
  have hl : lv_has ls 7 [(0, .ref (q 0)), (1, .int v), (2, .int w), (3, .int g)] := hl
  have hn := hI.n40
  have hn1 := hI.iv.1.1
  refine lv_aload_n hx hb dX0_graft_0 rfl (lv_at hl 0 rfl) ?_
  refine lv_iload_n hx hb dX0_graft_1 rfl (lv_at hl 1 rfl) ?_
  refine pm_calli (rest := []) F hA hX (c0_isVersion l D q a u v) rfl rfl hG0_isVersion hd0_isVersion ⟨⟨rfl, rfl⟩, Nat.le_of_ble_eq_true rfl, Nat.le_of_ble_eq_true rfl⟩ rfl rfl hl.1 (Nat.le_of_ble_eq_true rfl) dX0_graft_2 ⟨Nat.zero_le _, Nat.zero_le _⟩ (fun r2 u2 H locs hw2 hX => ?_)
  rw [hw2.2] at hX
  have hb2 := hI.okv hw2.1
  refine lv_if_eq (tgt := 16) hx hb dX0_graft_5 (by decide) (fun c5 => ?_) (fun c5 => ?_)
  · have hv := hb2.no c5
    refine lv_iconst (v := (-1)) hx hb dX0_graft_16 (by decide) ?_
    exact hret (-1) u _ _ 17 ls hX (⟨b, sp_mk_1 (fun z => hv z.1), ne, hne, hI⟩) (rfl) dX0_graft_17
  · have hv := hb2.yes c5
    obtain ⟨v1, hv1, rfl⟩ := sp_ok_of hn hv
    refine lv_aload_n hx hb dX0_graft_8 rfl (lv_at hl 0 rfl) ?_
    refine lv_iload_n hx hb dX0_graft_9 rfl (lv_at hl 2 rfl) ?_
    refine pm_calli (rest := []) F hA hX (c0_isVersion l D q a u w) rfl rfl hG0_isVersion hd0_isVersion ⟨⟨rfl, rfl⟩, Nat.le_of_ble_eq_true rfl, Nat.le_of_ble_eq_true rfl⟩ rfl rfl hl.1 (Nat.le_of_ble_eq_true rfl) dX0_graft_10 ⟨Nat.zero_le _, Nat.zero_le _⟩ (fun r10 u10 H locs hw10 hX => ?_)
    rw [hw10.2] at hX
    have hb10 := hI.okv hw10.1
    refine lv_if_ne (tgt := 18) hx hb dX0_graft_13 (by decide) (fun c13 => ?_) (fun c13 => ?_)
    · have hw := hb10.yes c13
      obtain ⟨w1, hw1, rfl⟩ := sp_ok_of hn hw
      refine lv_iload_n hx hb dX0_graft_18 rfl (lv_at hl 3 rfl) ?_
      refine pm_calls (rest := []) F (c0_isPlan l g) hG0_isPlan hd0_isPlan ⟨⟨rfl, rfl⟩, Nat.le_of_ble_eq_true rfl, Nat.le_of_ble_eq_true rfl⟩ rfl rfl hl.1 (Nat.le_of_ble_eq_true rfl) dX0_graft_19 ⟨Nat.zero_le _, Nat.zero_le _⟩ ?_
      refine lv_if_ne (tgt := 28) hx hb dX0_graft_22 (by decide) (fun c22 => ?_) (fun c22 => ?_)
      · have hg := (pm_bl_if _).yes c22
        obtain ⟨f1, z1, hz1, hz2, hz3, hz4, rfl, hz5, hz6⟩ := sp_plan_of hg
        refine lv_aload_n hx hb dX0_graft_28 rfl (lv_at hl 0 rfl) ?_
        refine x0_gcn F hX dX0_graft_29 ?_
        refine pm_top (y := nI b.1) (hI.cn) ?_
        refine lv_bipush (v := nI 40) hx hb dX0_graft_32 (by decide) ?_
        refine lv_icmp_ne (tgt := 40) hx hb dX0_graft_34 (by decide) (fun c34 => ?_) (fun c34 => ?_)
        · have h40 : ¬ b.1 = 40 := fun z => c34 (by rw [z])
          refine lv_aload_n hx hb dX0_graft_40 rfl (lv_at hl 0 rfl) ?_
          refine lv_iload_n hx hb dX0_graft_41 rfl (lv_at hl 1 rfl) ?_
          refine pm_calli (rest := []) F hA hX (c0_open l D q a u hI hv1 (by omega)) rfl rfl hG0_open hd0_open ⟨⟨rfl, rfl⟩, Nat.le_of_ble_eq_true rfl, Nat.le_of_ble_eq_true rfl⟩ rfl rfl hl.1 (Nat.le_of_ble_eq_true rfl) dX0_graft_42 ⟨Nat.zero_le _, Nat.zero_le _⟩ (fun r42 u42 H locs hw42 hX => ?_)
          obtain ⟨hr42, hRw⟩ := hw42
          refine pm_top (y := nI b.1) (hr42) ?_
          refine lv_istore (lv' := [(4, .int (nI b.1)), (0, .ref (q 0)), (1, .int (nI v1)), (2, .int (nI w1)), (3, .int (nI (f1 * 16 + z1)))]) hx hb dX0_graft_45 hl (by decide) rfl (fun ls hl => ?_)
          refine lv_iload_n hx hb dX0_graft_47 rfl (lv_at hl 4 rfl) ?_
          refine lv_iconst (v := 4) hx hb dX0_graft_48 (by decide) ?_
          refine lv_ishr hx hb dX0_graft_49 ?_
          refine pm_top (y := nI f1) ((pm_planz hz1 hz2 hz4).2) ?_
          refine lv_istore (lv' := [(5, .int (nI f1)), (4, .int (nI b.1)), (0, .ref (q 0)), (1, .int (nI v1)), (2, .int (nI w1)), (3, .int (nI (f1 * 16 + z1)))]) hx hb dX0_graft_50 hl (by decide) rfl (fun ls hl => ?_)
          refine lv_iconst (v := nI 0) hx hb dX0_graft_52 (by decide) ?_
          refine lv_istore (lv' := [(6, .int (nI 0)), (5, .int (nI f1)), (4, .int (nI b.1)), (0, .ref (q 0)), (1, .int (nI v1)), (2, .int (nI w1)), (3, .int (nI (f1 * 16 + z1)))]) hx hb dX0_graft_53 hl (by decide) rfl (fun ls hl => ?_)
          have loop : ∀ (N i : Nat) (u2 : pm_S0) (n2 : Nat) (H : Heap) (locs : List Loc) (ls : Array Slot), i + N = z1 → n2 ≤ ne + 2 * i → pm_Rw u2.1 (pm_grf (pm_opn b v1) b.1 w1 f1 i) n2 b.1 → pm_X D A s (pm_t0 a) (pm_w0 q a) u2 H locs → lv_has ls 7 [(6, .int (nI i)), (5, .int (nI f1)), (4, .int (nI b.1)), (0, .ref (q 0)), (1, .int (nI v1)), (2, .int (nI w1)), (3, .int (nI (f1 * 16 + z1)))] → W p l e (pm_rm 3) s m args below meth c H locs 0 0 Q (F0 m 55 ls []) := by
            intro N
            induction N with
            | zero =>
              intro i u2 n2 H locs ls hi hn2 hR2 hX hl
              refine lv_iload hx hb dX0_graft_55 (lv_at hl 0 rfl) ?_
              refine lv_iload_n hx hb dX0_graft_57 rfl (lv_at hl 6 rfl) ?_
              refine lv_bipush (v := 15) hx hb dX0_graft_58 (by decide) ?_
              refine lv_iand hx hb dX0_graft_60 ?_
              refine pm_top (y := nI z1) ((pm_planz hz1 hz2 hz4).1) ?_
              refine lv_icmp_ge (tgt := 99) hx hb dX0_graft_61 (by decide) (fun c61 => ?_) (fun c61 => ?_)
              · refine lv_iload hx hb dX0_graft_99 (lv_at hl 2 rfl) ?_
                exact hret (nI b.1) u2 _ _ 101 ls hX (⟨(pm_grf (pm_opn b v1) b.1 w1 f1 i), by unfold sp_graft; rw [pm_clN (by omega), pm_clN (by omega), hz5, hz6, show i = z1 by omega]; exact sp_mk_4 ⟨hv, hw⟩ hg h40, n2, by rw [pm_grf_n]; show n2 ≤ 16 * (b.1 + 1 - 1); omega, hR2.r0⟩) (rfl) dX0_graft_101
              · exact absurd (nI_le (by omega) (by omega)) c61
            | succ N ih =>
              intro i u2 n2 H locs ls hi hn2 hR2 hX hl
              have hbn : (pm_grf (pm_opn b v1) b.1 w1 f1 i).1 = b.1 + 1 := pm_grf_n _ _ _ _ _
              have hold : (pm_grf (pm_opn b v1) b.1 w1 f1 i).2.2 w1 (f1 + i) = (pm_opn b v1).2.2 w1 (f1 + i) := pm_grf_old _ _ _ _ _ (by omega) _
              generalize hoo : (pm_opn b v1).2.2 w1 (f1 + i) = oo at hold
              refine lv_iload hx hb dX0_graft_55 (lv_at hl 0 rfl) ?_
              refine lv_iload_n hx hb dX0_graft_57 rfl (lv_at hl 6 rfl) ?_
              refine lv_bipush (v := 15) hx hb dX0_graft_58 (by decide) ?_
              refine lv_iand hx hb dX0_graft_60 ?_
              refine pm_top (y := nI z1) ((pm_planz hz1 hz2 hz4).1) ?_
              refine lv_icmp_ge (tgt := 99) hx hb dX0_graft_61 (by decide) (fun c61 => ?_) (fun c61 => ?_)
              · exact absurd c61 (nI_ge (by omega) (by omega))
              · refine lv_aload_n hx hb dX0_graft_64 rfl (lv_at hl 3 rfl) ?_
                refine lv_iload_n hx hb dX0_graft_65 rfl (lv_at hl 5 rfl) ?_
                refine lv_iload hx hb dX0_graft_66 (lv_at hl 1 rfl) ?_
                refine lv_iload hx hb dX0_graft_68 (lv_at hl 0 rfl) ?_
                refine lv_iadd hx hb dX0_graft_70 ?_
                refine pm_top (y := nI (f1 + i)) (nI_add f1 i) ?_
                refine pm_callv (rest := []) F hA hX (c0_look l D q a u2 hR2.r0 (v := w1) (kk := f1 + i) (by omega) (by omega)) rfl rfl hG0_look hd0_look ⟨⟨rfl, rfl⟩, Nat.le_of_ble_eq_true rfl, Nat.le_of_ble_eq_true rfl⟩ rfl rfl hl.1 (Nat.le_of_ble_eq_true rfl) dX0_graft_71 ⟨Nat.zero_le _, Nat.zero_le _⟩ (fun u71 H locs hw71 hX => ?_)
                rw [hw71, hold] at hX
                refine lv_aload_n hx hb dX0_graft_74 rfl (lv_at hl 3 rfl) ?_
                refine lv_iload hx hb dX0_graft_75 (lv_at hl 2 rfl) ?_
                refine lv_iload hx hb dX0_graft_77 (lv_at hl 1 rfl) ?_
                refine lv_iload hx hb dX0_graft_79 (lv_at hl 0 rfl) ?_
                refine lv_iadd hx hb dX0_graft_81 ?_
                refine pm_top (y := nI (f1 + i)) (nI_add f1 i) ?_
                refine lv_aload_n hx hb dX0_graft_82 rfl (lv_at hl 3 rfl) ?_
                refine x0_gtn F hX dX0_graft_83 ?_
                refine pm_top (y := pm_on oo) (rfl) ?_
                refine lv_aload_n hx hb dX0_graft_86 rfl (lv_at hl 3 rfl) ?_
                refine x0_gvn F hX dX0_graft_87 ?_
                refine pm_top (y := oo.getD 0) (rfl) ?_
                refine pm_callv (rest := []) F hA hX (c0_write l D q a (u2.1, pm_on oo, oo.getD 0) (b := (pm_grf (pm_opn b v1) b.1 w1 f1 i)) (ne := n2) (n0 := b.1) hR2 (by omega) (kk := f1 + i) (by omega) (by omega) (pm_on oo) (oo.getD 0) (pm_on_bit oo)) rfl rfl hG0_write hd0_write ⟨⟨rfl, rfl⟩, Nat.le_of_ble_eq_true rfl, Nat.le_of_ble_eq_true rfl⟩ rfl rfl hl.1 (Nat.le_of_ble_eq_true rfl) dX0_graft_90 ⟨Nat.zero_le _, Nat.zero_le _⟩ (fun u3 H locs hw90 hX => ?_)
                obtain ⟨n3, h1, h2, h3⟩ := hw90
                rw [pm_on_val, ← hoo] at h3
                refine lv_iinc (v := nI (i + 1)) (lv' := [(6, .int (nI (i + 1))), (5, .int (nI f1)), (4, .int (nI b.1)), (0, .ref (q 0)), (1, .int (nI v1)), (2, .int (nI w1)), (3, .int (nI (f1 * 16 + z1)))]) hx hb dX0_graft_93 hl (k := 0) rfl (nI_1 i) (by decide) rfl (fun ls hl => ?_)
                refine lv_goto (tgt := 55) hx hb dX0_graft_96 (by decide) ?_
                exact ih (i + 1) u3 n3 _ _ ls (by omega) (by omega) h3 hX (lv_sub hl [0, 1, 2, 3, 4, 5, 6] rfl)
          exact loop z1 0 _ ne _ _ ls (by omega) (by omega) hRw hX (lv_sub hl [0, 1, 2, 3, 4, 5, 6] rfl)
        · have h40 : b.1 = 40 := pm_eqN (by omega) (by omega) c34
          refine lv_bipush (v := (-3)) hx hb dX0_graft_37 (by decide) ?_
          exact hret (-3) u _ _ 39 ls hX (⟨b, sp_mk_3 ⟨hv, hw⟩ hg h40, ne, hne, hI⟩) (rfl) dX0_graft_39
      · have hg := (pm_bl_if _).no c22
        refine lv_bipush (v := (-2)) hx hb dX0_graft_25 (by decide) ?_
        exact hret (-2) u _ _ 27 ls hX (⟨b, sp_mk_2 ⟨hv, hw⟩ hg, ne, hne, hI⟩) (rfl) dX0_graft_27
    · have hw := hb10.no c13
      refine lv_iconst (v := (-1)) hx hb dX0_graft_16 (by decide) ?_
      exact hret (-1) u _ _ 17 ls hX (⟨b, sp_mk_1 (fun z => hw z.2), ne, hne, hI⟩) (rfl) dX0_graft_17

set_option maxHeartbeats 4000000 in
set_option maxRecDepth 100000 in
theorem c0_exchange (l : Launch) (D : va_G) (q : Nat → Nat) (a : Nat → ClassId) (u : pm_S0) {b : pm_AB} {ne : Nat} (hI : pm_R0 u.1 b ne) (hne : ne ≤ 16 * (b.1 - 1)) (v i j : Int32) : pm_Mi l yX0_exchange cX0_exchange 7 .int (pm_rm 3) D (pm_t0 a) (pm_w0 q a) [.ref (q 0), .int v, .int i, .int j] u (fun r u' => ∃ x9, sp_exchange b v i j r x9 ∧ pm_Rc u'.1 x9) := by
  refine pm_Mi_of (by decide) (Nat.le_of_ble_eq_true rfl) ?_
  intro p e s m below meth c A args Q ls F hA hret hX hl
  have hx := F.1
  have hb := F.2.1
  have hl : lv_has ls 7 [(0, .ref (q 0)), (1, .int v), (2, .int i), (3, .int j)] := hl
  have hn := hI.n40
  have hn1 := hI.iv.1.1
  refine lv_aload_n hx hb dX0_exchange_0 rfl (lv_at hl 0 rfl) ?_
  refine lv_iload_n hx hb dX0_exchange_1 rfl (lv_at hl 1 rfl) ?_
  refine pm_calli (rest := []) F hA hX (c0_isVersion l D q a u v) rfl rfl hG0_isVersion hd0_isVersion ⟨⟨rfl, rfl⟩, Nat.le_of_ble_eq_true rfl, Nat.le_of_ble_eq_true rfl⟩ rfl rfl hl.1 (Nat.le_of_ble_eq_true rfl) dX0_exchange_2 ⟨Nat.zero_le _, Nat.zero_le _⟩ (fun r2 u2 H locs hw2 hX => ?_)
  rw [hw2.2] at hX
  have hb2 := hI.okv hw2.1
  refine lv_if_ne (tgt := 10) hx hb dX0_exchange_5 (by decide) (fun c5 => ?_) (fun c5 => ?_)
  · have hv := hb2.yes c5
    obtain ⟨v1, hv1, rfl⟩ := sp_ok_of hn hv
    refine lv_iload_n hx hb dX0_exchange_10 rfl (lv_at hl 2 rfl) ?_
    refine pm_calls (rest := []) F (c0_isKey l i) hG0_isKey hd0_isKey ⟨⟨rfl, rfl⟩, Nat.le_of_ble_eq_true rfl, Nat.le_of_ble_eq_true rfl⟩ rfl rfl hl.1 (Nat.le_of_ble_eq_true rfl) dX0_exchange_11 ⟨Nat.zero_le _, Nat.zero_le _⟩ ?_
    refine lv_if_eq (tgt := 24) hx hb dX0_exchange_14 (by decide) (fun c14 => ?_) (fun c14 => ?_)
    · have hi := (pm_bl_if _).no c14
      refine lv_bipush (v := (-2)) hx hb dX0_exchange_24 (by decide) ?_
      exact hret (-2) u _ _ 26 ls hX (⟨b, sp_mk_2 hv (fun z => hi z.1), ne, hne, hI⟩) (rfl) dX0_exchange_26
    · have hi := (pm_bl_if _).yes c14
      obtain ⟨i1, hi1, rfl⟩ := sp_key_of hi
      refine lv_iload_n hx hb dX0_exchange_17 rfl (lv_at hl 3 rfl) ?_
      refine pm_calls (rest := []) F (c0_isKey l j) hG0_isKey hd0_isKey ⟨⟨rfl, rfl⟩, Nat.le_of_ble_eq_true rfl, Nat.le_of_ble_eq_true rfl⟩ rfl rfl hl.1 (Nat.le_of_ble_eq_true rfl) dX0_exchange_18 ⟨Nat.zero_le _, Nat.zero_le _⟩ ?_
      refine lv_if_ne (tgt := 27) hx hb dX0_exchange_21 (by decide) (fun c21 => ?_) (fun c21 => ?_)
      · have hj := (pm_bl_if _).yes c21
        obtain ⟨j1, hj1, rfl⟩ := sp_key_of hj
        refine lv_aload_n hx hb dX0_exchange_27 rfl (lv_at hl 0 rfl) ?_
        refine x0_gcn F hX dX0_exchange_28 ?_
        refine pm_top (y := nI b.1) (hI.cn) ?_
        refine lv_bipush (v := nI 40) hx hb dX0_exchange_31 (by decide) ?_
        refine lv_icmp_ne (tgt := 39) hx hb dX0_exchange_33 (by decide) (fun c33 => ?_) (fun c33 => ?_)
        · have h40 : ¬ b.1 = 40 := fun z => c33 (by rw [z])
          refine lv_aload_n hx hb dX0_exchange_39 rfl (lv_at hl 0 rfl) ?_
          refine lv_iload_n hx hb dX0_exchange_40 rfl (lv_at hl 1 rfl) ?_
          refine pm_calli (rest := []) F hA hX (c0_open l D q a u hI hv1 (by omega)) rfl rfl hG0_open hd0_open ⟨⟨rfl, rfl⟩, Nat.le_of_ble_eq_true rfl, Nat.le_of_ble_eq_true rfl⟩ rfl rfl hl.1 (Nat.le_of_ble_eq_true rfl) dX0_exchange_41 ⟨Nat.zero_le _, Nat.zero_le _⟩ (fun r41 u41 H locs hw41 hX => ?_)
          obtain ⟨hr41, hRw⟩ := hw41
          refine pm_top (y := nI b.1) (hr41) ?_
          refine lv_istore (lv' := [(4, .int (nI b.1)), (0, .ref (q 0)), (1, .int (nI v1)), (2, .int (nI i1)), (3, .int (nI j1))]) hx hb dX0_exchange_44 hl (by decide) rfl (fun ls hl => ?_)
          refine lv_aload_n hx hb dX0_exchange_46 rfl (lv_at hl 1 rfl) ?_
          refine lv_iload_n hx hb dX0_exchange_47 rfl (lv_at hl 2 rfl) ?_
          refine lv_iload_n hx hb dX0_exchange_48 rfl (lv_at hl 3 rfl) ?_
          refine pm_callv (rest := []) F hA hX (c0_look l D q a u41 hRw.r0 (v := v1) (kk := i1) (by show v1 < b.1 + 1; omega) hi1) rfl rfl hG0_look hd0_look ⟨⟨rfl, rfl⟩, Nat.le_of_ble_eq_true rfl, Nat.le_of_ble_eq_true rfl⟩ rfl rfl hl.1 (Nat.le_of_ble_eq_true rfl) dX0_exchange_49 ⟨Nat.zero_le _, Nat.zero_le _⟩ (fun u49 H locs hw49 hX => ?_)
          rw [hw49, pm_opn_old hv1] at hX
          refine lv_aload_n hx hb dX0_exchange_52 rfl (lv_at hl 1 rfl) ?_
          refine x0_gtn F hX dX0_exchange_53 ?_
          refine pm_top (y := pm_on (b.2.2 v1 i1)) (rfl) ?_
          refine lv_istore (lv' := [(5, .int (pm_on (b.2.2 v1 i1))), (4, .int (nI b.1)), (0, .ref (q 0)), (1, .int (nI v1)), (2, .int (nI i1)), (3, .int (nI j1))]) hx hb dX0_exchange_56 hl (by decide) rfl (fun ls hl => ?_)
          refine lv_aload_n hx hb dX0_exchange_58 rfl (lv_at hl 2 rfl) ?_
          refine x0_gvn F hX dX0_exchange_59 ?_
          refine pm_top (y := (b.2.2 v1 i1).getD 0) (rfl) ?_
          refine lv_istore (lv' := [(6, .int ((b.2.2 v1 i1).getD 0)), (5, .int (pm_on (b.2.2 v1 i1))), (4, .int (nI b.1)), (0, .ref (q 0)), (1, .int (nI v1)), (2, .int (nI i1)), (3, .int (nI j1))]) hx hb dX0_exchange_62 hl (by decide) rfl (fun ls hl => ?_)
          refine lv_aload_n hx hb dX0_exchange_64 rfl (lv_at hl 3 rfl) ?_
          refine lv_iload_n hx hb dX0_exchange_65 rfl (lv_at hl 4 rfl) ?_
          refine lv_iload_n hx hb dX0_exchange_66 rfl (lv_at hl 6 rfl) ?_
          refine pm_callv (rest := []) F hA hX (c0_look l D q a (u41.1, pm_on (b.2.2 v1 i1), (b.2.2 v1 i1).getD 0) (b := (pm_opn b v1)) (ne := ne) hRw.r0 (v := v1) (kk := j1) (by show v1 < b.1 + 1; omega) hj1) rfl rfl hG0_look hd0_look ⟨⟨rfl, rfl⟩, Nat.le_of_ble_eq_true rfl, Nat.le_of_ble_eq_true rfl⟩ rfl rfl hl.1 (Nat.le_of_ble_eq_true rfl) dX0_exchange_67 ⟨Nat.zero_le _, Nat.zero_le _⟩ (fun u67 H locs hw67 hX => ?_)
          rw [hw67, pm_opn_old hv1] at hX
          refine lv_aload_n hx hb dX0_exchange_70 rfl (lv_at hl 3 rfl) ?_
          refine lv_iload hx hb dX0_exchange_71 (lv_at hl 2 rfl) ?_
          refine lv_iload_n hx hb dX0_exchange_73 rfl (lv_at hl 5 rfl) ?_
          refine lv_aload_n hx hb dX0_exchange_74 rfl (lv_at hl 3 rfl) ?_
          refine x0_gtn F hX dX0_exchange_75 ?_
          refine pm_top (y := pm_on (b.2.2 v1 j1)) (rfl) ?_
          refine lv_aload_n hx hb dX0_exchange_78 rfl (lv_at hl 3 rfl) ?_
          refine x0_gvn F hX dX0_exchange_79 ?_
          refine pm_top (y := (b.2.2 v1 j1).getD 0) (rfl) ?_
          refine pm_callv (rest := []) F hA hX (c0_write l D q a (u41.1, pm_on (b.2.2 v1 j1), (b.2.2 v1 j1).getD 0) (b := (pm_opn b v1)) (ne := ne) (n0 := b.1) hRw (by show b.1 < b.1 + 1; omega) hi1 (by omega) (pm_on (b.2.2 v1 j1)) ((b.2.2 v1 j1).getD 0) (pm_on_bit _)) rfl rfl hG0_write hd0_write ⟨⟨rfl, rfl⟩, Nat.le_of_ble_eq_true rfl, Nat.le_of_ble_eq_true rfl⟩ rfl rfl hl.1 (Nat.le_of_ble_eq_true rfl) dX0_exchange_82 ⟨Nat.zero_le _, Nat.zero_le _⟩ (fun u82 H locs hw82 hX => ?_)
          obtain ⟨ne2, h1, h2, h3⟩ := hw82
          rw [pm_on_val] at h3
          refine lv_aload_n hx hb dX0_exchange_85 rfl (lv_at hl 3 rfl) ?_
          refine lv_iload hx hb dX0_exchange_86 (lv_at hl 2 rfl) ?_
          refine lv_iload_n hx hb dX0_exchange_88 rfl (lv_at hl 6 rfl) ?_
          refine lv_iload hx hb dX0_exchange_89 (lv_at hl 1 rfl) ?_
          refine lv_iload hx hb dX0_exchange_91 (lv_at hl 0 rfl) ?_
          refine pm_callv (rest := []) F hA hX (c0_write l D q a u82 h3 (by show b.1 < b.1 + 1; omega) hj1 (by omega) (pm_on (b.2.2 v1 i1)) ((b.2.2 v1 i1).getD 0) (pm_on_bit _)) rfl rfl hG0_write hd0_write ⟨⟨rfl, rfl⟩, Nat.le_of_ble_eq_true rfl, Nat.le_of_ble_eq_true rfl⟩ rfl rfl hl.1 (Nat.le_of_ble_eq_true rfl) dX0_exchange_93 ⟨Nat.zero_le _, Nat.zero_le _⟩ (fun u93 H locs hw93 hX => ?_)
          obtain ⟨ne3, h4, h5, h6⟩ := hw93
          rw [pm_on_val] at h6
          refine lv_iload hx hb dX0_exchange_96 (lv_at hl 2 rfl) ?_
          exact hret (nI b.1) u93 _ _ 98 ls hX (⟨pm_wr (pm_wr (pm_opn b v1) b.1 i1 (b.2.2 v1 j1)) b.1 j1 (b.2.2 v1 i1), by unfold sp_exchange; rw [pm_clN (by omega), pm_clN (by omega), pm_clN (by omega)]; exact sp_mk_4 hv ⟨hi, hj⟩ h40, ne3, by show ne3 ≤ 16 * (b.1 + 1 - 1); omega, h6.r0⟩) (rfl) dX0_exchange_98
        · have h40 : b.1 = 40 := pm_eqN (by omega) (by omega) c33
          refine lv_bipush (v := (-3)) hx hb dX0_exchange_36 (by decide) ?_
          exact hret (-3) u _ _ 38 ls hX (⟨b, sp_mk_3 hv ⟨hi, hj⟩ h40, ne, hne, hI⟩) (rfl) dX0_exchange_38
      · have hj := (pm_bl_if _).no c21
        refine lv_bipush (v := (-2)) hx hb dX0_exchange_24 (by decide) ?_
        exact hret (-2) u _ _ 26 ls hX (⟨b, sp_mk_2 hv (fun z => hj z.2), ne, hne, hI⟩) (rfl) dX0_exchange_26
  · have hv := hb2.no c5
    refine lv_iconst (v := (-1)) hx hb dX0_exchange_8 (by decide) ?_
    exact hret (-1) u _ _ 9 ls hX (⟨b, sp_mk_1 hv, ne, hne, hI⟩) (rfl) dX0_exchange_9
end
section
/-! ===== PersistentMapModel: bad, badKey, badPlan, leads, agree, give, copy, make ===== -/
theorem pm_bl.nn {r : Int32} {P : Prop} (h : pm_bl r (¬ P)) (c : r = 0) : P := Classical.byContradiction (fun z => h.no c z)
theorem pm_R1.on {u : pm_S1} {b : pm_AB} (h : pm_R1 u b) {v k : Nat} (hv : v < b.1) (hk : k < 32) : r_th u (32 * v + k) = pm_on (b.2.2 v k) := by
  obtain ⟨h1, h2⟩ := h.2.2 v k hv hk
  rw [h2]
  rcases h1 with z | z
  · rw [z]; rfl
  · rw [z]; rfl
theorem pm_R1.wo {u : pm_S1} {b : pm_AB} (h : pm_R1 u b) {v k : Nat} (hv : v < b.1) (hk : k < 32) (hs : (b.2.2 v k).isSome = true) : r_wo u (32 * v + k) = (b.2.2 v k).getD 0 := by
  obtain ⟨h1, h2⟩ := h.2.2 v k hv hk
  rcases h1 with z | z
  · rw [h2, if_neg (by rw [z]; decide)] at hs; cases hs
  · rw [h2, if_pos z]; rfl
theorem pm_R1.set {u : pm_S1} {b : pm_AB} (h : pm_R1 u b) {v k : Nat} (hv : v < b.1) (hk : k < 32) {t : Int32} (ht : t = 0 ∨ t = 1) (x : Int32) : pm_R1 (r_swo (r_sth u (upd (r_th u) (32 * v + k) t)) (upd (r_wo u) (32 * v + k) x)) (pm_wr b v k (if t = 1 then some x else none)) := by
  refine ⟨h.1, h.2.1, fun w j hw hj => ?_⟩
  obtain ⟨h1, h2⟩ := h.2.2 w j hw hj
  show (upd (r_th u) (32 * v + k) t (32 * w + j) = 0 ∨ upd (r_th u) (32 * v + k) t (32 * w + j) = 1) ∧ (if w = v ∧ j = k then (if t = 1 then some x else none) else b.2.2 w j) = if upd (r_th u) (32 * v + k) t (32 * w + j) = 1 then some (upd (r_wo u) (32 * v + k) x (32 * w + j)) else none
  by_cases q : w = v ∧ j = k
  · rw [if_pos q, q.1, q.2, pk_us, pk_us]; exact ⟨ht, rfl⟩
  · rw [if_neg q, pk_un (by omega), pk_un (by omega)]; exact ⟨h1, h2⟩
theorem pm_R1.clr {u : pm_S1} {b : pm_AB} (h : pm_R1 u b) {v k : Nat} (hv : v < b.1) (hk : k < 32) : pm_R1 (r_sth u (upd (r_th u) (32 * v + k) 0)) (pm_wr b v k none) := by
  refine ⟨h.1, h.2.1, fun w j hw hj => ?_⟩
  obtain ⟨h1, h2⟩ := h.2.2 w j hw hj
  show (upd (r_th u) (32 * v + k) 0 (32 * w + j) = 0 ∨ upd (r_th u) (32 * v + k) 0 (32 * w + j) = 1) ∧ (if w = v ∧ j = k then none else b.2.2 w j) = if upd (r_th u) (32 * v + k) 0 (32 * w + j) = 1 then some (r_wo u (32 * w + j)) else none
  by_cases q : w = v ∧ j = k
  · rw [if_pos q, q.1, q.2, pk_us]; exact ⟨Or.inl rfl, rfl⟩
  · rw [if_neg q, pk_un (by omega)]; exact ⟨h1, h2⟩
theorem pm_R1.opn {u : pm_S1} {b : pm_AB} (h : pm_R1 u b) {v : Nat} (hv : v < b.1) (hn : b.1 < 40) {th wo : Nat → Int32} (h1 : ∀ j, j < 32 → th (32 * b.1 + j) = r_th u (32 * v + j) ∧ wo (32 * b.1 + j) = r_wo u (32 * v + j)) (h2 : ∀ i, i < 32 * b.1 → th i = r_th u i ∧ wo i = r_wo u i) : pm_R1 (upd (r_pa u) b.1 (nI v), th, wo, nI (b.1 + 1)) (pm_opn b v) := by
  refine ⟨⟨Nat.le_add_left 1 _, hn, rfl⟩, fun w h0 hw => ?_, fun w j hw hj => ?_⟩
  · have hw : w < b.1 + 1 := hw
    show upd (r_pa u) b.1 (nI v) w = nI (if w = b.1 then v else b.2.1 w) ∧ (if w = b.1 then v else b.2.1 w) < w
    by_cases q : w = b.1
    · rw [q, if_pos rfl, pk_us]; exact ⟨rfl, hv⟩
    · rw [if_neg q, pk_un q]; exact h.2.1 w h0 (by omega)
  · have hw : w < b.1 + 1 := hw
    show (th (32 * w + j) = 0 ∨ th (32 * w + j) = 1) ∧ (if w = b.1 then b.2.2 v j else b.2.2 w j) = if th (32 * w + j) = 1 then some (wo (32 * w + j)) else none
    by_cases q : w = b.1
    · rw [if_pos q, q, (h1 j hj).1, (h1 j hj).2]; exact h.2.2 v j hv hj
    · rw [if_neg q, (h2 (32 * w + j) (by omega)).1, (h2 (32 * w + j) (by omega)).2]; exact h.2.2 w j (by omega) hj
theorem pm_rem16 {p : Nat} (h : p < 2 ^ 31) : nI p - nI p / nI 16 * nI 16 = nI (p % 16) := pk_rem h (by decide) (by decide)
theorem pm_div16 {p : Nat} (h : p < 2 ^ 31) : nI p / nI 16 = nI (p / 16) := pk_div h (by decide) (by decide)
set_option maxHeartbeats 4000000 in
set_option maxRecDepth 100000 in
theorem c1_bad (l : Launch) (D : va_G) (q : Nat → Nat) (a : Nat → ClassId) (u : pm_S1) {b : pm_AB} (hI : pm_R1 u b) (v : Int32) : pm_Mi l yX1_bad cX1_bad 2 .boolean (pm_rm 0) D (pm_t1 a) (pm_w1 q a) [.ref (q 0), .int v] u (fun r u' => pm_bl r (¬ sp_ok b.1 v) ∧ u' = u) := by
  refine pm_Mi_of (by decide) (Nat.le_of_ble_eq_true rfl) ?_
  intro p e s m below meth c A args Q ls F hA hret hX hl
  have hx := F.1
  have hb := F.2.1
  have hl : lv_has ls 2 [(0, .ref (q 0)), (1, .int v)] := hl
  refine lv_iload_n hx hb dX1_bad_0 rfl (lv_at hl 1 rfl) ?_
  refine lv_if_lt (tgt := 18) hx hb dX1_bad_1 (by decide) (fun c1 => ?_) (fun c1 => ?_)
  · refine lv_iconst (v := 1) hx hb dX1_bad_18 (by decide) ?_
    refine lv_goto (tgt := 23) hx hb dX1_bad_19 (by decide) ?_
    exact hret 1 u _ _ 23 ls hX (⟨pm_bl.one (fun z => absurd z.1 (Int32.not_le.mpr c1)), rfl⟩) (rfl) dX1_bad_23
  · refine lv_iload_n hx hb dX1_bad_4 rfl (lv_at hl 1 rfl) ?_
    refine lv_aload_n hx hb dX1_bad_5 rfl (lv_at hl 0 rfl) ?_
    refine x1_gcn F hX dX1_bad_6 ?_
    refine pm_top (y := nI b.1) (hI.1.2.2) ?_
    refine lv_icmp_ge (tgt := 18) hx hb dX1_bad_9 (by decide) (fun c9 => ?_) (fun c9 => ?_)
    · refine lv_iconst (v := 1) hx hb dX1_bad_18 (by decide) ?_
      refine lv_goto (tgt := 23) hx hb dX1_bad_19 (by decide) ?_
      exact hret 1 u _ _ 23 ls hX (⟨pm_bl.one (fun z => absurd z.2 (Int32.not_lt.mpr c9)), rfl⟩) (rfl) dX1_bad_23
    · refine lv_iload_n hx hb dX1_bad_12 rfl (lv_at hl 1 rfl) ?_
      refine lv_bipush (v := nI 39) hx hb dX1_bad_13 (by decide) ?_
      refine lv_icmp_le (tgt := 22) hx hb dX1_bad_15 (by decide) (fun c15 => ?_) (fun c15 => ?_)
      · refine lv_iconst (v := 0) hx hb dX1_bad_22 (by decide) ?_
        exact hret 0 u _ _ 23 ls hX (⟨pm_bl.zero (fun z => z ⟨pm_nneg c1, Int32.not_le.mp c9⟩), rfl⟩) (rfl) dX1_bad_23
      · obtain ⟨j, hj, rfl⟩ := sp_ok_of hI.1.2.1 ⟨pm_nneg c1, Int32.not_le.mp c9⟩
        have := hI.1.2.1
        exact absurd (nI_le (by omega) (by omega)) c15

set_option maxHeartbeats 4000000 in
set_option maxRecDepth 100000 in
theorem c1_badKey (l : Launch) (D : va_G) (q : Nat → Nat) (a : Nat → ClassId) (u : pm_S1) (k : Int32) : pm_Mi l yX1_badKey cX1_badKey 2 .boolean (pm_rm 0) D (pm_t1 a) (pm_w1 q a) [.ref (q 0), .int k] u (fun r u' => pm_bl r (¬ sp_key k) ∧ u' = u) := by
  refine pm_Mi_of (by decide) (Nat.le_of_ble_eq_true rfl) ?_
  intro p e s m below meth c A args Q ls F hA hret hX hl
  have hx := F.1
  have hb := F.2.1
  have hl : lv_has ls 2 [(0, .ref (q 0)), (1, .int k)] := hl
  refine lv_iload_n hx hb dX1_badKey_0 rfl (lv_at hl 1 rfl) ?_
  refine lv_if_lt (tgt := 10) hx hb dX1_badKey_1 (by decide) (fun c1 => ?_) (fun c1 => ?_)
  · refine lv_iconst (v := 1) hx hb dX1_badKey_10 (by decide) ?_
    refine lv_goto (tgt := 15) hx hb dX1_badKey_11 (by decide) ?_
    exact hret 1 u _ _ 15 ls hX (⟨pm_bl.one (fun z => absurd z.1 (Int32.not_le.mpr c1)), rfl⟩) (rfl) dX1_badKey_15
  · refine lv_iload_n hx hb dX1_badKey_4 rfl (lv_at hl 1 rfl) ?_
    refine lv_bipush (v := nI 31) hx hb dX1_badKey_5 (by decide) ?_
    refine lv_icmp_le (tgt := 14) hx hb dX1_badKey_7 (by decide) (fun c7 => ?_) (fun c7 => ?_)
    · obtain ⟨j, hj, rfl⟩ := pm_of_nn (pm_nneg c1)
      have hj2 := (nI_leI hj (by decide)).mp c7
      refine lv_iconst (v := 0) hx hb dX1_badKey_14 (by decide) ?_
      exact hret 0 u _ _ 15 ls hX (⟨pm_bl.zero (fun z => z (sp_key_nI (by omega))), rfl⟩) (rfl) dX1_badKey_15
    · obtain ⟨j, hj, rfl⟩ := pm_of_nn (pm_nneg c1)
      have hj2 := (nI_ltI (by decide) hj).mp (Int32.not_le.mp c7)
      refine lv_iconst (v := 1) hx hb dX1_badKey_10 (by decide) ?_
      refine lv_goto (tgt := 15) hx hb dX1_badKey_11 (by decide) ?_
      exact hret 1 u _ _ 15 ls hX (⟨pm_bl.one (fun z => by have := (nI_ltI (b := 32) hj (by decide)).mp z.2; omega), rfl⟩) (rfl) dX1_badKey_15

set_option maxHeartbeats 4000000 in
set_option maxRecDepth 100000 in
theorem c1_badPlan (l : Launch) (D : va_G) (q : Nat → Nat) (a : Nat → ClassId) (u : pm_S1) (k : Int32) : pm_Mi l yX1_badPlan cX1_badPlan 2 .boolean (pm_rm 0) D (pm_t1 a) (pm_w1 q a) [.ref (q 0), .int k] u (fun r u' => pm_bl r (¬ sp_plan k) ∧ u' = u) := by
  refine pm_Mi_of (by decide) (Nat.le_of_ble_eq_true rfl) ?_
  intro p e s m below meth c A args Q ls F hA hret hX hl
  have hx := F.1
  have hb := F.2.1
  have hl : lv_has ls 2 [(0, .ref (q 0)), (1, .int k)] := hl
  refine lv_iload_n hx hb dX1_badPlan_0 rfl (lv_at hl 1 rfl) ?_
  refine lv_if_lt (tgt := 30) hx hb dX1_badPlan_1 (by decide) (fun c1 => ?_) (fun c1 => ?_)
  · refine lv_iconst (v := 1) hx hb dX1_badPlan_30 (by decide) ?_
    exact hret 1 u _ _ 31 ls hX (⟨pm_bl.one (fun z => absurd z.1 (Int32.not_le.mpr c1)), rfl⟩) (rfl) dX1_badPlan_31
  · obtain ⟨j, hj, rfl⟩ := pm_of_nn (pm_nneg c1)
    refine lv_iload_n hx hb dX1_badPlan_4 rfl (lv_at hl 1 rfl) ?_
    refine lv_bipush (v := nI 16) hx hb dX1_badPlan_5 (by decide) ?_
    refine lv_idiv hx hb dX1_badPlan_7 (by decide) ?_
    refine pm_top (y := nI (j / 16)) (pm_div16 hj) ?_
    refine lv_bipush (v := nI 31) hx hb dX1_badPlan_8 (by decide) ?_
    refine lv_icmp_gt (tgt := 30) hx hb dX1_badPlan_10 (by decide) (fun c10 => ?_) (fun c10 => ?_)
    · refine lv_iconst (v := 1) hx hb dX1_badPlan_30 (by decide) ?_
      exact hret 1 u _ _ 31 ls hX (⟨pm_bl.one (fun z => by obtain ⟨-, z1, z2, z3, z4⟩ := z; rw [nI_clamp hj] at z2 z3 z4; have z5 := (nI_leI (b := 511) hj (by decide)).mp z1; have := (nI_ltI (by decide) (by omega)).mp c10; omega), rfl⟩) (rfl) dX1_badPlan_31
    · refine lv_iload_n hx hb dX1_badPlan_13 rfl (lv_at hl 1 rfl) ?_
      refine lv_bipush (v := nI 16) hx hb dX1_badPlan_14 (by decide) ?_
      refine lv_irem hx hb dX1_badPlan_16 (by decide) ?_
      refine pm_top (y := nI (j % 16)) (pm_rem16 hj) ?_
      refine lv_iconst (v := nI 1) hx hb dX1_badPlan_17 (by decide) ?_
      refine lv_icmp_lt (tgt := 30) hx hb dX1_badPlan_18 (by decide) (fun c18 => ?_) (fun c18 => ?_)
      · refine lv_iconst (v := 1) hx hb dX1_badPlan_30 (by decide) ?_
        exact hret 1 u _ _ 31 ls hX (⟨pm_bl.one (fun z => by obtain ⟨-, z1, z2, z3, z4⟩ := z; rw [nI_clamp hj] at z2 z3 z4; have z5 := (nI_leI (b := 511) hj (by decide)).mp z1; have := (nI_ltI (by omega) (by decide)).mp c18; omega), rfl⟩) (rfl) dX1_badPlan_31
      · refine lv_iload_n hx hb dX1_badPlan_21 rfl (lv_at hl 1 rfl) ?_
        refine lv_bipush (v := nI 16) hx hb dX1_badPlan_22 (by decide) ?_
        refine lv_irem hx hb dX1_badPlan_24 (by decide) ?_
        refine pm_top (y := nI (j % 16)) (pm_rem16 hj) ?_
        refine lv_bipush (v := nI 8) hx hb dX1_badPlan_25 (by decide) ?_
        refine lv_icmp_le (tgt := 32) hx hb dX1_badPlan_27 (by decide) (fun c27 => ?_) (fun c27 => ?_)
        · refine lv_iload_n hx hb dX1_badPlan_32 rfl (lv_at hl 1 rfl) ?_
          refine lv_bipush (v := nI 16) hx hb dX1_badPlan_33 (by decide) ?_
          refine lv_idiv hx hb dX1_badPlan_35 (by decide) ?_
          refine pm_top (y := nI (j / 16)) (pm_div16 hj) ?_
          refine lv_iload_n hx hb dX1_badPlan_36 rfl (lv_at hl 1 rfl) ?_
          refine lv_bipush (v := nI 16) hx hb dX1_badPlan_37 (by decide) ?_
          refine lv_irem hx hb dX1_badPlan_39 (by decide) ?_
          refine pm_top (y := nI (j % 16)) (pm_rem16 hj) ?_
          refine lv_iadd hx hb dX1_badPlan_40 ?_
          refine pm_top (y := nI ((j / 16) + (j % 16))) (nI_add _ _) ?_
          refine lv_bipush (v := nI 32) hx hb dX1_badPlan_41 (by decide) ?_
          refine lv_icmp_le (tgt := 50) hx hb dX1_badPlan_43 (by decide) (fun c43 => ?_) (fun c43 => ?_)
          · refine lv_iconst (v := 0) hx hb dX1_badPlan_50 (by decide) ?_
            refine hret 0 u _ _ 51 ls hX ⟨pm_bl.zero (fun z => z ?_), rfl⟩ rfl dX1_badPlan_51
            have d0 := (nI_leI (by omega) (by decide)).mp (Int32.not_lt.mp c10)
            have d1 := (nI_leI (by decide) (by omega)).mp (Int32.not_lt.mp c18)
            have d2 := (nI_leI (by omega) (by decide)).mp c27
            have d3 := (nI_leI (by omega) (by decide)).mp c43
            refine ⟨nI_pos' hj, nI_le (b := 511) (by omega) (by decide), ?_⟩
            rw [nI_clamp hj]
            exact ⟨d1, d2, d3⟩
          · refine lv_iconst (v := 1) hx hb dX1_badPlan_46 (by decide) ?_
            refine lv_goto (tgt := 51) hx hb dX1_badPlan_47 (by decide) ?_
            exact hret 1 u _ _ 51 ls hX (⟨pm_bl.one (fun z => by obtain ⟨-, z1, z2, z3, z4⟩ := z; rw [nI_clamp hj] at z2 z3 z4; have z5 := (nI_leI (b := 511) hj (by decide)).mp z1; exact c43 (nI_le z4 (by decide))), rfl⟩) (rfl) dX1_badPlan_51
        · refine lv_iconst (v := 1) hx hb dX1_badPlan_30 (by decide) ?_
          exact hret 1 u _ _ 31 ls hX (⟨pm_bl.one (fun z => by obtain ⟨-, z1, z2, z3, z4⟩ := z; rw [nI_clamp hj] at z2 z3 z4; have z5 := (nI_leI (b := 511) hj (by decide)).mp z1; exact c27 (nI_le z3 (by decide))), rfl⟩) (rfl) dX1_badPlan_31

set_option maxHeartbeats 4000000 in
set_option maxRecDepth 100000 in
theorem c1_leads (l : Launch) (D : va_G) (q : Nat → Nat) (a : Nat → ClassId) (u : pm_S1) {n : Nat} {par : Nat → Nat} (hn : n ≤ 40) (hp : ∀ v, 0 < v → v < n → r_pa u v = nI (par v) ∧ par v < v) {v w : Nat} (hv : v < n) (hw : w < n) : pm_Mi l yX1_leads cX1_leads 5 .boolean (pm_rm 0) D (pm_t1 a) (pm_w1 q a) [.ref (q 0), .int (nI v), .int (nI w)] u (fun r u' => pm_bl r (pm_an par v w = true) ∧ u' = u) := by
  refine pm_Mi_of (by decide) (Nat.le_of_ble_eq_true rfl) ?_
  intro p e s m below meth c A args Q ls F hA hret hX hl
  have hx := F.1
  have hb := F.2.1
  have hl : lv_has ls 5 [(0, .ref (q 0)), (1, .int (nI v)), (2, .int (nI w))] := hl
  have loop : ∀ (f i x : Nat) (ls : Array Slot), i + f = 40 → x < n → pm_clm par v 40 w = pm_clm par v f x → lv_has ls 5 [(4, .int (nI i)), (3, .int (nI x)), (0, .ref (q 0)), (1, .int (nI v)), (2, .int (nI w))] → W p l e (pm_rm 0) s m args below meth c s.heap [] 0 0 Q (F0 m 5 ls []) := by
    intro f
    induction f with
    | zero =>
      intro i x ls hi hxn he hl
      refine lv_iload hx hb dX1_leads_5 (lv_at hl 0 rfl) ?_
      refine lv_bipush (v := nI 40) hx hb dX1_leads_7 (by decide) ?_
      refine lv_icmp_ge (tgt := 30) hx hb dX1_leads_9 (by decide) (fun c9 => ?_) (fun c9 => ?_)
      · have he : pm_clm par v 40 w = x := he
        refine lv_iload_n hx hb dX1_leads_30 rfl (lv_at hl 1 rfl) ?_
        refine lv_iload_n hx hb dX1_leads_31 rfl (lv_at hl 3 rfl) ?_
        refine lv_icmp_ne (tgt := 39) hx hb dX1_leads_32 (by decide) (fun c32 => ?_) (fun c32 => ?_)
        · refine lv_iconst (v := 0) hx hb dX1_leads_39 (by decide) ?_
          exact hret 0 u _ _ 40 ls hX ⟨pm_bl.zero (fun h => c32 (by rw [← he.symm.trans (pm_an_iff.mp h)])), rfl⟩ rfl dX1_leads_40
        · refine lv_iconst (v := 1) hx hb dX1_leads_35 (by decide) ?_
          refine lv_goto (tgt := 40) hx hb dX1_leads_36 (by decide) ?_
          exact hret 1 u _ _ 40 ls hX ⟨pm_bl.one (pm_an_iff.mpr (he.trans (pm_eqN (by omega) (by omega) c32))), rfl⟩ rfl dX1_leads_40
      · exact absurd (nI_le (by omega) (by omega)) c9
    | succ f ih =>
      intro i x ls hi hxn he hl
      refine lv_iload hx hb dX1_leads_5 (lv_at hl 0 rfl) ?_
      refine lv_bipush (v := nI 40) hx hb dX1_leads_7 (by decide) ?_
      refine lv_icmp_ge (tgt := 30) hx hb dX1_leads_9 (by decide) (fun c9 => ?_) (fun c9 => ?_)
      · exact absurd c9 (nI_ge (by omega) (by omega))
      · refine lv_iload_n hx hb dX1_leads_12 rfl (lv_at hl 1 rfl) ?_
        refine lv_iload_n hx hb dX1_leads_13 rfl (lv_at hl 3 rfl) ?_
        refine lv_icmp_le (tgt := 30) hx hb dX1_leads_14 (by decide) (fun c14 => ?_) (fun c14 => ?_)
        · have hvx : ¬ v < x := Nat.not_lt.mpr ((pm_leN (by omega) (by omega)).mp c14)
          rw [pm_clm_stop hvx] at he
          refine lv_iload_n hx hb dX1_leads_30 rfl (lv_at hl 1 rfl) ?_
          refine lv_iload_n hx hb dX1_leads_31 rfl (lv_at hl 3 rfl) ?_
          refine lv_icmp_ne (tgt := 39) hx hb dX1_leads_32 (by decide) (fun c32 => ?_) (fun c32 => ?_)
          · refine lv_iconst (v := 0) hx hb dX1_leads_39 (by decide) ?_
            exact hret 0 u _ _ 40 ls hX ⟨pm_bl.zero (fun h => c32 (by rw [← he.symm.trans (pm_an_iff.mp h)])), rfl⟩ rfl dX1_leads_40
          · refine lv_iconst (v := 1) hx hb dX1_leads_35 (by decide) ?_
            refine lv_goto (tgt := 40) hx hb dX1_leads_36 (by decide) ?_
            exact hret 1 u _ _ 40 ls hX ⟨pm_bl.one (pm_an_iff.mpr (he.trans (pm_eqN (by omega) (by omega) c32))), rfl⟩ rfl dX1_leads_40
        · have hvx : v < x := by
            rcases Nat.lt_or_ge v x with h | h
            · exact h
            · exact absurd ((pm_leN (by omega) (by omega)).mpr h) c14
          have hpx := hp x (by omega) hxn
          refine lv_aload_n hx hb dX1_leads_17 rfl (lv_at hl 2 rfl) ?_
          refine x1_gpa F hX dX1_leads_18 ?_
          refine lv_iload_n hx hb dX1_leads_21 rfl (lv_at hl 1 rfl) ?_
          refine x1_lpa F hX (by omega) dX1_leads_22 ?_
          refine pm_top (y := nI (par x)) (hpx.1) ?_
          refine lv_istore_n (lv' := [(3, .int (nI (par x))), (4, .int (nI i)), (0, .ref (q 0)), (1, .int (nI v)), (2, .int (nI w))]) hx hb dX1_leads_23 rfl hl (by decide) rfl (fun ls hl => ?_)
          refine lv_iinc (v := nI (i + 1)) (lv' := [(4, .int (nI (i + 1))), (3, .int (nI (par x))), (0, .ref (q 0)), (1, .int (nI v)), (2, .int (nI w))]) hx hb dX1_leads_24 hl (k := 1) rfl (nI_1 i) (by decide) rfl (fun ls hl => ?_)
          refine lv_goto (tgt := 5) hx hb dX1_leads_27 (by decide) ?_
          exact ih (i + 1) (par x) ls (by omega) (by omega) (by rw [he, pm_clm_go hvx]) (lv_sub hl [0, 1, 2, 3, 4] rfl)
  refine lv_iload_n hx hb dX1_leads_0 rfl (lv_at hl 2 rfl) ?_
  refine lv_istore_n (lv' := [(3, .int (nI w)), (0, .ref (q 0)), (1, .int (nI v)), (2, .int (nI w))]) hx hb dX1_leads_1 rfl hl (by decide) rfl (fun ls hl => ?_)
  refine lv_iconst (v := nI 0) hx hb dX1_leads_2 (by decide) ?_
  refine lv_istore (lv' := [(4, .int (nI 0)), (3, .int (nI w)), (0, .ref (q 0)), (1, .int (nI v)), (2, .int (nI w))]) hx hb dX1_leads_3 hl (by decide) rfl (fun ls hl => ?_)
  exact loop 40 0 w ls (by omega) hw rfl (lv_sub hl [0, 1, 2, 3, 4] rfl)

set_option maxHeartbeats 4000000 in
set_option maxRecDepth 100000 in
theorem c1_agree (l : Launch) (D : va_G) (q : Nat → Nat) (a : Nat → ClassId) (u : pm_S1) {b : pm_AB} (hI : pm_R1 u b) {v w k : Nat} (hv : v < b.1) (hw : w < b.1) (hk : k < 32) : pm_Mi l yX1_agree cX1_agree 4 .boolean (pm_rm 0) D (pm_t1 a) (pm_w1 q a) [.ref (q 0), .int (nI v), .int (nI w), .int (nI k)] u (fun r u' => pm_bl r (b.2.2 v k = b.2.2 w k) ∧ u' = u) := by
  refine pm_Mi_of (by decide) (Nat.le_of_ble_eq_true rfl) ?_
  intro p e s m below meth c A args Q ls F hA hret hX hl
  have hx := F.1
  have hb := F.2.1
  have hl : lv_has ls 4 [(0, .ref (q 0)), (1, .int (nI v)), (2, .int (nI w)), (3, .int (nI k))] := hl
  have hn := hI.1.2.1
  refine lv_aload_n hx hb dX1_agree_0 rfl (lv_at hl 0 rfl) ?_
  refine x1_gth F hX dX1_agree_1 ?_
  refine lv_bipush (v := nI 32) hx hb dX1_agree_4 (by decide) ?_
  refine lv_iload_n hx hb dX1_agree_6 rfl (lv_at hl 1 rfl) ?_
  refine lv_imul hx hb dX1_agree_7 ?_
  refine pm_top (y := nI (32 * v)) (pk_mul _ _) ?_
  refine lv_iload_n hx hb dX1_agree_8 rfl (lv_at hl 3 rfl) ?_
  refine lv_iadd hx hb dX1_agree_9 ?_
  refine pm_top (y := nI ((32 * v) + k)) (nI_add _ _) ?_
  refine x1_lth F hX (by omega) dX1_agree_10 ?_
  refine pm_top (y := pm_on (b.2.2 v k)) (hI.on hv hk) ?_
  refine lv_aload_n hx hb dX1_agree_11 rfl (lv_at hl 0 rfl) ?_
  refine x1_gth F hX dX1_agree_12 ?_
  refine lv_bipush (v := nI 32) hx hb dX1_agree_15 (by decide) ?_
  refine lv_iload_n hx hb dX1_agree_17 rfl (lv_at hl 2 rfl) ?_
  refine lv_imul hx hb dX1_agree_18 ?_
  refine pm_top (y := nI (32 * w)) (pk_mul _ _) ?_
  refine lv_iload_n hx hb dX1_agree_19 rfl (lv_at hl 3 rfl) ?_
  refine lv_iadd hx hb dX1_agree_20 ?_
  refine pm_top (y := nI ((32 * w) + k)) (nI_add _ _) ?_
  refine x1_lth F hX (by omega) dX1_agree_21 ?_
  refine pm_top (y := pm_on (b.2.2 w k)) (hI.on hw hk) ?_
  refine lv_icmp_eq (tgt := 27) hx hb dX1_agree_22 (by decide) (fun c22 => ?_) (fun c22 => ?_)
  · refine lv_aload_n hx hb dX1_agree_27 rfl (lv_at hl 0 rfl) ?_
    refine x1_gth F hX dX1_agree_28 ?_
    refine lv_bipush (v := nI 32) hx hb dX1_agree_31 (by decide) ?_
    refine lv_iload_n hx hb dX1_agree_33 rfl (lv_at hl 1 rfl) ?_
    refine lv_imul hx hb dX1_agree_34 ?_
    refine pm_top (y := nI (32 * v)) (pk_mul _ _) ?_
    refine lv_iload_n hx hb dX1_agree_35 rfl (lv_at hl 3 rfl) ?_
    refine lv_iadd hx hb dX1_agree_36 ?_
    refine pm_top (y := nI ((32 * v) + k)) (nI_add _ _) ?_
    refine x1_lth F hX (by omega) dX1_agree_37 ?_
    refine pm_top (y := pm_on (b.2.2 v k)) (hI.on hv hk) ?_
    refine lv_if_eq (tgt := 66) hx hb dX1_agree_38 (by decide) (fun c38 => ?_) (fun c38 => ?_)
    · refine lv_iconst (v := 1) hx hb dX1_agree_66 (by decide) ?_
      refine lv_goto (tgt := 71) hx hb dX1_agree_67 (by decide) ?_
      exact hret 1 u _ _ 71 ls hX (⟨pm_bl.one (pm_on_eq c22 (by rw [pm_on_0 c38, pm_on_0 (c22.symm.trans c38)])), rfl⟩) (rfl) dX1_agree_71
    · have hs1 := (pm_on_bl _).yes c38
      have hs2 := (pm_on_bl (b.2.2 w k)).yes (by rw [← c22]; exact c38)
      refine lv_aload_n hx hb dX1_agree_41 rfl (lv_at hl 0 rfl) ?_
      refine x1_gwo F hX dX1_agree_42 ?_
      refine lv_bipush (v := nI 32) hx hb dX1_agree_45 (by decide) ?_
      refine lv_iload_n hx hb dX1_agree_47 rfl (lv_at hl 1 rfl) ?_
      refine lv_imul hx hb dX1_agree_48 ?_
      refine pm_top (y := nI (32 * v)) (pk_mul _ _) ?_
      refine lv_iload_n hx hb dX1_agree_49 rfl (lv_at hl 3 rfl) ?_
      refine lv_iadd hx hb dX1_agree_50 ?_
      refine pm_top (y := nI ((32 * v) + k)) (nI_add _ _) ?_
      refine x1_lwo F hX (by omega) dX1_agree_51 ?_
      refine pm_top (y := (b.2.2 v k).getD 0) (hI.wo hv hk hs1) ?_
      refine lv_aload_n hx hb dX1_agree_52 rfl (lv_at hl 0 rfl) ?_
      refine x1_gwo F hX dX1_agree_53 ?_
      refine lv_bipush (v := nI 32) hx hb dX1_agree_56 (by decide) ?_
      refine lv_iload_n hx hb dX1_agree_58 rfl (lv_at hl 2 rfl) ?_
      refine lv_imul hx hb dX1_agree_59 ?_
      refine pm_top (y := nI (32 * w)) (pk_mul _ _) ?_
      refine lv_iload_n hx hb dX1_agree_60 rfl (lv_at hl 3 rfl) ?_
      refine lv_iadd hx hb dX1_agree_61 ?_
      refine pm_top (y := nI ((32 * w) + k)) (nI_add _ _) ?_
      refine x1_lwo F hX (by omega) dX1_agree_62 ?_
      refine pm_top (y := (b.2.2 w k).getD 0) (hI.wo hw hk hs2) ?_
      refine lv_icmp_ne (tgt := 70) hx hb dX1_agree_63 (by decide) (fun c63 => ?_) (fun c63 => ?_)
      · refine lv_iconst (v := 0) hx hb dX1_agree_70 (by decide) ?_
        exact hret 0 u _ _ 71 ls hX (⟨pm_bl.zero (fun z => c63 (by rw [z])), rfl⟩) (rfl) dX1_agree_71
      · refine lv_iconst (v := 1) hx hb dX1_agree_66 (by decide) ?_
        refine lv_goto (tgt := 71) hx hb dX1_agree_67 (by decide) ?_
        exact hret 1 u _ _ 71 ls hX (⟨pm_bl.one (pm_on_eq c22 c63), rfl⟩) (rfl) dX1_agree_71
  · refine lv_iconst (v := 0) hx hb dX1_agree_25 (by decide) ?_
    exact hret 0 u _ _ 26 ls hX (⟨pm_bl.zero (fun z => c22 (by rw [z])), rfl⟩) (rfl) dX1_agree_26

set_option maxHeartbeats 4000000 in
set_option maxRecDepth 100000 in
theorem c1_give (l : Launch) (D : va_G) (q : Nat → Nat) (a : Nat → ClassId) (u : pm_S1) {b : pm_AB} (hI : pm_R1 u b) {v k : Nat} (hv : v < b.1) (hk : k < 32) (x : Int32) : pm_Mv l yX1_give cX1_give 4 (pm_rm 0) D (pm_t1 a) (pm_w1 q a) [.ref (q 0), .int (nI v), .int (nI k), .int x] u (fun u' => pm_R1 u' (pm_wr b v k (some x))) := by
  refine pm_Mv_of (by decide) (Nat.le_of_ble_eq_true rfl) ?_
  intro p e s m below meth c A args Q ls F hA hret hX hl
  have hx := F.1
  have hb := F.2.1
  have hl : lv_has ls 4 [(0, .ref (q 0)), (1, .int (nI v)), (2, .int (nI k)), (3, .int x)] := hl
  have hn := hI.1.2.1
  refine lv_aload_n hx hb dX1_give_0 rfl (lv_at hl 0 rfl) ?_
  refine x1_gth F hX dX1_give_1 ?_
  refine lv_bipush (v := nI 32) hx hb dX1_give_4 (by decide) ?_
  refine lv_iload_n hx hb dX1_give_6 rfl (lv_at hl 1 rfl) ?_
  refine lv_imul hx hb dX1_give_7 ?_
  refine pm_top (y := nI (32 * v)) (pk_mul _ _) ?_
  refine lv_iload_n hx hb dX1_give_8 rfl (lv_at hl 2 rfl) ?_
  refine lv_iadd hx hb dX1_give_9 ?_
  refine pm_top (y := nI ((32 * v) + k)) (nI_add _ _) ?_
  refine lv_iconst (v := 1) hx hb dX1_give_10 (by decide) ?_
  refine x1_sth F hX (by omega) (Or.inr rfl) dX1_give_11 (fun H locs hX => ?_)
  refine lv_aload_n hx hb dX1_give_12 rfl (lv_at hl 0 rfl) ?_
  refine x1_gwo F hX dX1_give_13 ?_
  refine lv_bipush (v := nI 32) hx hb dX1_give_16 (by decide) ?_
  refine lv_iload_n hx hb dX1_give_18 rfl (lv_at hl 1 rfl) ?_
  refine lv_imul hx hb dX1_give_19 ?_
  refine pm_top (y := nI (32 * v)) (pk_mul _ _) ?_
  refine lv_iload_n hx hb dX1_give_20 rfl (lv_at hl 2 rfl) ?_
  refine lv_iadd hx hb dX1_give_21 ?_
  refine pm_top (y := nI ((32 * v) + k)) (nI_add _ _) ?_
  refine lv_iload_n hx hb dX1_give_22 rfl (lv_at hl 3 rfl) ?_
  refine x1_swo F hX (by omega) dX1_give_23 (fun H locs hX => ?_)
  exact hret _ _ _ 24 ls hX (hI.set hv hk (t := 1) (Or.inr rfl) x) dX1_give_24

set_option maxHeartbeats 4000000 in
set_option maxRecDepth 100000 in
theorem c1_copy (l : Launch) (D : va_G) (q : Nat → Nat) (a : Nat → ClassId) (u : pm_S1) {b : pm_AB} (hI : pm_R1 u b) {v k w j : Nat} (hv : v < b.1) (hk : k < 32) (hw : w < b.1) (hj : j < 32) : pm_Mv l yX1_copy cX1_copy 5 (pm_rm 0) D (pm_t1 a) (pm_w1 q a) [.ref (q 0), .int (nI v), .int (nI k), .int (nI w), .int (nI j)] u (fun u' => pm_R1 u' (pm_wr b w j (b.2.2 v k))) := by
  refine pm_Mv_of (by decide) (Nat.le_of_ble_eq_true rfl) ?_
  intro p e s m below meth c A args Q ls F hA hret hX hl
  have hx := F.1
  have hb := F.2.1
  have hl : lv_has ls 5 [(0, .ref (q 0)), (1, .int (nI v)), (2, .int (nI k)), (3, .int (nI w)), (4, .int (nI j))] := hl
  have hn := hI.1.2.1
  obtain ⟨hbit, hval⟩ := hI.2.2 v k hv hk
  refine lv_aload_n hx hb dX1_copy_0 rfl (lv_at hl 0 rfl) ?_
  refine x1_gth F hX dX1_copy_1 ?_
  refine lv_bipush (v := nI 32) hx hb dX1_copy_4 (by decide) ?_
  refine lv_iload_n hx hb dX1_copy_6 rfl (lv_at hl 3 rfl) ?_
  refine lv_imul hx hb dX1_copy_7 ?_
  refine pm_top (y := nI (32 * w)) (pk_mul _ _) ?_
  refine lv_iload hx hb dX1_copy_8 (lv_at hl 4 rfl) ?_
  refine lv_iadd hx hb dX1_copy_10 ?_
  refine pm_top (y := nI ((32 * w) + j)) (nI_add _ _) ?_
  refine lv_aload_n hx hb dX1_copy_11 rfl (lv_at hl 0 rfl) ?_
  refine x1_gth F hX dX1_copy_12 ?_
  refine lv_bipush (v := nI 32) hx hb dX1_copy_15 (by decide) ?_
  refine lv_iload_n hx hb dX1_copy_17 rfl (lv_at hl 1 rfl) ?_
  refine lv_imul hx hb dX1_copy_18 ?_
  refine pm_top (y := nI (32 * v)) (pk_mul _ _) ?_
  refine lv_iload_n hx hb dX1_copy_19 rfl (lv_at hl 2 rfl) ?_
  refine lv_iadd hx hb dX1_copy_20 ?_
  refine pm_top (y := nI ((32 * v) + k)) (nI_add _ _) ?_
  refine x1_lth F hX (by omega) dX1_copy_21 ?_
  refine x1_sth F hX (by omega) (hbit) dX1_copy_22 (fun H locs hX => ?_)
  refine lv_aload_n hx hb dX1_copy_23 rfl (lv_at hl 0 rfl) ?_
  refine x1_gwo F hX dX1_copy_24 ?_
  refine lv_bipush (v := nI 32) hx hb dX1_copy_27 (by decide) ?_
  refine lv_iload_n hx hb dX1_copy_29 rfl (lv_at hl 3 rfl) ?_
  refine lv_imul hx hb dX1_copy_30 ?_
  refine pm_top (y := nI (32 * w)) (pk_mul _ _) ?_
  refine lv_iload hx hb dX1_copy_31 (lv_at hl 4 rfl) ?_
  refine lv_iadd hx hb dX1_copy_33 ?_
  refine pm_top (y := nI ((32 * w) + j)) (nI_add _ _) ?_
  refine lv_aload_n hx hb dX1_copy_34 rfl (lv_at hl 0 rfl) ?_
  refine x1_gwo F hX dX1_copy_35 ?_
  refine lv_bipush (v := nI 32) hx hb dX1_copy_38 (by decide) ?_
  refine lv_iload_n hx hb dX1_copy_40 rfl (lv_at hl 1 rfl) ?_
  refine lv_imul hx hb dX1_copy_41 ?_
  refine pm_top (y := nI (32 * v)) (pk_mul _ _) ?_
  refine lv_iload_n hx hb dX1_copy_42 rfl (lv_at hl 2 rfl) ?_
  refine lv_iadd hx hb dX1_copy_43 ?_
  refine pm_top (y := nI ((32 * v) + k)) (nI_add _ _) ?_
  refine x1_lwo F hX (by omega) dX1_copy_44 ?_
  refine pm_top (y := r_wo u (32 * v + k)) (rfl) ?_
  refine x1_swo F hX (by omega) dX1_copy_45 (fun H locs hX => ?_)
  refine hret _ _ _ 46 ls hX ?_ dX1_copy_46
  rw [hval]
  exact hI.set hw hj hbit (r_wo u (32 * v + k))

set_option maxHeartbeats 4000000 in
set_option maxRecDepth 100000 in
theorem c1_make (l : Launch) (D : va_G) (q : Nat → Nat) (a : Nat → ClassId) (u : pm_S1) {b : pm_AB} (hI : pm_R1 u b) {v : Nat} (hv : v < b.1) : pm_Mi l yX1_make cX1_make 4 .int (pm_rm 0) D (pm_t1 a) (pm_w1 q a) [.ref (q 0), .int (nI v)] u (fun r u' => (b.1 = 40 ∧ r = -3 ∧ u' = u) ∨ (b.1 < 40 ∧ r = nI b.1 ∧ pm_R1 u' (pm_opn b v))) := by
  refine pm_Mi_of (by decide) (Nat.le_of_ble_eq_true rfl) ?_
  intro p e s m below meth c A args Q ls F hA hret hX hl
  have hx := F.1
  have hb := F.2.1
  have hl : lv_has ls 4 [(0, .ref (q 0)), (1, .int (nI v))] := hl
  have hn := hI.1.2.1
  refine lv_aload_n hx hb dX1_make_0 rfl (lv_at hl 0 rfl) ?_
  refine x1_gcn F hX dX1_make_1 ?_
  refine pm_top (y := nI b.1) (hI.1.2.2) ?_
  refine lv_istore_n (lv' := [(2, .int (nI b.1)), (0, .ref (q 0)), (1, .int (nI v))]) hx hb dX1_make_4 rfl hl (by decide) rfl (fun ls hl => ?_)
  refine lv_iload_n hx hb dX1_make_5 rfl (lv_at hl 0 rfl) ?_
  refine lv_bipush (v := nI 39) hx hb dX1_make_6 (by decide) ?_
  refine lv_icmp_le (tgt := 14) hx hb dX1_make_8 (by decide) (fun c8 => ?_) (fun c8 => ?_)
  · have h40 : b.1 < 40 := by have := (nI_leI (by omega) (by decide)).mp c8; omega
    refine lv_iconst (v := nI 0) hx hb dX1_make_14 (by decide) ?_
    refine lv_istore_n (lv' := [(3, .int (nI 0)), (2, .int (nI b.1)), (0, .ref (q 0)), (1, .int (nI v))]) hx hb dX1_make_15 rfl hl (by decide) rfl (fun ls hl => ?_)
    have loop : ∀ (N k : Nat) (th wo : Nat → Int32) (H : Heap) (locs : List Loc) (ls : Array Slot), k + N = 32 → (∀ j, j < k → th (32 * b.1 + j) = r_th u (32 * v + j) ∧ wo (32 * b.1 + j) = r_wo u (32 * v + j)) → (∀ i, i < 32 * b.1 → th i = r_th u i ∧ wo i = r_wo u i) → pm_X D A s (pm_t1 a) (pm_w1 q a) (r_swo (r_sth u th) wo) H locs → lv_has ls 4 [(3, .int (nI k)), (2, .int (nI b.1)), (0, .ref (q 0)), (1, .int (nI v))] → W p l e (pm_rm 0) s m args below meth c H locs 0 0 Q (F0 m 16 ls []) := by
      intro N
      induction N with
      | zero =>
        intro k th wo H locs ls hk h1 h2 hX hl
        refine lv_iload_n hx hb dX1_make_16 rfl (lv_at hl 0 rfl) ?_
        refine lv_bipush (v := nI 32) hx hb dX1_make_17 (by decide) ?_
        refine lv_icmp_ge (tgt := 72) hx hb dX1_make_19 (by decide) (fun c19 => ?_) (fun c19 => ?_)
        · refine lv_aload_n hx hb dX1_make_72 rfl (lv_at hl 2 rfl) ?_
          refine x1_gpa F hX dX1_make_73 ?_
          refine lv_iload_n hx hb dX1_make_76 rfl (lv_at hl 1 rfl) ?_
          refine lv_iload_n hx hb dX1_make_77 rfl (lv_at hl 3 rfl) ?_
          refine x1_spa F hX (by omega) dX1_make_78 (fun H locs hX => ?_)
          refine lv_aload_n hx hb dX1_make_79 rfl (lv_at hl 2 rfl) ?_
          refine lv_iload_n hx hb dX1_make_80 rfl (lv_at hl 1 rfl) ?_
          refine lv_iconst (v := nI 1) hx hb dX1_make_81 (by decide) ?_
          refine lv_iadd hx hb dX1_make_82 ?_
          refine pm_top (y := nI (b.1 + 1)) (nI_add _ _) ?_
          refine x1_pcn F hX dX1_make_83 (fun H locs hX => ?_)
          refine lv_iload_n hx hb dX1_make_86 rfl (lv_at hl 1 rfl) ?_
          exact hret _ _ _ _ 87 ls hX (Or.inr ⟨h40, rfl, hI.opn hv h40 (fun j hj => h1 j (by omega)) h2⟩) rfl dX1_make_87
        · exact absurd (nI_le (by omega) (by omega)) c19
      | succ N ih =>
        intro k th wo H locs ls hk h1 h2 hX hl
        have hbit := (hI.2.2 v k hv (by omega)).1
        have ht := h2 (32 * v + k) (by omega)
        refine lv_iload_n hx hb dX1_make_16 rfl (lv_at hl 0 rfl) ?_
        refine lv_bipush (v := nI 32) hx hb dX1_make_17 (by decide) ?_
        refine lv_icmp_ge (tgt := 72) hx hb dX1_make_19 (by decide) (fun c19 => ?_) (fun c19 => ?_)
        · exact absurd c19 (nI_ge (by omega) (by omega))
        · refine lv_aload_n hx hb dX1_make_22 rfl (lv_at hl 2 rfl) ?_
          refine x1_gth F hX dX1_make_23 ?_
          refine lv_bipush (v := nI 32) hx hb dX1_make_26 (by decide) ?_
          refine lv_iload_n hx hb dX1_make_28 rfl (lv_at hl 1 rfl) ?_
          refine lv_imul hx hb dX1_make_29 ?_
          refine pm_top (y := nI (32 * b.1)) (pk_mul _ _) ?_
          refine lv_iload_n hx hb dX1_make_30 rfl (lv_at hl 0 rfl) ?_
          refine lv_iadd hx hb dX1_make_31 ?_
          refine pm_top (y := nI ((32 * b.1) + k)) (nI_add _ _) ?_
          refine lv_aload_n hx hb dX1_make_32 rfl (lv_at hl 2 rfl) ?_
          refine x1_gth F hX dX1_make_33 ?_
          refine lv_bipush (v := nI 32) hx hb dX1_make_36 (by decide) ?_
          refine lv_iload_n hx hb dX1_make_38 rfl (lv_at hl 3 rfl) ?_
          refine lv_imul hx hb dX1_make_39 ?_
          refine pm_top (y := nI (32 * v)) (pk_mul _ _) ?_
          refine lv_iload_n hx hb dX1_make_40 rfl (lv_at hl 0 rfl) ?_
          refine lv_iadd hx hb dX1_make_41 ?_
          refine pm_top (y := nI ((32 * v) + k)) (nI_add _ _) ?_
          refine x1_lth F hX (by omega) dX1_make_42 ?_
          refine pm_top (y := r_th u (32 * v + k)) (ht.1) ?_
          refine x1_sth F hX (by omega) (hbit) dX1_make_43 (fun H locs hX => ?_)
          refine lv_aload_n hx hb dX1_make_44 rfl (lv_at hl 2 rfl) ?_
          refine x1_gwo F hX dX1_make_45 ?_
          refine lv_bipush (v := nI 32) hx hb dX1_make_48 (by decide) ?_
          refine lv_iload_n hx hb dX1_make_50 rfl (lv_at hl 1 rfl) ?_
          refine lv_imul hx hb dX1_make_51 ?_
          refine pm_top (y := nI (32 * b.1)) (pk_mul _ _) ?_
          refine lv_iload_n hx hb dX1_make_52 rfl (lv_at hl 0 rfl) ?_
          refine lv_iadd hx hb dX1_make_53 ?_
          refine pm_top (y := nI ((32 * b.1) + k)) (nI_add _ _) ?_
          refine lv_aload_n hx hb dX1_make_54 rfl (lv_at hl 2 rfl) ?_
          refine x1_gwo F hX dX1_make_55 ?_
          refine lv_bipush (v := nI 32) hx hb dX1_make_58 (by decide) ?_
          refine lv_iload_n hx hb dX1_make_60 rfl (lv_at hl 3 rfl) ?_
          refine lv_imul hx hb dX1_make_61 ?_
          refine pm_top (y := nI (32 * v)) (pk_mul _ _) ?_
          refine lv_iload_n hx hb dX1_make_62 rfl (lv_at hl 0 rfl) ?_
          refine lv_iadd hx hb dX1_make_63 ?_
          refine pm_top (y := nI ((32 * v) + k)) (nI_add _ _) ?_
          refine x1_lwo F hX (by omega) dX1_make_64 ?_
          refine pm_top (y := r_wo u (32 * v + k)) (ht.2) ?_
          refine x1_swo F hX (by omega) dX1_make_65 (fun H locs hX => ?_)
          refine lv_iinc (v := nI (k + 1)) (lv' := [(3, .int (nI (k + 1))), (2, .int (nI b.1)), (0, .ref (q 0)), (1, .int (nI v))]) hx hb dX1_make_66 hl (k := 0) rfl (nI_1 k) (by decide) rfl (fun ls hl => ?_)
          refine lv_goto (tgt := 16) hx hb dX1_make_69 (by decide) ?_
          refine ih (k + 1) (upd th (32 * b.1 + k) (r_th u (32 * v + k))) (upd wo (32 * b.1 + k) (r_wo u (32 * v + k))) _ _ ls (by omega) ?_ ?_ hX (lv_sub hl [0, 1, 2, 3] rfl)
          · intro j hj
            by_cases z : j = k
            · rw [z, pk_us, pk_us]; exact ⟨rfl, rfl⟩
            · rw [pk_un (by omega), pk_un (by omega)]; exact h1 j (by omega)
          · intro i hi
            rw [pk_un (by omega), pk_un (by omega)]; exact h2 i hi
    exact loop 32 0 (r_th u) (r_wo u) _ _ ls (by omega) (fun j h => by omega) (fun i _ => ⟨rfl, rfl⟩) hX (lv_sub hl [0, 1, 2, 3] rfl)
  · have h40 : b.1 = 40 := by have := (nI_ltI (by decide) (by omega)).mp (Int32.not_le.mp c8); omega
    refine lv_bipush (v := (-3)) hx hb dX1_make_11 (by decide) ?_
    exact hret (-3) u _ _ 13 ls hX (Or.inl ⟨h40, rfl, rfl⟩) (rfl) dX1_make_13
end
section
/-! ===== PersistentMapModel: queries ===== -/
set_option maxHeartbeats 4000000 in
set_option maxRecDepth 100000 in
theorem c1_versions (l : Launch) (D : va_G) (q : Nat → Nat) (a : Nat → ClassId) (u : pm_S1) {b : pm_AB} (hI : pm_R1 u b) : pm_Mi l yX1_versions cX1_versions 1 .int (pm_rm 0) D (pm_t1 a) (pm_w1 q a) [.ref (q 0)] u (fun r u' => r = nI b.1 ∧ u' = u) := by
  refine pm_Mi_of (by decide) (Nat.le_of_ble_eq_true rfl) ?_
  intro p e s m below meth c A args Q ls F hA hret hX hl
  have hx := F.1
  have hb := F.2.1
  have hl : lv_has ls 1 [(0, .ref (q 0))] := hl
  have hn := hI.1.2.1
  refine lv_aload_n hx hb dX1_versions_0 rfl (lv_at hl 0 rfl) ?_
  refine x1_gcn F hX dX1_versions_1 ?_
  exact hret (r_cn u) u _ _ 4 ls hX (⟨hI.1.2.2, rfl⟩) (rfl) dX1_versions_4

set_option maxHeartbeats 4000000 in
set_option maxRecDepth 100000 in
theorem c1_parent (l : Launch) (D : va_G) (q : Nat → Nat) (a : Nat → ClassId) (u : pm_S1) {b : pm_AB} (hI : pm_R1 u b) (v : Int32) : pm_Mi l yX1_parent cX1_parent 2 .int (pm_rm 1) D (pm_t1 a) (pm_w1 q a) [.ref (q 0), .int v] u (fun r u' => r = sp_parent b v ∧ u' = u) := by
  refine pm_Mi_of (by decide) (Nat.le_of_ble_eq_true rfl) ?_
  intro p e s m below meth c A args Q ls F hA hret hX hl
  have hx := F.1
  have hb := F.2.1
  have hl : lv_has ls 2 [(0, .ref (q 0)), (1, .int v)] := hl
  have hn := hI.1.2.1
  refine lv_aload_n hx hb dX1_parent_0 rfl (lv_at hl 0 rfl) ?_
  refine lv_iload_n hx hb dX1_parent_1 rfl (lv_at hl 1 rfl) ?_
  refine pm_calli (rest := []) F hA hX (c1_bad l D q a u hI v) rfl rfl hG1_bad hd1_bad ⟨⟨rfl, rfl⟩, Nat.le_of_ble_eq_true rfl, Nat.le_of_ble_eq_true rfl⟩ rfl rfl hl.1 (Nat.le_of_ble_eq_true rfl) dX1_parent_2 ⟨Nat.zero_le _, Nat.zero_le _⟩ (fun r2 u2 H locs hw2 hX => ?_)
  rw [hw2.2] at hX
  refine lv_if_eq (tgt := 10) hx hb dX1_parent_5 (by decide) (fun c5 => ?_) (fun c5 => ?_)
  · have hv := hw2.1.nn c5
    obtain ⟨v1, hv1, rfl⟩ := sp_ok_of hn hv
    refine lv_iload_n hx hb dX1_parent_10 rfl (lv_at hl 1 rfl) ?_
    refine lv_if_ne (tgt := 19) hx hb dX1_parent_11 (by decide) (fun c11 => ?_) (fun c11 => ?_)
    · have hpos : 0 < v1 := by
        rcases Nat.eq_zero_or_pos v1 with z | z
        · exact absurd (by rw [z]; rfl) c11
        · exact z
      refine lv_aload_n hx hb dX1_parent_19 rfl (lv_at hl 0 rfl) ?_
      refine x1_gpa F hX dX1_parent_20 ?_
      refine lv_iload_n hx hb dX1_parent_23 rfl (lv_at hl 1 rfl) ?_
      refine x1_lpa F hX (by omega) dX1_parent_24 ?_
      exact hret (r_pa u v1) u _ _ 25 ls hX (⟨(hI.2.1 v1 hpos hv1).1.trans (sp_parent_3 hn hv1 c11).symm, rfl⟩) (rfl) dX1_parent_25
    · refine lv_bipush (v := (-2)) hx hb dX1_parent_14 (by decide) ?_
      refine lv_goto (tgt := 25) hx hb dX1_parent_16 (by decide) ?_
      exact hret (-2) u _ _ 25 ls hX (⟨(sp_parent_2 hn hv1 c11).symm, rfl⟩) (rfl) dX1_parent_25
  · have hv := hw2.1.yes c5
    refine lv_iconst (v := (-1)) hx hb dX1_parent_8 (by decide) ?_
    exact hret (-1) u _ _ 9 ls hX (⟨(sp_parent_1 hv).symm, rfl⟩) (rfl) dX1_parent_9

set_option maxHeartbeats 4000000 in
set_option maxRecDepth 100000 in
theorem c1_ancestor (l : Launch) (D : va_G) (q : Nat → Nat) (a : Nat → ClassId) (u : pm_S1) {b : pm_AB} (hI : pm_R1 u b) (v w : Int32) : pm_Mi l yX1_ancestor cX1_ancestor 3 .int (pm_rm 1) D (pm_t1 a) (pm_w1 q a) [.ref (q 0), .int v, .int w] u (fun r u' => r = sp_ancestor b v w ∧ u' = u) := by
  refine pm_Mi_of (by decide) (Nat.le_of_ble_eq_true rfl) ?_
  intro p e s m below meth c A args Q ls F hA hret hX hl
  have hx := F.1
  have hb := F.2.1
  have hl : lv_has ls 3 [(0, .ref (q 0)), (1, .int v), (2, .int w)] := hl
  have hn := hI.1.2.1
  refine lv_aload_n hx hb dX1_ancestor_0 rfl (lv_at hl 0 rfl) ?_
  refine lv_iload_n hx hb dX1_ancestor_1 rfl (lv_at hl 1 rfl) ?_
  refine pm_calli (rest := []) F hA hX (c1_bad l D q a u hI v) rfl rfl hG1_bad hd1_bad ⟨⟨rfl, rfl⟩, Nat.le_of_ble_eq_true rfl, Nat.le_of_ble_eq_true rfl⟩ rfl rfl hl.1 (Nat.le_of_ble_eq_true rfl) dX1_ancestor_2 ⟨Nat.zero_le _, Nat.zero_le _⟩ (fun r2 u2 H locs hw2 hX => ?_)
  rw [hw2.2] at hX
  refine lv_if_ne (tgt := 16) hx hb dX1_ancestor_5 (by decide) (fun c5 => ?_) (fun c5 => ?_)
  · have hv := hw2.1.yes c5
    refine lv_iconst (v := (-1)) hx hb dX1_ancestor_16 (by decide) ?_
    exact hret (-1) u _ _ 17 ls hX (⟨(sp_ancestor_1 hv).symm, rfl⟩) (rfl) dX1_ancestor_17
  · have hv := hw2.1.nn c5
    obtain ⟨v1, hv1, rfl⟩ := sp_ok_of hn hv
    refine lv_aload_n hx hb dX1_ancestor_8 rfl (lv_at hl 0 rfl) ?_
    refine lv_iload_n hx hb dX1_ancestor_9 rfl (lv_at hl 2 rfl) ?_
    refine pm_calli (rest := []) F hA hX (c1_bad l D q a u hI w) rfl rfl hG1_bad hd1_bad ⟨⟨rfl, rfl⟩, Nat.le_of_ble_eq_true rfl, Nat.le_of_ble_eq_true rfl⟩ rfl rfl hl.1 (Nat.le_of_ble_eq_true rfl) dX1_ancestor_10 ⟨Nat.zero_le _, Nat.zero_le _⟩ (fun r10 u10 H locs hw10 hX => ?_)
    rw [hw10.2] at hX
    refine lv_if_eq (tgt := 18) hx hb dX1_ancestor_13 (by decide) (fun c13 => ?_) (fun c13 => ?_)
    · have hw := hw10.1.nn c13
      obtain ⟨w1, hw1, rfl⟩ := sp_ok_of hn hw
      refine lv_aload_n hx hb dX1_ancestor_18 rfl (lv_at hl 0 rfl) ?_
      refine lv_iload_n hx hb dX1_ancestor_19 rfl (lv_at hl 1 rfl) ?_
      refine lv_iload_n hx hb dX1_ancestor_20 rfl (lv_at hl 2 rfl) ?_
      refine pm_calli (rest := []) F hA hX (c1_leads l D q a u hn hI.2.1 hv1 hw1) rfl rfl hG1_leads hd1_leads ⟨⟨rfl, rfl⟩, Nat.le_of_ble_eq_true rfl, Nat.le_of_ble_eq_true rfl⟩ rfl rfl hl.1 (Nat.le_of_ble_eq_true rfl) dX1_ancestor_21 ⟨Nat.zero_le _, Nat.zero_le _⟩ (fun r21 u21 H locs hw21 hX => ?_)
      rw [hw21.2] at hX
      refine lv_if_eq (tgt := 31) hx hb dX1_ancestor_24 (by decide) (fun c24 => ?_) (fun c24 => ?_)
      · refine lv_iconst (v := 0) hx hb dX1_ancestor_31 (by decide) ?_
        exact hret 0 u _ _ 32 ls hX (⟨((sp_ancestor_3 hn hv1 hw1).trans (if_neg (hw21.1.no c24))).symm, rfl⟩) (rfl) dX1_ancestor_32
      · refine lv_iconst (v := 1) hx hb dX1_ancestor_27 (by decide) ?_
        refine lv_goto (tgt := 32) hx hb dX1_ancestor_28 (by decide) ?_
        exact hret 1 u _ _ 32 ls hX (⟨((sp_ancestor_3 hn hv1 hw1).trans (if_pos (hw21.1.yes c24))).symm, rfl⟩) (rfl) dX1_ancestor_32
    · have hw := hw10.1.yes c13
      refine lv_iconst (v := (-1)) hx hb dX1_ancestor_16 (by decide) ?_
      exact hret (-1) u _ _ 17 ls hX (⟨(sp_ancestor_2 hw).symm, rfl⟩) (rfl) dX1_ancestor_17

set_option maxHeartbeats 4000000 in
set_option maxRecDepth 100000 in
theorem c1_has (l : Launch) (D : va_G) (q : Nat → Nat) (a : Nat → ClassId) (u : pm_S1) {b : pm_AB} (hI : pm_R1 u b) (v k : Int32) : pm_Mi l yX1_has cX1_has 3 .int (pm_rm 1) D (pm_t1 a) (pm_w1 q a) [.ref (q 0), .int v, .int k] u (fun r u' => r = sp_has b v k ∧ u' = u) := by
  refine pm_Mi_of (by decide) (Nat.le_of_ble_eq_true rfl) ?_
  intro p e s m below meth c A args Q ls F hA hret hX hl
  have hx := F.1
  have hb := F.2.1
  have hl : lv_has ls 3 [(0, .ref (q 0)), (1, .int v), (2, .int k)] := hl
  have hn := hI.1.2.1
  refine lv_aload_n hx hb dX1_has_0 rfl (lv_at hl 0 rfl) ?_
  refine lv_iload_n hx hb dX1_has_1 rfl (lv_at hl 1 rfl) ?_
  refine pm_calli (rest := []) F hA hX (c1_bad l D q a u hI v) rfl rfl hG1_bad hd1_bad ⟨⟨rfl, rfl⟩, Nat.le_of_ble_eq_true rfl, Nat.le_of_ble_eq_true rfl⟩ rfl rfl hl.1 (Nat.le_of_ble_eq_true rfl) dX1_has_2 ⟨Nat.zero_le _, Nat.zero_le _⟩ (fun r2 u2 H locs hw2 hX => ?_)
  rw [hw2.2] at hX
  refine lv_if_eq (tgt := 10) hx hb dX1_has_5 (by decide) (fun c5 => ?_) (fun c5 => ?_)
  · have hv := hw2.1.nn c5
    obtain ⟨v1, hv1, rfl⟩ := sp_ok_of hn hv
    refine lv_aload_n hx hb dX1_has_10 rfl (lv_at hl 0 rfl) ?_
    refine lv_iload_n hx hb dX1_has_11 rfl (lv_at hl 2 rfl) ?_
    refine pm_calli (rest := []) F hA hX (c1_badKey l D q a u k) rfl rfl hG1_badKey hd1_badKey ⟨⟨rfl, rfl⟩, Nat.le_of_ble_eq_true rfl, Nat.le_of_ble_eq_true rfl⟩ rfl rfl hl.1 (Nat.le_of_ble_eq_true rfl) dX1_has_12 ⟨Nat.zero_le _, Nat.zero_le _⟩ (fun r12 u12 H locs hw12 hX => ?_)
    rw [hw12.2] at hX
    refine lv_if_eq (tgt := 21) hx hb dX1_has_15 (by decide) (fun c15 => ?_) (fun c15 => ?_)
    · have hk := hw12.1.nn c15
      obtain ⟨k1, hk1, rfl⟩ := sp_key_of hk
      refine lv_aload_n hx hb dX1_has_21 rfl (lv_at hl 0 rfl) ?_
      refine x1_gth F hX dX1_has_22 ?_
      refine lv_bipush (v := nI 32) hx hb dX1_has_25 (by decide) ?_
      refine lv_iload_n hx hb dX1_has_27 rfl (lv_at hl 1 rfl) ?_
      refine lv_imul hx hb dX1_has_28 ?_
      refine pm_top (y := nI (32 * v1)) (pk_mul _ _) ?_
      refine lv_iload_n hx hb dX1_has_29 rfl (lv_at hl 2 rfl) ?_
      refine lv_iadd hx hb dX1_has_30 ?_
      refine pm_top (y := nI ((32 * v1) + k1)) (nI_add _ _) ?_
      refine x1_lth F hX (by omega) dX1_has_31 ?_
      refine pm_top (y := pm_on (b.2.2 v1 k1)) (hI.on hv1 hk1) ?_
      refine lv_if_eq (tgt := 39) hx hb dX1_has_32 (by decide) (fun c32 => ?_) (fun c32 => ?_)
      · refine lv_iconst (v := 0) hx hb dX1_has_39 (by decide) ?_
        exact hret 0 u _ _ 40 ls hX (⟨by rw [sp_has_3 hn hv1 hk1, c32], rfl⟩) (rfl) dX1_has_40
      · refine lv_iconst (v := 1) hx hb dX1_has_35 (by decide) ?_
        refine lv_goto (tgt := 40) hx hb dX1_has_36 (by decide) ?_
        exact hret 1 u _ _ 40 ls hX (⟨by rw [sp_has_3 hn hv1 hk1, pm_not0 (pm_on_bit _) c32], rfl⟩) (rfl) dX1_has_40
    · have hk := hw12.1.yes c15
      refine lv_bipush (v := (-2)) hx hb dX1_has_18 (by decide) ?_
      exact hret (-2) u _ _ 20 ls hX (⟨(sp_has_2 hv hk).symm, rfl⟩) (rfl) dX1_has_20
  · have hv := hw2.1.yes c5
    refine lv_iconst (v := (-1)) hx hb dX1_has_8 (by decide) ?_
    exact hret (-1) u _ _ 9 ls hX (⟨(sp_has_1 hv).symm, rfl⟩) (rfl) dX1_has_9

set_option maxHeartbeats 4000000 in
set_option maxRecDepth 100000 in
theorem c1_get (l : Launch) (D : va_G) (q : Nat → Nat) (a : Nat → ClassId) (u : pm_S1) {b : pm_AB} (hI : pm_R1 u b) (v k : Int32) : pm_Mi l yX1_get cX1_get 3 .int (pm_rm 1) D (pm_t1 a) (pm_w1 q a) [.ref (q 0), .int v, .int k] u (fun r u' => r = sp_get b v k ∧ u' = u) := by
  refine pm_Mi_of (by decide) (Nat.le_of_ble_eq_true rfl) ?_
  intro p e s m below meth c A args Q ls F hA hret hX hl
  have hx := F.1
  have hb := F.2.1
  have hl : lv_has ls 3 [(0, .ref (q 0)), (1, .int v), (2, .int k)] := hl
  have hn := hI.1.2.1
  refine lv_aload_n hx hb dX1_get_0 rfl (lv_at hl 0 rfl) ?_
  refine lv_iload_n hx hb dX1_get_1 rfl (lv_at hl 1 rfl) ?_
  refine pm_calli (rest := []) F hA hX (c1_bad l D q a u hI v) rfl rfl hG1_bad hd1_bad ⟨⟨rfl, rfl⟩, Nat.le_of_ble_eq_true rfl, Nat.le_of_ble_eq_true rfl⟩ rfl rfl hl.1 (Nat.le_of_ble_eq_true rfl) dX1_get_2 ⟨Nat.zero_le _, Nat.zero_le _⟩ (fun r2 u2 H locs hw2 hX => ?_)
  rw [hw2.2] at hX
  refine lv_if_ne (tgt := 16) hx hb dX1_get_5 (by decide) (fun c5 => ?_) (fun c5 => ?_)
  · have hv := hw2.1.yes c5
    refine lv_iconst (v := 0) hx hb dX1_get_16 (by decide) ?_
    exact hret 0 u _ _ 17 ls hX (⟨(sp_get_1 hv).symm, rfl⟩) (rfl) dX1_get_17
  · have hv := hw2.1.nn c5
    obtain ⟨v1, hv1, rfl⟩ := sp_ok_of hn hv
    refine lv_aload_n hx hb dX1_get_8 rfl (lv_at hl 0 rfl) ?_
    refine lv_iload_n hx hb dX1_get_9 rfl (lv_at hl 2 rfl) ?_
    refine pm_calli (rest := []) F hA hX (c1_badKey l D q a u k) rfl rfl hG1_badKey hd1_badKey ⟨⟨rfl, rfl⟩, Nat.le_of_ble_eq_true rfl, Nat.le_of_ble_eq_true rfl⟩ rfl rfl hl.1 (Nat.le_of_ble_eq_true rfl) dX1_get_10 ⟨Nat.zero_le _, Nat.zero_le _⟩ (fun r10 u10 H locs hw10 hX => ?_)
    rw [hw10.2] at hX
    refine lv_if_eq (tgt := 18) hx hb dX1_get_13 (by decide) (fun c13 => ?_) (fun c13 => ?_)
    · have hk := hw10.1.nn c13
      obtain ⟨k1, hk1, rfl⟩ := sp_key_of hk
      refine lv_aload_n hx hb dX1_get_18 rfl (lv_at hl 0 rfl) ?_
      refine x1_gth F hX dX1_get_19 ?_
      refine lv_bipush (v := nI 32) hx hb dX1_get_22 (by decide) ?_
      refine lv_iload_n hx hb dX1_get_24 rfl (lv_at hl 1 rfl) ?_
      refine lv_imul hx hb dX1_get_25 ?_
      refine pm_top (y := nI (32 * v1)) (pk_mul _ _) ?_
      refine lv_iload_n hx hb dX1_get_26 rfl (lv_at hl 2 rfl) ?_
      refine lv_iadd hx hb dX1_get_27 ?_
      refine pm_top (y := nI ((32 * v1) + k1)) (nI_add _ _) ?_
      refine x1_lth F hX (by omega) dX1_get_28 ?_
      refine pm_top (y := pm_on (b.2.2 v1 k1)) (hI.on hv1 hk1) ?_
      refine lv_if_eq (tgt := 46) hx hb dX1_get_29 (by decide) (fun c29 => ?_) (fun c29 => ?_)
      · refine lv_iconst (v := 0) hx hb dX1_get_46 (by decide) ?_
        exact hret 0 u _ _ 47 ls hX (⟨by rw [sp_get_3 hn hv1 hk1, pm_on_0 c29], rfl⟩) (rfl) dX1_get_47
      · refine lv_aload_n hx hb dX1_get_32 rfl (lv_at hl 0 rfl) ?_
        refine x1_gwo F hX dX1_get_33 ?_
        refine lv_bipush (v := nI 32) hx hb dX1_get_36 (by decide) ?_
        refine lv_iload_n hx hb dX1_get_38 rfl (lv_at hl 1 rfl) ?_
        refine lv_imul hx hb dX1_get_39 ?_
        refine pm_top (y := nI (32 * v1)) (pk_mul _ _) ?_
        refine lv_iload_n hx hb dX1_get_40 rfl (lv_at hl 2 rfl) ?_
        refine lv_iadd hx hb dX1_get_41 ?_
        refine pm_top (y := nI ((32 * v1) + k1)) (nI_add _ _) ?_
        refine x1_lwo F hX (by omega) dX1_get_42 ?_
        refine pm_top (y := (b.2.2 v1 k1).getD 0) (hI.wo hv1 hk1 (pm_on_y c29)) ?_
        refine lv_goto (tgt := 47) hx hb dX1_get_43 (by decide) ?_
        exact hret ((b.2.2 v1 k1).getD 0) u _ _ 47 ls hX (⟨by rw [sp_get_3 hn hv1 hk1], rfl⟩) (rfl) dX1_get_47
    · have hk := hw10.1.yes c13
      refine lv_iconst (v := 0) hx hb dX1_get_16 (by decide) ?_
      exact hret 0 u _ _ 17 ls hX (⟨(sp_get_2 hk).symm, rfl⟩) (rfl) dX1_get_17

set_option maxHeartbeats 4000000 in
set_option maxRecDepth 100000 in
theorem c1_size (l : Launch) (D : va_G) (q : Nat → Nat) (a : Nat → ClassId) (u : pm_S1) {b : pm_AB} (hI : pm_R1 u b) (v : Int32) : pm_Mi l yX1_size cX1_size 4 .int (pm_rm 1) D (pm_t1 a) (pm_w1 q a) [.ref (q 0), .int v] u (fun r u' => r = sp_size b v ∧ u' = u) := by
  refine pm_Mi_of (by decide) (Nat.le_of_ble_eq_true rfl) ?_
  intro p e s m below meth c A args Q ls F hA hret hX hl
  have hx := F.1
  have hb := F.2.1
  have hl : lv_has ls 4 [(0, .ref (q 0)), (1, .int v)] := hl
  have hn := hI.1.2.1
  refine lv_aload_n hx hb dX1_size_0 rfl (lv_at hl 0 rfl) ?_
  refine lv_iload_n hx hb dX1_size_1 rfl (lv_at hl 1 rfl) ?_
  refine pm_calli (rest := []) F hA hX (c1_bad l D q a u hI v) rfl rfl hG1_bad hd1_bad ⟨⟨rfl, rfl⟩, Nat.le_of_ble_eq_true rfl, Nat.le_of_ble_eq_true rfl⟩ rfl rfl hl.1 (Nat.le_of_ble_eq_true rfl) dX1_size_2 ⟨Nat.zero_le _, Nat.zero_le _⟩ (fun r2 u2 H locs hw2 hX => ?_)
  rw [hw2.2] at hX
  refine lv_if_eq (tgt := 10) hx hb dX1_size_5 (by decide) (fun c5 => ?_) (fun c5 => ?_)
  · have hv := hw2.1.nn c5
    obtain ⟨v1, hv1, rfl⟩ := sp_ok_of hn hv
    refine lv_iconst (v := nI 0) hx hb dX1_size_10 (by decide) ?_
    refine lv_istore_n (lv' := [(2, .int (nI 0)), (0, .ref (q 0)), (1, .int (nI v1))]) hx hb dX1_size_11 rfl hl (by decide) rfl (fun ls hl => ?_)
    refine lv_iconst (v := nI 0) hx hb dX1_size_12 (by decide) ?_
    refine lv_istore_n (lv' := [(3, .int (nI 0)), (2, .int (nI 0)), (0, .ref (q 0)), (1, .int (nI v1))]) hx hb dX1_size_13 rfl hl (by decide) rfl (fun ls hl => ?_)
    have loop : ∀ (N k : Nat) (H : Heap) (locs : List Loc) (ls : Array Slot), k + N = 32 → pm_X D A s (pm_t1 a) (pm_w1 q a) u H locs → lv_has ls 4 [(3, .int (nI k)), (2, .int (nI (pm_cnt (fun k => (b.2.2 v1 k).isSome) k))), (0, .ref (q 0)), (1, .int (nI v1))] → W p l e (pm_rm 1) s m args below meth c H locs 0 0 Q (F0 m 14 ls []) := by
      intro N
      induction N with
      | zero =>
        intro k H locs ls hk hX hl
        refine lv_iload_n hx hb dX1_size_14 rfl (lv_at hl 0 rfl) ?_
        refine lv_bipush (v := nI 32) hx hb dX1_size_15 (by decide) ?_
        refine lv_icmp_ge (tgt := 43) hx hb dX1_size_17 (by decide) (fun c17 => ?_) (fun c17 => ?_)
        · refine lv_iload_n hx hb dX1_size_43 rfl (lv_at hl 1 rfl) ?_
          exact hret (nI (pm_cnt (fun k => (b.2.2 v1 k).isSome) k)) u _ _ 44 ls hX (⟨by rw [sp_size_2 hn hv1, show k = 32 by omega], rfl⟩) (rfl) dX1_size_44
        · exact absurd (nI_le (by omega) (by omega)) c17
      | succ N ih =>
        intro k H locs ls hk hX hl
        refine lv_iload_n hx hb dX1_size_14 rfl (lv_at hl 0 rfl) ?_
        refine lv_bipush (v := nI 32) hx hb dX1_size_15 (by decide) ?_
        refine lv_icmp_ge (tgt := 43) hx hb dX1_size_17 (by decide) (fun c17 => ?_) (fun c17 => ?_)
        · exact absurd c17 (nI_ge (by omega) (by omega))
        · refine lv_aload_n hx hb dX1_size_20 rfl (lv_at hl 2 rfl) ?_
          refine x1_gth F hX dX1_size_21 ?_
          refine lv_bipush (v := nI 32) hx hb dX1_size_24 (by decide) ?_
          refine lv_iload_n hx hb dX1_size_26 rfl (lv_at hl 3 rfl) ?_
          refine lv_imul hx hb dX1_size_27 ?_
          refine pm_top (y := nI (32 * v1)) (pk_mul _ _) ?_
          refine lv_iload_n hx hb dX1_size_28 rfl (lv_at hl 0 rfl) ?_
          refine lv_iadd hx hb dX1_size_29 ?_
          refine pm_top (y := nI ((32 * v1) + k)) (nI_add _ _) ?_
          refine x1_lth F hX (by omega) dX1_size_30 ?_
          refine pm_top (y := pm_on (b.2.2 v1 k)) (hI.on hv1 (by omega)) ?_
          refine lv_if_eq (tgt := 37) hx hb dX1_size_31 (by decide) (fun c31 => ?_) (fun c31 => ?_)
          · refine lv_iinc (v := nI (k + 1)) (lv' := [(3, .int (nI (k + 1))), (2, .int (nI (pm_cnt (fun k => (b.2.2 v1 k).isSome) k))), (0, .ref (q 0)), (1, .int (nI v1))]) hx hb dX1_size_37 hl (k := 0) rfl (nI_1 k) (by decide) rfl (fun ls hl => ?_)
            refine lv_goto (tgt := 14) hx hb dX1_size_40 (by decide) ?_
            refine ih (k + 1) _ _ ls (by omega) hX ?_
            rw [pm_cnt_f (p := (fun k => (b.2.2 v1 k).isSome)) (pm_on_n c31)]
            exact lv_sub hl [0, 1, 2, 3] rfl
          · refine lv_iinc (v := nI (pm_cnt (fun k => (b.2.2 v1 k).isSome) k + 1)) (lv' := [(2, .int (nI (pm_cnt (fun k => (b.2.2 v1 k).isSome) k + 1))), (3, .int (nI k)), (0, .ref (q 0)), (1, .int (nI v1))]) hx hb dX1_size_34 hl (k := 1) rfl (nI_1 _) (by decide) rfl (fun ls hl => ?_)
            refine lv_iinc (v := nI (k + 1)) (lv' := [(3, .int (nI (k + 1))), (2, .int (nI (pm_cnt (fun k => (b.2.2 v1 k).isSome) k + 1))), (0, .ref (q 0)), (1, .int (nI v1))]) hx hb dX1_size_37 hl (k := 1) rfl (nI_1 k) (by decide) rfl (fun ls hl => ?_)
            refine lv_goto (tgt := 14) hx hb dX1_size_40 (by decide) ?_
            refine ih (k + 1) _ _ ls (by omega) hX ?_
            rw [pm_cnt_t (p := (fun k => (b.2.2 v1 k).isSome)) (pm_on_y c31)]
            exact lv_sub hl [0, 1, 2, 3] rfl
    exact loop 32 0 _ _ ls (by omega) hX (lv_sub hl [0, 1, 2, 3] rfl)
  · have hv := hw2.1.yes c5
    refine lv_iconst (v := (-1)) hx hb dX1_size_8 (by decide) ?_
    exact hret (-1) u _ _ 9 ls hX (⟨(sp_size_1 hv).symm, rfl⟩) (rfl) dX1_size_9

set_option maxHeartbeats 4000000 in
set_option maxRecDepth 100000 in
theorem c1_next (l : Launch) (D : va_G) (q : Nat → Nat) (a : Nat → ClassId) (u : pm_S1) {b : pm_AB} (hI : pm_R1 u b) (v f : Int32) : pm_Mi l yX1_next cX1_next 4 .int (pm_rm 1) D (pm_t1 a) (pm_w1 q a) [.ref (q 0), .int v, .int f] u (fun r u' => sp_next b v f r ∧ u' = u) := by
  refine pm_Mi_of (by decide) (Nat.le_of_ble_eq_true rfl) ?_
  intro p e s m below meth c A args Q ls F hA hret hX hl
  have hx := F.1
  have hb := F.2.1
  have hl : lv_has ls 4 [(0, .ref (q 0)), (1, .int v), (2, .int f)] := hl
  have hn := hI.1.2.1
  refine lv_aload_n hx hb dX1_next_0 rfl (lv_at hl 0 rfl) ?_
  refine lv_iload_n hx hb dX1_next_1 rfl (lv_at hl 1 rfl) ?_
  refine pm_calli (rest := []) F hA hX (c1_bad l D q a u hI v) rfl rfl hG1_bad hd1_bad ⟨⟨rfl, rfl⟩, Nat.le_of_ble_eq_true rfl, Nat.le_of_ble_eq_true rfl⟩ rfl rfl hl.1 (Nat.le_of_ble_eq_true rfl) dX1_next_2 ⟨Nat.zero_le _, Nat.zero_le _⟩ (fun r2 u2 H locs hw2 hX => ?_)
  rw [hw2.2] at hX
  refine lv_if_eq (tgt := 10) hx hb dX1_next_5 (by decide) (fun c5 => ?_) (fun c5 => ?_)
  · have hv := hw2.1.nn c5
    obtain ⟨v1, hv1, rfl⟩ := sp_ok_of hn hv
    refine lv_iconst (v := nI 0) hx hb dX1_next_10 (by decide) ?_
    refine lv_istore_n (lv' := [(3, .int (nI 0)), (0, .ref (q 0)), (1, .int (nI v1)), (2, .int f)]) hx hb dX1_next_11 rfl hl (by decide) rfl (fun ls hl => ?_)
    have loop : ∀ (N k : Nat) (H : Heap) (locs : List Loc) (ls : Array Slot), k + N = 32 → (∀ j, j < k → ¬ (f ≤ nI j ∧ (b.2.2 v1 j).isSome = true)) → pm_X D A s (pm_t1 a) (pm_w1 q a) u H locs → lv_has ls 4 [(3, .int (nI k)), (0, .ref (q 0)), (1, .int (nI v1)), (2, .int f)] → W p l e (pm_rm 1) s m args below meth c H locs 0 0 Q (F0 m 12 ls []) := by
      intro N
      induction N with
      | zero =>
        intro k H locs ls hk hj hX hl
        refine lv_iload_n hx hb dX1_next_12 rfl (lv_at hl 0 rfl) ?_
        refine lv_bipush (v := nI 32) hx hb dX1_next_13 (by decide) ?_
        refine lv_icmp_ge (tgt := 45) hx hb dX1_next_15 (by decide) (fun c15 => ?_) (fun c15 => ?_)
        · refine lv_bipush (v := (-2)) hx hb dX1_next_45 (by decide) ?_
          exact hret (-2) u _ _ 47 ls hX (⟨sp_next_2 hn hv1 (Or.inr ⟨fun j hj2 => hj j (by omega), rfl⟩), rfl⟩) (rfl) dX1_next_47
        · exact absurd (nI_le (by omega) (by omega)) c15
      | succ N ih =>
        intro k H locs ls hk hj hX hl
        refine lv_iload_n hx hb dX1_next_12 rfl (lv_at hl 0 rfl) ?_
        refine lv_bipush (v := nI 32) hx hb dX1_next_13 (by decide) ?_
        refine lv_icmp_ge (tgt := 45) hx hb dX1_next_15 (by decide) (fun c15 => ?_) (fun c15 => ?_)
        · exact absurd c15 (nI_ge (by omega) (by omega))
        · refine lv_iload_n hx hb dX1_next_18 rfl (lv_at hl 0 rfl) ?_
          refine lv_iload_n hx hb dX1_next_19 rfl (lv_at hl 3 rfl) ?_
          refine lv_icmp_lt (tgt := 39) hx hb dX1_next_20 (by decide) (fun c20 => ?_) (fun c20 => ?_)
          · refine lv_iinc (v := nI (k + 1)) (lv' := [(3, .int (nI (k + 1))), (0, .ref (q 0)), (1, .int (nI v1)), (2, .int f)]) hx hb dX1_next_39 hl (k := 0) rfl (nI_1 k) (by decide) rfl (fun ls hl => ?_)
            refine lv_goto (tgt := 12) hx hb dX1_next_42 (by decide) ?_
            exact ih (k + 1) _ _ ls (by omega) (pm_first_go hj (fun z => absurd c20 (Int32.not_lt.mpr z.1))) hX (lv_sub hl [0, 1, 2, 3] rfl)
          · refine lv_aload_n hx hb dX1_next_23 rfl (lv_at hl 1 rfl) ?_
            refine x1_gth F hX dX1_next_24 ?_
            refine lv_bipush (v := nI 32) hx hb dX1_next_27 (by decide) ?_
            refine lv_iload_n hx hb dX1_next_29 rfl (lv_at hl 2 rfl) ?_
            refine lv_imul hx hb dX1_next_30 ?_
            refine pm_top (y := nI (32 * v1)) (pk_mul _ _) ?_
            refine lv_iload_n hx hb dX1_next_31 rfl (lv_at hl 0 rfl) ?_
            refine lv_iadd hx hb dX1_next_32 ?_
            refine pm_top (y := nI ((32 * v1) + k)) (nI_add _ _) ?_
            refine x1_lth F hX (by omega) dX1_next_33 ?_
            refine pm_top (y := pm_on (b.2.2 v1 k)) (hI.on hv1 (by omega)) ?_
            refine lv_if_eq (tgt := 39) hx hb dX1_next_34 (by decide) (fun c34 => ?_) (fun c34 => ?_)
            · refine lv_iinc (v := nI (k + 1)) (lv' := [(3, .int (nI (k + 1))), (0, .ref (q 0)), (1, .int (nI v1)), (2, .int f)]) hx hb dX1_next_39 hl (k := 0) rfl (nI_1 k) (by decide) rfl (fun ls hl => ?_)
              refine lv_goto (tgt := 12) hx hb dX1_next_42 (by decide) ?_
              exact ih (k + 1) _ _ ls (by omega) (pm_first_go hj (fun z => pm_on_n c34 z.2)) hX (lv_sub hl [0, 1, 2, 3] rfl)
            · refine lv_iload_n hx hb dX1_next_37 rfl (lv_at hl 0 rfl) ?_
              exact hret (nI k) u _ _ 38 ls hX (⟨sp_next_2 hn hv1 (Or.inl ⟨k, by omega, ⟨Int32.not_lt.mp c20, pm_on_y c34⟩, hj, rfl⟩), rfl⟩) (rfl) dX1_next_38
    exact loop 32 0 _ _ ls (by omega) (fun j h => by omega) hX (lv_sub hl [0, 1, 2, 3] rfl)
  · have hv := hw2.1.yes c5
    refine lv_iconst (v := (-1)) hx hb dX1_next_8 (by decide) ?_
    exact hret (-1) u _ _ 9 ls hX (⟨sp_next_1 hv, rfl⟩) (rfl) dX1_next_9

set_option maxHeartbeats 4000000 in
set_option maxRecDepth 100000 in
theorem c1_previous (l : Launch) (D : va_G) (q : Nat → Nat) (a : Nat → ClassId) (u : pm_S1) {b : pm_AB} (hI : pm_R1 u b) (v t : Int32) : pm_Mi l yX1_previous cX1_previous 4 .int (pm_rm 1) D (pm_t1 a) (pm_w1 q a) [.ref (q 0), .int v, .int t] u (fun r u' => sp_previous b v t r ∧ u' = u) := by
  refine pm_Mi_of (by decide) (Nat.le_of_ble_eq_true rfl) ?_
  intro p e s m below meth c A args Q ls F hA hret hX hl
  have hx := F.1
  have hb := F.2.1
  have hl : lv_has ls 4 [(0, .ref (q 0)), (1, .int v), (2, .int t)] := hl
  have hn := hI.1.2.1
  refine lv_aload_n hx hb dX1_previous_0 rfl (lv_at hl 0 rfl) ?_
  refine lv_iload_n hx hb dX1_previous_1 rfl (lv_at hl 1 rfl) ?_
  refine pm_calli (rest := []) F hA hX (c1_bad l D q a u hI v) rfl rfl hG1_bad hd1_bad ⟨⟨rfl, rfl⟩, Nat.le_of_ble_eq_true rfl, Nat.le_of_ble_eq_true rfl⟩ rfl rfl hl.1 (Nat.le_of_ble_eq_true rfl) dX1_previous_2 ⟨Nat.zero_le _, Nat.zero_le _⟩ (fun r2 u2 H locs hw2 hX => ?_)
  rw [hw2.2] at hX
  refine lv_if_eq (tgt := 10) hx hb dX1_previous_5 (by decide) (fun c5 => ?_) (fun c5 => ?_)
  · have hv := hw2.1.nn c5
    obtain ⟨v1, hv1, rfl⟩ := sp_ok_of hn hv
    refine lv_bipush (v := nI 31) hx hb dX1_previous_10 (by decide) ?_
    refine lv_istore_n (lv' := [(3, .int (nI 31)), (0, .ref (q 0)), (1, .int (nI v1)), (2, .int t)]) hx hb dX1_previous_12 rfl hl (by decide) rfl (fun ls hl => ?_)
    have loop : ∀ (k : Nat) (H : Heap) (locs : List Loc) (ls : Array Slot), k ≤ 32 → (∀ j, k ≤ j → j < 32 → ¬ (nI j ≤ t ∧ (b.2.2 v1 j).isSome = true)) → pm_X D A s (pm_t1 a) (pm_w1 q a) u H locs → lv_has ls 4 [(3, .int (nI k + (-1))), (0, .ref (q 0)), (1, .int (nI v1)), (2, .int t)] → W p l e (pm_rm 1) s m args below meth c H locs 0 0 Q (F0 m 13 ls []) := by
      intro k
      induction k with
      | zero =>
        intro H locs ls hk hj hX hl
        refine lv_iload_n hx hb dX1_previous_13 rfl (lv_at hl 0 rfl) ?_
        refine lv_if_lt (tgt := 44) hx hb dX1_previous_14 (by decide) (fun c14 => ?_) (fun c14 => ?_)
        · refine lv_bipush (v := (-2)) hx hb dX1_previous_44 (by decide) ?_
          exact hret (-2) u _ _ 46 ls hX (⟨sp_previous_2 hn hv1 (Or.inr ⟨fun j hj2 => hj j (by omega) hj2, rfl⟩), rfl⟩) (rfl) dX1_previous_46
        · exact absurd (show nI 0 + (-1) < 0 by decide) c14
      | succ k ih =>
        intro H locs ls hk hj hX hl
        refine lv_iload_n hx hb dX1_previous_13 rfl (lv_at hl 0 rfl) ?_
        refine pm_top (y := nI k) (pk_m1 k) ?_
        refine lv_if_lt (tgt := 44) hx hb dX1_previous_14 (by decide) (fun c14 => ?_) (fun c14 => ?_)
        · exact absurd c14 (nI_pos (by omega))
        · refine lv_iload_n hx hb dX1_previous_17 rfl (lv_at hl 0 rfl) ?_
          refine pm_top (y := nI k) (pk_m1 k) ?_
          refine lv_iload_n hx hb dX1_previous_18 rfl (lv_at hl 3 rfl) ?_
          refine lv_icmp_gt (tgt := 38) hx hb dX1_previous_19 (by decide) (fun c19 => ?_) (fun c19 => ?_)
          · refine lv_iinc (v := nI k + (-1)) (lv' := [(3, .int (nI k + (-1))), (0, .ref (q 0)), (1, .int (nI v1)), (2, .int t)]) hx hb dX1_previous_38 hl (k := 0) rfl (by rw [pk_m1]; rfl) (by decide) rfl (fun ls hl => ?_)
            refine lv_goto (tgt := 13) hx hb dX1_previous_41 (by decide) ?_
            refine ih _ _ ls (by omega) ?_ hX (lv_sub hl [0, 1, 2, 3] rfl)
            intro j h1 h2
            rcases Nat.lt_or_ge k j with z | z
            · exact hj j (by omega) h2
            · rw [show j = k by omega]; exact (fun z => absurd c19 (Int32.not_lt.mpr z.1))
          · refine lv_aload_n hx hb dX1_previous_22 rfl (lv_at hl 1 rfl) ?_
            refine x1_gth F hX dX1_previous_23 ?_
            refine lv_bipush (v := nI 32) hx hb dX1_previous_26 (by decide) ?_
            refine lv_iload_n hx hb dX1_previous_28 rfl (lv_at hl 2 rfl) ?_
            refine lv_imul hx hb dX1_previous_29 ?_
            refine pm_top (y := nI (32 * v1)) (pk_mul _ _) ?_
            refine lv_iload_n hx hb dX1_previous_30 rfl (lv_at hl 0 rfl) ?_
            refine pm_top (y := nI k) (pk_m1 k) ?_
            refine lv_iadd hx hb dX1_previous_31 ?_
            refine pm_top (y := nI ((32 * v1) + k)) (nI_add _ _) ?_
            refine x1_lth F hX (by omega) dX1_previous_32 ?_
            refine pm_top (y := pm_on (b.2.2 v1 k)) (hI.on hv1 (by omega)) ?_
            refine lv_if_eq (tgt := 38) hx hb dX1_previous_33 (by decide) (fun c33 => ?_) (fun c33 => ?_)
            · refine lv_iinc (v := nI k + (-1)) (lv' := [(3, .int (nI k + (-1))), (0, .ref (q 0)), (1, .int (nI v1)), (2, .int t)]) hx hb dX1_previous_38 hl (k := 0) rfl (by rw [pk_m1]; rfl) (by decide) rfl (fun ls hl => ?_)
              refine lv_goto (tgt := 13) hx hb dX1_previous_41 (by decide) ?_
              refine ih _ _ ls (by omega) ?_ hX (lv_sub hl [0, 1, 2, 3] rfl)
              intro j h1 h2
              rcases Nat.lt_or_ge k j with z | z
              · exact hj j (by omega) h2
              · rw [show j = k by omega]; exact (fun z => pm_on_n c33 z.2)
            · refine lv_iload_n hx hb dX1_previous_36 rfl (lv_at hl 0 rfl) ?_
              refine pm_top (y := nI k) (pk_m1 k) ?_
              exact hret (nI k) u _ _ 37 ls hX (⟨sp_previous_2 hn hv1 (Or.inl ⟨k, by omega, ⟨Int32.not_lt.mp c19, pm_on_y c33⟩, fun j h1 h2 => hj j (by omega) h2, rfl⟩), rfl⟩) (rfl) dX1_previous_37
    refine loop 32 _ _ ls (by omega) (fun j h1 h2 => by omega) hX ?_
    rw [show nI 32 + (-1) = nI 31 by decide]
    exact lv_sub hl [0, 1, 2, 3] rfl
  · have hv := hw2.1.yes c5
    refine lv_iconst (v := (-1)) hx hb dX1_previous_8 (by decide) ?_
    exact hret (-1) u _ _ 9 ls hX (⟨sp_previous_1 hv, rfl⟩) (rfl) dX1_previous_9

set_option maxHeartbeats 4000000 in
set_option maxRecDepth 100000 in
theorem c1_select (l : Launch) (D : va_G) (q : Nat → Nat) (a : Nat → ClassId) (u : pm_S1) {b : pm_AB} (hI : pm_R1 u b) (v f : Int32) : pm_Mi l yX1_select cX1_select 5 .int (pm_rm 1) D (pm_t1 a) (pm_w1 q a) [.ref (q 0), .int v, .int f] u (fun r u' => sp_select b v f r ∧ u' = u) := by
  refine pm_Mi_of (by decide) (Nat.le_of_ble_eq_true rfl) ?_
  intro p e s m below meth c A args Q ls F hA hret hX hl
  have hx := F.1
  have hb := F.2.1
  have hl : lv_has ls 5 [(0, .ref (q 0)), (1, .int v), (2, .int f)] := hl
  have hn := hI.1.2.1
  refine lv_aload_n hx hb dX1_select_0 rfl (lv_at hl 0 rfl) ?_
  refine lv_iload_n hx hb dX1_select_1 rfl (lv_at hl 1 rfl) ?_
  refine pm_calli (rest := []) F hA hX (c1_bad l D q a u hI v) rfl rfl hG1_bad hd1_bad ⟨⟨rfl, rfl⟩, Nat.le_of_ble_eq_true rfl, Nat.le_of_ble_eq_true rfl⟩ rfl rfl hl.1 (Nat.le_of_ble_eq_true rfl) dX1_select_2 ⟨Nat.zero_le _, Nat.zero_le _⟩ (fun r2 u2 H locs hw2 hX => ?_)
  rw [hw2.2] at hX
  refine lv_if_eq (tgt := 10) hx hb dX1_select_5 (by decide) (fun c5 => ?_) (fun c5 => ?_)
  · have hv := hw2.1.nn c5
    obtain ⟨v1, hv1, rfl⟩ := sp_ok_of hn hv
    refine lv_iconst (v := nI 0) hx hb dX1_select_10 (by decide) ?_
    refine lv_istore_n (lv' := [(3, .int (nI 0)), (0, .ref (q 0)), (1, .int (nI v1)), (2, .int f)]) hx hb dX1_select_11 rfl hl (by decide) rfl (fun ls hl => ?_)
    refine lv_iconst (v := nI 0) hx hb dX1_select_12 (by decide) ?_
    refine lv_istore (lv' := [(4, .int (nI 0)), (3, .int (nI 0)), (0, .ref (q 0)), (1, .int (nI v1)), (2, .int f)]) hx hb dX1_select_13 hl (by decide) rfl (fun ls hl => ?_)
    have loop : ∀ (N k : Nat) (H : Heap) (locs : List Loc) (ls : Array Slot), k + N = 32 → (∀ j, j < k → ¬ ((b.2.2 v1 j).isSome = true ∧ nI (pm_cnt (fun k => (b.2.2 v1 k).isSome) j) = f)) → pm_X D A s (pm_t1 a) (pm_w1 q a) u H locs → lv_has ls 5 [(4, .int (nI k)), (3, .int (nI (pm_cnt (fun k => (b.2.2 v1 k).isSome) k))), (0, .ref (q 0)), (1, .int (nI v1)), (2, .int f)] → W p l e (pm_rm 1) s m args below meth c H locs 0 0 Q (F0 m 15 ls []) := by
      intro N
      induction N with
      | zero =>
        intro k H locs ls hk hj hX hl
        refine lv_iload hx hb dX1_select_15 (lv_at hl 0 rfl) ?_
        refine lv_bipush (v := nI 32) hx hb dX1_select_17 (by decide) ?_
        refine lv_icmp_ge (tgt := 54) hx hb dX1_select_19 (by decide) (fun c19 => ?_) (fun c19 => ?_)
        · refine lv_bipush (v := (-2)) hx hb dX1_select_54 (by decide) ?_
          exact hret (-2) u _ _ 56 ls hX (⟨sp_select_2 hn hv1 (Or.inr ⟨fun j hj2 => hj j (by omega), rfl⟩), rfl⟩) (rfl) dX1_select_56
        · exact absurd (nI_le (by omega) (by omega)) c19
      | succ N ih =>
        intro k H locs ls hk hj hX hl
        refine lv_iload hx hb dX1_select_15 (lv_at hl 0 rfl) ?_
        refine lv_bipush (v := nI 32) hx hb dX1_select_17 (by decide) ?_
        refine lv_icmp_ge (tgt := 54) hx hb dX1_select_19 (by decide) (fun c19 => ?_) (fun c19 => ?_)
        · exact absurd c19 (nI_ge (by omega) (by omega))
        · refine lv_aload_n hx hb dX1_select_22 rfl (lv_at hl 2 rfl) ?_
          refine x1_gth F hX dX1_select_23 ?_
          refine lv_bipush (v := nI 32) hx hb dX1_select_26 (by decide) ?_
          refine lv_iload_n hx hb dX1_select_28 rfl (lv_at hl 3 rfl) ?_
          refine lv_imul hx hb dX1_select_29 ?_
          refine pm_top (y := nI (32 * v1)) (pk_mul _ _) ?_
          refine lv_iload hx hb dX1_select_30 (lv_at hl 0 rfl) ?_
          refine lv_iadd hx hb dX1_select_32 ?_
          refine pm_top (y := nI ((32 * v1) + k)) (nI_add _ _) ?_
          refine x1_lth F hX (by omega) dX1_select_33 ?_
          refine pm_top (y := pm_on (b.2.2 v1 k)) (hI.on hv1 (by omega)) ?_
          refine lv_if_eq (tgt := 48) hx hb dX1_select_34 (by decide) (fun c34 => ?_) (fun c34 => ?_)
          · refine lv_iinc (v := nI (k + 1)) (lv' := [(4, .int (nI (k + 1))), (3, .int (nI (pm_cnt (fun k => (b.2.2 v1 k).isSome) k))), (0, .ref (q 0)), (1, .int (nI v1)), (2, .int f)]) hx hb dX1_select_48 hl (k := 0) rfl (nI_1 k) (by decide) rfl (fun ls hl => ?_)
            refine lv_goto (tgt := 15) hx hb dX1_select_51 (by decide) ?_
            refine ih (k + 1) _ _ ls (by omega) (pm_first_go hj (fun z => pm_on_n c34 z.1)) hX ?_
            rw [pm_cnt_f (p := (fun k => (b.2.2 v1 k).isSome)) (pm_on_n c34)]
            exact lv_sub hl [0, 1, 2, 3, 4] rfl
          · refine lv_iload_n hx hb dX1_select_37 rfl (lv_at hl 1 rfl) ?_
            refine lv_iload_n hx hb dX1_select_38 rfl (lv_at hl 4 rfl) ?_
            refine lv_icmp_ne (tgt := 45) hx hb dX1_select_39 (by decide) (fun c39 => ?_) (fun c39 => ?_)
            · refine lv_iinc (v := nI (pm_cnt (fun k => (b.2.2 v1 k).isSome) k + 1)) (lv' := [(3, .int (nI (pm_cnt (fun k => (b.2.2 v1 k).isSome) k + 1))), (4, .int (nI k)), (0, .ref (q 0)), (1, .int (nI v1)), (2, .int f)]) hx hb dX1_select_45 hl (k := 1) rfl (nI_1 _) (by decide) rfl (fun ls hl => ?_)
              refine lv_iinc (v := nI (k + 1)) (lv' := [(4, .int (nI (k + 1))), (3, .int (nI (pm_cnt (fun k => (b.2.2 v1 k).isSome) k + 1))), (0, .ref (q 0)), (1, .int (nI v1)), (2, .int f)]) hx hb dX1_select_48 hl (k := 1) rfl (nI_1 k) (by decide) rfl (fun ls hl => ?_)
              refine lv_goto (tgt := 15) hx hb dX1_select_51 (by decide) ?_
              refine ih (k + 1) _ _ ls (by omega) (pm_first_go hj (fun z => c39 z.2)) hX ?_
              rw [pm_cnt_t (p := (fun k => (b.2.2 v1 k).isSome)) (pm_on_y c34)]
              exact lv_sub hl [0, 1, 2, 3, 4] rfl
            · refine lv_iload hx hb dX1_select_42 (lv_at hl 0 rfl) ?_
              exact hret (nI k) u _ _ 44 ls hX (⟨sp_select_2 hn hv1 (Or.inl ⟨k, by omega, ⟨pm_on_y c34, c39⟩, hj, rfl⟩), rfl⟩) (rfl) dX1_select_44
    exact loop 32 0 _ _ ls (by omega) (fun j h => by omega) hX (lv_sub hl [0, 1, 2, 3, 4] rfl)
  · have hv := hw2.1.yes c5
    refine lv_iconst (v := (-1)) hx hb dX1_select_8 (by decide) ?_
    exact hret (-1) u _ _ 9 ls hX (⟨sp_select_1 hv, rfl⟩) (rfl) dX1_select_9

set_option maxHeartbeats 4000000 in
set_option maxRecDepth 100000 in
theorem c1_sum (l : Launch) (D : va_G) (q : Nat → Nat) (a : Nat → ClassId) (u : pm_S1) {b : pm_AB} (hI : pm_R1 u b) (v f t : Int32) : pm_Mi l yX1_sum cX1_sum 6 .int (pm_rm 1) D (pm_t1 a) (pm_w1 q a) [.ref (q 0), .int v, .int f, .int t] u (fun r u' => r = sp_sum b v f t ∧ u' = u) := by
  refine pm_Mi_of (by decide) (Nat.le_of_ble_eq_true rfl) ?_
  intro p e s m below meth c A args Q ls F hA hret hX hl
  have hx := F.1
  have hb := F.2.1
  have hl : lv_has ls 6 [(0, .ref (q 0)), (1, .int v), (2, .int f), (3, .int t)] := hl
  have hn := hI.1.2.1
  refine lv_aload_n hx hb dX1_sum_0 rfl (lv_at hl 0 rfl) ?_
  refine lv_iload_n hx hb dX1_sum_1 rfl (lv_at hl 1 rfl) ?_
  refine pm_calli (rest := []) F hA hX (c1_bad l D q a u hI v) rfl rfl hG1_bad hd1_bad ⟨⟨rfl, rfl⟩, Nat.le_of_ble_eq_true rfl, Nat.le_of_ble_eq_true rfl⟩ rfl rfl hl.1 (Nat.le_of_ble_eq_true rfl) dX1_sum_2 ⟨Nat.zero_le _, Nat.zero_le _⟩ (fun r2 u2 H locs hw2 hX => ?_)
  rw [hw2.2] at hX
  refine lv_if_eq (tgt := 10) hx hb dX1_sum_5 (by decide) (fun c5 => ?_) (fun c5 => ?_)
  · have hv := hw2.1.nn c5
    obtain ⟨v1, hv1, rfl⟩ := sp_ok_of hn hv
    refine lv_iconst (v := 0) hx hb dX1_sum_10 (by decide) ?_
    refine lv_istore (lv' := [(4, .int 0), (0, .ref (q 0)), (1, .int (nI v1)), (2, .int f), (3, .int t)]) hx hb dX1_sum_11 hl (by decide) rfl (fun ls hl => ?_)
    refine lv_iconst (v := nI 0) hx hb dX1_sum_13 (by decide) ?_
    refine lv_istore (lv' := [(5, .int (nI 0)), (4, .int 0), (0, .ref (q 0)), (1, .int (nI v1)), (2, .int f), (3, .int t)]) hx hb dX1_sum_14 hl (by decide) rfl (fun ls hl => ?_)
    have loop : ∀ (N k : Nat) (H : Heap) (locs : List Loc) (ls : Array Slot), k + N = 32 → pm_X D A s (pm_t1 a) (pm_w1 q a) u H locs → lv_has ls 6 [(5, .int (nI k)), (4, .int (pm_sum (fun k => if f ≤ nI k ∧ nI k ≤ t then (b.2.2 v1 k).getD 0 else 0) k)), (0, .ref (q 0)), (1, .int (nI v1)), (2, .int f), (3, .int t)] → W p l e (pm_rm 1) s m args below meth c H locs 0 0 Q (F0 m 16 ls []) := by
      intro N
      induction N with
      | zero =>
        intro k H locs ls hk hX hl
        refine lv_iload hx hb dX1_sum_16 (lv_at hl 0 rfl) ?_
        refine lv_bipush (v := nI 32) hx hb dX1_sum_18 (by decide) ?_
        refine lv_icmp_ge (tgt := 73) hx hb dX1_sum_20 (by decide) (fun c20 => ?_) (fun c20 => ?_)
        · refine lv_iload hx hb dX1_sum_73 (lv_at hl 1 rfl) ?_
          exact hret (pm_sum (fun k => if f ≤ nI k ∧ nI k ≤ t then (b.2.2 v1 k).getD 0 else 0) k) u _ _ 75 ls hX (⟨by rw [sp_sum_2 hn hv1, show k = 32 by omega], rfl⟩) (rfl) dX1_sum_75
        · exact absurd (nI_le (by omega) (by omega)) c20
      | succ N ih =>
        intro k H locs ls hk hX hl
        refine lv_iload hx hb dX1_sum_16 (lv_at hl 0 rfl) ?_
        refine lv_bipush (v := nI 32) hx hb dX1_sum_18 (by decide) ?_
        refine lv_icmp_ge (tgt := 73) hx hb dX1_sum_20 (by decide) (fun c20 => ?_) (fun c20 => ?_)
        · exact absurd c20 (nI_ge (by omega) (by omega))
        · refine lv_iload hx hb dX1_sum_23 (lv_at hl 0 rfl) ?_
          refine lv_iload_n hx hb dX1_sum_25 rfl (lv_at hl 4 rfl) ?_
          refine lv_icmp_lt (tgt := 67) hx hb dX1_sum_26 (by decide) (fun c26 => ?_) (fun c26 => ?_)
          · refine lv_iinc (v := nI (k + 1)) (lv' := [(5, .int (nI (k + 1))), (4, .int (pm_sum (fun k => if f ≤ nI k ∧ nI k ≤ t then (b.2.2 v1 k).getD 0 else 0) k)), (0, .ref (q 0)), (1, .int (nI v1)), (2, .int f), (3, .int t)]) hx hb dX1_sum_67 hl (k := 0) rfl (nI_1 k) (by decide) rfl (fun ls hl => ?_)
            refine lv_goto (tgt := 16) hx hb dX1_sum_70 (by decide) ?_
            refine ih (k + 1) _ _ ls (by omega) hX ?_
            rw [show pm_sum (fun k => if f ≤ nI k ∧ nI k ≤ t then (b.2.2 v1 k).getD 0 else 0) (k + 1) = pm_sum (fun k => if f ≤ nI k ∧ nI k ≤ t then (b.2.2 v1 k).getD 0 else 0) k + (fun k => if f ≤ nI k ∧ nI k ≤ t then (b.2.2 v1 k).getD 0 else 0) k from rfl, show (fun k => if f ≤ nI k ∧ nI k ≤ t then (b.2.2 v1 k).getD 0 else 0) k = 0 from if_neg (fun z => absurd c26 (Int32.not_lt.mpr z.1)), Int32.add_zero]
            exact lv_sub hl [0, 1, 2, 3, 4, 5] rfl
          · refine lv_iload hx hb dX1_sum_29 (lv_at hl 0 rfl) ?_
            refine lv_iload_n hx hb dX1_sum_31 rfl (lv_at hl 5 rfl) ?_
            refine lv_icmp_gt (tgt := 67) hx hb dX1_sum_32 (by decide) (fun c32 => ?_) (fun c32 => ?_)
            · refine lv_iinc (v := nI (k + 1)) (lv' := [(5, .int (nI (k + 1))), (4, .int (pm_sum (fun k => if f ≤ nI k ∧ nI k ≤ t then (b.2.2 v1 k).getD 0 else 0) k)), (0, .ref (q 0)), (1, .int (nI v1)), (2, .int f), (3, .int t)]) hx hb dX1_sum_67 hl (k := 0) rfl (nI_1 k) (by decide) rfl (fun ls hl => ?_)
              refine lv_goto (tgt := 16) hx hb dX1_sum_70 (by decide) ?_
              refine ih (k + 1) _ _ ls (by omega) hX ?_
              rw [show pm_sum (fun k => if f ≤ nI k ∧ nI k ≤ t then (b.2.2 v1 k).getD 0 else 0) (k + 1) = pm_sum (fun k => if f ≤ nI k ∧ nI k ≤ t then (b.2.2 v1 k).getD 0 else 0) k + (fun k => if f ≤ nI k ∧ nI k ≤ t then (b.2.2 v1 k).getD 0 else 0) k from rfl, show (fun k => if f ≤ nI k ∧ nI k ≤ t then (b.2.2 v1 k).getD 0 else 0) k = 0 from if_neg (fun z => absurd c32 (Int32.not_lt.mpr z.2)), Int32.add_zero]
              exact lv_sub hl [0, 1, 2, 3, 4, 5] rfl
            · refine lv_aload_n hx hb dX1_sum_35 rfl (lv_at hl 2 rfl) ?_
              refine x1_gth F hX dX1_sum_36 ?_
              refine lv_bipush (v := nI 32) hx hb dX1_sum_39 (by decide) ?_
              refine lv_iload_n hx hb dX1_sum_41 rfl (lv_at hl 3 rfl) ?_
              refine lv_imul hx hb dX1_sum_42 ?_
              refine pm_top (y := nI (32 * v1)) (pk_mul _ _) ?_
              refine lv_iload hx hb dX1_sum_43 (lv_at hl 0 rfl) ?_
              refine lv_iadd hx hb dX1_sum_45 ?_
              refine pm_top (y := nI ((32 * v1) + k)) (nI_add _ _) ?_
              refine x1_lth F hX (by omega) dX1_sum_46 ?_
              refine pm_top (y := pm_on (b.2.2 v1 k)) (hI.on hv1 (by omega)) ?_
              refine lv_if_eq (tgt := 67) hx hb dX1_sum_47 (by decide) (fun c47 => ?_) (fun c47 => ?_)
              · refine lv_iinc (v := nI (k + 1)) (lv' := [(5, .int (nI (k + 1))), (4, .int (pm_sum (fun k => if f ≤ nI k ∧ nI k ≤ t then (b.2.2 v1 k).getD 0 else 0) k)), (0, .ref (q 0)), (1, .int (nI v1)), (2, .int f), (3, .int t)]) hx hb dX1_sum_67 hl (k := 0) rfl (nI_1 k) (by decide) rfl (fun ls hl => ?_)
                refine lv_goto (tgt := 16) hx hb dX1_sum_70 (by decide) ?_
                refine ih (k + 1) _ _ ls (by omega) hX ?_
                rw [show pm_sum (fun k => if f ≤ nI k ∧ nI k ≤ t then (b.2.2 v1 k).getD 0 else 0) (k + 1) = pm_sum (fun k => if f ≤ nI k ∧ nI k ≤ t then (b.2.2 v1 k).getD 0 else 0) k + (fun k => if f ≤ nI k ∧ nI k ≤ t then (b.2.2 v1 k).getD 0 else 0) k from rfl, show (fun k => if f ≤ nI k ∧ nI k ≤ t then (b.2.2 v1 k).getD 0 else 0) k = 0 from (if_pos ⟨Int32.not_lt.mp c26, Int32.not_lt.mp c32⟩).trans (pm_on_0 c47), Int32.add_zero]
                exact lv_sub hl [0, 1, 2, 3, 4, 5] rfl
              · refine lv_iload hx hb dX1_sum_50 (lv_at hl 1 rfl) ?_
                refine lv_aload_n hx hb dX1_sum_52 rfl (lv_at hl 2 rfl) ?_
                refine x1_gwo F hX dX1_sum_53 ?_
                refine lv_bipush (v := nI 32) hx hb dX1_sum_56 (by decide) ?_
                refine lv_iload_n hx hb dX1_sum_58 rfl (lv_at hl 3 rfl) ?_
                refine lv_imul hx hb dX1_sum_59 ?_
                refine pm_top (y := nI (32 * v1)) (pk_mul _ _) ?_
                refine lv_iload hx hb dX1_sum_60 (lv_at hl 0 rfl) ?_
                refine lv_iadd hx hb dX1_sum_62 ?_
                refine pm_top (y := nI ((32 * v1) + k)) (nI_add _ _) ?_
                refine x1_lwo F hX (by omega) dX1_sum_63 ?_
                refine pm_top (y := (b.2.2 v1 k).getD 0) (hI.wo hv1 (by omega) (pm_on_y c47)) ?_
                refine lv_iadd hx hb dX1_sum_64 ?_
                refine pm_top (y := pm_sum (fun k => if f ≤ nI k ∧ nI k ≤ t then (b.2.2 v1 k).getD 0 else 0) (k + 1)) (by show _ = pm_sum (fun k => if f ≤ nI k ∧ nI k ≤ t then (b.2.2 v1 k).getD 0 else 0) k + (fun k => if f ≤ nI k ∧ nI k ≤ t then (b.2.2 v1 k).getD 0 else 0) k; rw [show (fun k => if f ≤ nI k ∧ nI k ≤ t then (b.2.2 v1 k).getD 0 else 0) k = (b.2.2 v1 k).getD 0 from if_pos ⟨Int32.not_lt.mp c26, Int32.not_lt.mp c32⟩]) ?_
                refine lv_istore (lv' := [(4, .int (pm_sum (fun k => if f ≤ nI k ∧ nI k ≤ t then (b.2.2 v1 k).getD 0 else 0) (k + 1))), (5, .int (nI k)), (0, .ref (q 0)), (1, .int (nI v1)), (2, .int f), (3, .int t)]) hx hb dX1_sum_65 hl (by decide) rfl (fun ls hl => ?_)
                refine lv_iinc (v := nI (k + 1)) (lv' := [(5, .int (nI (k + 1))), (4, .int (pm_sum (fun k => if f ≤ nI k ∧ nI k ≤ t then (b.2.2 v1 k).getD 0 else 0) (k + 1))), (0, .ref (q 0)), (1, .int (nI v1)), (2, .int f), (3, .int t)]) hx hb dX1_sum_67 hl (k := 1) rfl (nI_1 k) (by decide) rfl (fun ls hl => ?_)
                refine lv_goto (tgt := 16) hx hb dX1_sum_70 (by decide) ?_
                exact ih (k + 1) _ _ ls (by omega) hX (lv_sub hl [0, 1, 2, 3, 4, 5] rfl)
    exact loop 32 0 _ _ ls (by omega) hX (lv_sub hl [0, 1, 2, 3, 4, 5] rfl)
  · have hv := hw2.1.yes c5
    refine lv_iconst (v := 0) hx hb dX1_sum_8 (by decide) ?_
    exact hret 0 u _ _ 9 ls hX (⟨(sp_sum_1 hv).symm, rfl⟩) (rfl) dX1_sum_9

set_option maxHeartbeats 4000000 in
set_option maxRecDepth 100000 in
theorem c1_differing (l : Launch) (D : va_G) (q : Nat → Nat) (a : Nat → ClassId) (u : pm_S1) {b : pm_AB} (hI : pm_R1 u b) (v w : Int32) : pm_Mi l yX1_differing cX1_differing 5 .int (pm_rm 1) D (pm_t1 a) (pm_w1 q a) [.ref (q 0), .int v, .int w] u (fun r u' => r = sp_differing b v w ∧ u' = u) := by
  refine pm_Mi_of (by decide) (Nat.le_of_ble_eq_true rfl) ?_
  intro p e s m below meth c A args Q ls F hA hret hX hl
  have hx := F.1
  have hb := F.2.1
  have hl : lv_has ls 5 [(0, .ref (q 0)), (1, .int v), (2, .int w)] := hl
  have hn := hI.1.2.1
  refine lv_aload_n hx hb dX1_differing_0 rfl (lv_at hl 0 rfl) ?_
  refine lv_iload_n hx hb dX1_differing_1 rfl (lv_at hl 1 rfl) ?_
  refine pm_calli (rest := []) F hA hX (c1_bad l D q a u hI v) rfl rfl hG1_bad hd1_bad ⟨⟨rfl, rfl⟩, Nat.le_of_ble_eq_true rfl, Nat.le_of_ble_eq_true rfl⟩ rfl rfl hl.1 (Nat.le_of_ble_eq_true rfl) dX1_differing_2 ⟨Nat.zero_le _, Nat.zero_le _⟩ (fun r2 u2 H locs hw2 hX => ?_)
  rw [hw2.2] at hX
  refine lv_if_ne (tgt := 16) hx hb dX1_differing_5 (by decide) (fun c5 => ?_) (fun c5 => ?_)
  · have hv := hw2.1.yes c5
    refine lv_iconst (v := (-1)) hx hb dX1_differing_16 (by decide) ?_
    exact hret (-1) u _ _ 17 ls hX (⟨(sp_differing_1 hv).symm, rfl⟩) (rfl) dX1_differing_17
  · have hv := hw2.1.nn c5
    obtain ⟨v1, hv1, rfl⟩ := sp_ok_of hn hv
    refine lv_aload_n hx hb dX1_differing_8 rfl (lv_at hl 0 rfl) ?_
    refine lv_iload_n hx hb dX1_differing_9 rfl (lv_at hl 2 rfl) ?_
    refine pm_calli (rest := []) F hA hX (c1_bad l D q a u hI w) rfl rfl hG1_bad hd1_bad ⟨⟨rfl, rfl⟩, Nat.le_of_ble_eq_true rfl, Nat.le_of_ble_eq_true rfl⟩ rfl rfl hl.1 (Nat.le_of_ble_eq_true rfl) dX1_differing_10 ⟨Nat.zero_le _, Nat.zero_le _⟩ (fun r10 u10 H locs hw10 hX => ?_)
    rw [hw10.2] at hX
    refine lv_if_eq (tgt := 18) hx hb dX1_differing_13 (by decide) (fun c13 => ?_) (fun c13 => ?_)
    · have hw := hw10.1.nn c13
      obtain ⟨w1, hw1, rfl⟩ := sp_ok_of hn hw
      refine lv_iconst (v := nI 0) hx hb dX1_differing_18 (by decide) ?_
      refine lv_istore_n (lv' := [(3, .int (nI 0)), (0, .ref (q 0)), (1, .int (nI v1)), (2, .int (nI w1))]) hx hb dX1_differing_19 rfl hl (by decide) rfl (fun ls hl => ?_)
      refine lv_iconst (v := nI 0) hx hb dX1_differing_20 (by decide) ?_
      refine lv_istore (lv' := [(4, .int (nI 0)), (3, .int (nI 0)), (0, .ref (q 0)), (1, .int (nI v1)), (2, .int (nI w1))]) hx hb dX1_differing_21 hl (by decide) rfl (fun ls hl => ?_)
      have loop : ∀ (N k : Nat) (H : Heap) (locs : List Loc) (ls : Array Slot), k + N = 32 → pm_X D A s (pm_t1 a) (pm_w1 q a) u H locs → lv_has ls 5 [(4, .int (nI k)), (3, .int (nI (pm_cnt (fun k => decide (b.2.2 v1 k ≠ b.2.2 w1 k)) k))), (0, .ref (q 0)), (1, .int (nI v1)), (2, .int (nI w1))] → W p l e (pm_rm 1) s m args below meth c H locs 0 0 Q (F0 m 23 ls []) := by
        intro N
        induction N with
        | zero =>
          intro k H locs ls hk hX hl
          refine lv_iload hx hb dX1_differing_23 (lv_at hl 0 rfl) ?_
          refine lv_bipush (v := nI 32) hx hb dX1_differing_25 (by decide) ?_
          refine lv_icmp_ge (tgt := 50) hx hb dX1_differing_27 (by decide) (fun c27 => ?_) (fun c27 => ?_)
          · refine lv_iload_n hx hb dX1_differing_50 rfl (lv_at hl 1 rfl) ?_
            exact hret (nI (pm_cnt (fun k => decide (b.2.2 v1 k ≠ b.2.2 w1 k)) k)) u _ _ 51 ls hX (⟨by rw [sp_differing_3 hn hv1 hw1, show k = 32 by omega], rfl⟩) (rfl) dX1_differing_51
          · exact absurd (nI_le (by omega) (by omega)) c27
        | succ N ih =>
          intro k H locs ls hk hX hl
          refine lv_iload hx hb dX1_differing_23 (lv_at hl 0 rfl) ?_
          refine lv_bipush (v := nI 32) hx hb dX1_differing_25 (by decide) ?_
          refine lv_icmp_ge (tgt := 50) hx hb dX1_differing_27 (by decide) (fun c27 => ?_) (fun c27 => ?_)
          · exact absurd c27 (nI_ge (by omega) (by omega))
          · refine lv_aload_n hx hb dX1_differing_30 rfl (lv_at hl 2 rfl) ?_
            refine lv_iload_n hx hb dX1_differing_31 rfl (lv_at hl 3 rfl) ?_
            refine lv_iload_n hx hb dX1_differing_32 rfl (lv_at hl 4 rfl) ?_
            refine lv_iload hx hb dX1_differing_33 (lv_at hl 0 rfl) ?_
            refine pm_calli (rest := []) F hA hX (c1_agree l D q a u hI hv1 hw1 (by omega)) rfl rfl hG1_agree hd1_agree ⟨⟨rfl, rfl⟩, Nat.le_of_ble_eq_true rfl, Nat.le_of_ble_eq_true rfl⟩ rfl rfl hl.1 (Nat.le_of_ble_eq_true rfl) dX1_differing_35 ⟨Nat.zero_le _, Nat.zero_le _⟩ (fun r35 u35 H locs hw35 hX => ?_)
            rw [hw35.2] at hX
            refine lv_if_ne (tgt := 44) hx hb dX1_differing_38 (by decide) (fun c38 => ?_) (fun c38 => ?_)
            · refine lv_iinc (v := nI (k + 1)) (lv' := [(4, .int (nI (k + 1))), (3, .int (nI (pm_cnt (fun k => decide (b.2.2 v1 k ≠ b.2.2 w1 k)) k))), (0, .ref (q 0)), (1, .int (nI v1)), (2, .int (nI w1))]) hx hb dX1_differing_44 hl (k := 0) rfl (nI_1 k) (by decide) rfl (fun ls hl => ?_)
              refine lv_goto (tgt := 23) hx hb dX1_differing_47 (by decide) ?_
              refine ih (k + 1) _ _ ls (by omega) hX ?_
              rw [pm_cnt_f (p := (fun k => decide (b.2.2 v1 k ≠ b.2.2 w1 k))) (fun z => of_decide_eq_true z (hw35.1.yes c38))]
              exact lv_sub hl [0, 1, 2, 3, 4] rfl
            · refine lv_iinc (v := nI (pm_cnt (fun k => decide (b.2.2 v1 k ≠ b.2.2 w1 k)) k + 1)) (lv' := [(3, .int (nI (pm_cnt (fun k => decide (b.2.2 v1 k ≠ b.2.2 w1 k)) k + 1))), (4, .int (nI k)), (0, .ref (q 0)), (1, .int (nI v1)), (2, .int (nI w1))]) hx hb dX1_differing_41 hl (k := 1) rfl (nI_1 _) (by decide) rfl (fun ls hl => ?_)
              refine lv_iinc (v := nI (k + 1)) (lv' := [(4, .int (nI (k + 1))), (3, .int (nI (pm_cnt (fun k => decide (b.2.2 v1 k ≠ b.2.2 w1 k)) k + 1))), (0, .ref (q 0)), (1, .int (nI v1)), (2, .int (nI w1))]) hx hb dX1_differing_44 hl (k := 1) rfl (nI_1 k) (by decide) rfl (fun ls hl => ?_)
              refine lv_goto (tgt := 23) hx hb dX1_differing_47 (by decide) ?_
              refine ih (k + 1) _ _ ls (by omega) hX ?_
              rw [pm_cnt_t (p := (fun k => decide (b.2.2 v1 k ≠ b.2.2 w1 k))) (decide_eq_true (hw35.1.no c38))]
              exact lv_sub hl [0, 1, 2, 3, 4] rfl
      exact loop 32 0 _ _ ls (by omega) hX (lv_sub hl [0, 1, 2, 3, 4] rfl)
    · have hw := hw10.1.yes c13
      refine lv_iconst (v := (-1)) hx hb dX1_differing_16 (by decide) ?_
      exact hret (-1) u _ _ 17 ls hX (⟨(sp_differing_2 hw).symm, rfl⟩) (rfl) dX1_differing_17

set_option maxHeartbeats 4000000 in
set_option maxRecDepth 100000 in
theorem c1_family (l : Launch) (D : va_G) (q : Nat → Nat) (a : Nat → ClassId) (u : pm_S1) {b : pm_AB} (hI : pm_R1 u b) (v : Int32) : pm_Mi l yX1_family cX1_family 4 .int (pm_rm 1) D (pm_t1 a) (pm_w1 q a) [.ref (q 0), .int v] u (fun r u' => r = sp_family b v ∧ u' = u) := by
  refine pm_Mi_of (by decide) (Nat.le_of_ble_eq_true rfl) ?_
  intro p e s m below meth c A args Q ls F hA hret hX hl
  have hx := F.1
  have hb := F.2.1
  have hl : lv_has ls 4 [(0, .ref (q 0)), (1, .int v)] := hl
  have hn := hI.1.2.1
  refine lv_aload_n hx hb dX1_family_0 rfl (lv_at hl 0 rfl) ?_
  refine lv_iload_n hx hb dX1_family_1 rfl (lv_at hl 1 rfl) ?_
  refine pm_calli (rest := []) F hA hX (c1_bad l D q a u hI v) rfl rfl hG1_bad hd1_bad ⟨⟨rfl, rfl⟩, Nat.le_of_ble_eq_true rfl, Nat.le_of_ble_eq_true rfl⟩ rfl rfl hl.1 (Nat.le_of_ble_eq_true rfl) dX1_family_2 ⟨Nat.zero_le _, Nat.zero_le _⟩ (fun r2 u2 H locs hw2 hX => ?_)
  rw [hw2.2] at hX
  refine lv_if_eq (tgt := 10) hx hb dX1_family_5 (by decide) (fun c5 => ?_) (fun c5 => ?_)
  · have hv := hw2.1.nn c5
    obtain ⟨v1, hv1, rfl⟩ := sp_ok_of hn hv
    refine lv_iconst (v := nI 0) hx hb dX1_family_10 (by decide) ?_
    refine lv_istore_n (lv' := [(2, .int (nI 0)), (0, .ref (q 0)), (1, .int (nI v1))]) hx hb dX1_family_11 rfl hl (by decide) rfl (fun ls hl => ?_)
    refine lv_iconst (v := nI 0) hx hb dX1_family_12 (by decide) ?_
    refine lv_istore_n (lv' := [(3, .int (nI 0)), (2, .int (nI 0)), (0, .ref (q 0)), (1, .int (nI v1))]) hx hb dX1_family_13 rfl hl (by decide) rfl (fun ls hl => ?_)
    have loop : ∀ (N k : Nat) (H : Heap) (locs : List Loc) (ls : Array Slot), k + N = b.1 → pm_X D A s (pm_t1 a) (pm_w1 q a) u H locs → lv_has ls 4 [(3, .int (nI k)), (2, .int (nI (pm_cnt (fun w => pm_an b.2.1 v1 w) k))), (0, .ref (q 0)), (1, .int (nI v1))] → W p l e (pm_rm 1) s m args below meth c H locs 0 0 Q (F0 m 14 ls []) := by
      intro N
      induction N with
      | zero =>
        intro k H locs ls hk hX hl
        refine lv_iload_n hx hb dX1_family_14 rfl (lv_at hl 0 rfl) ?_
        refine lv_aload_n hx hb dX1_family_15 rfl (lv_at hl 2 rfl) ?_
        refine x1_gcn F hX dX1_family_16 ?_
        refine pm_top (y := nI b.1) (hI.1.2.2) ?_
        refine lv_icmp_ge (tgt := 40) hx hb dX1_family_19 (by decide) (fun c19 => ?_) (fun c19 => ?_)
        · refine lv_iload_n hx hb dX1_family_40 rfl (lv_at hl 1 rfl) ?_
          exact hret (nI (pm_cnt (fun w => pm_an b.2.1 v1 w) k)) u _ _ 41 ls hX (⟨by rw [sp_family_2 hn hv1, show k = b.1 by omega], rfl⟩) (rfl) dX1_family_41
        · exact absurd (nI_le (by omega) (by omega)) c19
      | succ N ih =>
        intro k H locs ls hk hX hl
        refine lv_iload_n hx hb dX1_family_14 rfl (lv_at hl 0 rfl) ?_
        refine lv_aload_n hx hb dX1_family_15 rfl (lv_at hl 2 rfl) ?_
        refine x1_gcn F hX dX1_family_16 ?_
        refine pm_top (y := nI b.1) (hI.1.2.2) ?_
        refine lv_icmp_ge (tgt := 40) hx hb dX1_family_19 (by decide) (fun c19 => ?_) (fun c19 => ?_)
        · exact absurd c19 (nI_ge (by omega) (by omega))
        · refine lv_aload_n hx hb dX1_family_22 rfl (lv_at hl 2 rfl) ?_
          refine lv_iload_n hx hb dX1_family_23 rfl (lv_at hl 3 rfl) ?_
          refine lv_iload_n hx hb dX1_family_24 rfl (lv_at hl 0 rfl) ?_
          refine pm_calli (rest := []) F hA hX (c1_leads l D q a u hn hI.2.1 hv1 (w := k) (by omega)) rfl rfl hG1_leads hd1_leads ⟨⟨rfl, rfl⟩, Nat.le_of_ble_eq_true rfl, Nat.le_of_ble_eq_true rfl⟩ rfl rfl hl.1 (Nat.le_of_ble_eq_true rfl) dX1_family_25 ⟨Nat.zero_le _, Nat.zero_le _⟩ (fun r25 u25 H locs hw25 hX => ?_)
          rw [hw25.2] at hX
          refine lv_if_eq (tgt := 34) hx hb dX1_family_28 (by decide) (fun c28 => ?_) (fun c28 => ?_)
          · refine lv_iinc (v := nI (k + 1)) (lv' := [(3, .int (nI (k + 1))), (2, .int (nI (pm_cnt (fun w => pm_an b.2.1 v1 w) k))), (0, .ref (q 0)), (1, .int (nI v1))]) hx hb dX1_family_34 hl (k := 0) rfl (nI_1 k) (by decide) rfl (fun ls hl => ?_)
            refine lv_goto (tgt := 14) hx hb dX1_family_37 (by decide) ?_
            refine ih (k + 1) _ _ ls (by omega) hX ?_
            rw [pm_cnt_f (p := (fun w => pm_an b.2.1 v1 w)) (hw25.1.no c28)]
            exact lv_sub hl [0, 1, 2, 3] rfl
          · refine lv_iinc (v := nI (pm_cnt (fun w => pm_an b.2.1 v1 w) k + 1)) (lv' := [(2, .int (nI (pm_cnt (fun w => pm_an b.2.1 v1 w) k + 1))), (3, .int (nI k)), (0, .ref (q 0)), (1, .int (nI v1))]) hx hb dX1_family_31 hl (k := 1) rfl (nI_1 _) (by decide) rfl (fun ls hl => ?_)
            refine lv_iinc (v := nI (k + 1)) (lv' := [(3, .int (nI (k + 1))), (2, .int (nI (pm_cnt (fun w => pm_an b.2.1 v1 w) k + 1))), (0, .ref (q 0)), (1, .int (nI v1))]) hx hb dX1_family_34 hl (k := 1) rfl (nI_1 k) (by decide) rfl (fun ls hl => ?_)
            refine lv_goto (tgt := 14) hx hb dX1_family_37 (by decide) ?_
            refine ih (k + 1) _ _ ls (by omega) hX ?_
            rw [pm_cnt_t (p := (fun w => pm_an b.2.1 v1 w)) (hw25.1.yes c28)]
            exact lv_sub hl [0, 1, 2, 3] rfl
    exact loop b.1 0 _ _ ls (by omega) hX (lv_sub hl [0, 1, 2, 3] rfl)
  · have hv := hw2.1.yes c5
    refine lv_iconst (v := (-1)) hx hb dX1_family_8 (by decide) ?_
    exact hret (-1) u _ _ 9 ls hX (⟨(sp_family_1 hv).symm, rfl⟩) (rfl) dX1_family_9

set_option maxHeartbeats 4000000 in
set_option maxRecDepth 100000 in
theorem c1_spread (l : Launch) (D : va_G) (q : Nat → Nat) (a : Nat → ClassId) (u : pm_S1) {b : pm_AB} (hI : pm_R1 u b) (k : Int32) : pm_Mi l yX1_spread cX1_spread 4 .int (pm_rm 1) D (pm_t1 a) (pm_w1 q a) [.ref (q 0), .int k] u (fun r u' => r = sp_spread b k ∧ u' = u) := by
  refine pm_Mi_of (by decide) (Nat.le_of_ble_eq_true rfl) ?_
  intro p e s m below meth c A args Q ls F hA hret hX hl
  have hx := F.1
  have hb := F.2.1
  have hl : lv_has ls 4 [(0, .ref (q 0)), (1, .int k)] := hl
  have hn := hI.1.2.1
  refine lv_aload_n hx hb dX1_spread_0 rfl (lv_at hl 0 rfl) ?_
  refine lv_iload_n hx hb dX1_spread_1 rfl (lv_at hl 1 rfl) ?_
  refine pm_calli (rest := []) F hA hX (c1_badKey l D q a u k) rfl rfl hG1_badKey hd1_badKey ⟨⟨rfl, rfl⟩, Nat.le_of_ble_eq_true rfl, Nat.le_of_ble_eq_true rfl⟩ rfl rfl hl.1 (Nat.le_of_ble_eq_true rfl) dX1_spread_2 ⟨Nat.zero_le _, Nat.zero_le _⟩ (fun r2 u2 H locs hw2 hX => ?_)
  rw [hw2.2] at hX
  refine lv_if_eq (tgt := 10) hx hb dX1_spread_5 (by decide) (fun c5 => ?_) (fun c5 => ?_)
  · have hk := hw2.1.nn c5
    obtain ⟨k1, hk1, rfl⟩ := sp_key_of hk
    refine lv_iconst (v := nI 0) hx hb dX1_spread_10 (by decide) ?_
    refine lv_istore_n (lv' := [(2, .int (nI 0)), (0, .ref (q 0)), (1, .int (nI k1))]) hx hb dX1_spread_11 rfl hl (by decide) rfl (fun ls hl => ?_)
    refine lv_iconst (v := nI 0) hx hb dX1_spread_12 (by decide) ?_
    refine lv_istore_n (lv' := [(3, .int (nI 0)), (2, .int (nI 0)), (0, .ref (q 0)), (1, .int (nI k1))]) hx hb dX1_spread_13 rfl hl (by decide) rfl (fun ls hl => ?_)
    have loop : ∀ (N v : Nat) (H : Heap) (locs : List Loc) (ls : Array Slot), v + N = b.1 → pm_X D A s (pm_t1 a) (pm_w1 q a) u H locs → lv_has ls 4 [(3, .int (nI v)), (2, .int (nI (pm_cnt (fun v => (b.2.2 v k1).isSome) v))), (0, .ref (q 0)), (1, .int (nI k1))] → W p l e (pm_rm 1) s m args below meth c H locs 0 0 Q (F0 m 14 ls []) := by
      intro N
      induction N with
      | zero =>
        intro v H locs ls hv hX hl
        refine lv_iload_n hx hb dX1_spread_14 rfl (lv_at hl 0 rfl) ?_
        refine lv_aload_n hx hb dX1_spread_15 rfl (lv_at hl 2 rfl) ?_
        refine x1_gcn F hX dX1_spread_16 ?_
        refine pm_top (y := nI b.1) (hI.1.2.2) ?_
        refine lv_icmp_ge (tgt := 51) hx hb dX1_spread_19 (by decide) (fun c19 => ?_) (fun c19 => ?_)
        · refine lv_iload_n hx hb dX1_spread_51 rfl (lv_at hl 1 rfl) ?_
          exact hret (nI (pm_cnt (fun v => (b.2.2 v k1).isSome) v)) u _ _ 52 ls hX (⟨by rw [sp_spread_2 hk1, show v = b.1 by omega], rfl⟩) (rfl) dX1_spread_52
        · exact absurd (nI_le (by omega) (by omega)) c19
      | succ N ih =>
        intro v H locs ls hv hX hl
        refine lv_iload_n hx hb dX1_spread_14 rfl (lv_at hl 0 rfl) ?_
        refine lv_aload_n hx hb dX1_spread_15 rfl (lv_at hl 2 rfl) ?_
        refine x1_gcn F hX dX1_spread_16 ?_
        refine pm_top (y := nI b.1) (hI.1.2.2) ?_
        refine lv_icmp_ge (tgt := 51) hx hb dX1_spread_19 (by decide) (fun c19 => ?_) (fun c19 => ?_)
        · exact absurd c19 (nI_ge (by omega) (by omega))
        · refine lv_iload_n hx hb dX1_spread_22 rfl (lv_at hl 0 rfl) ?_
          refine lv_bipush (v := nI 40) hx hb dX1_spread_23 (by decide) ?_
          refine lv_icmp_ge (tgt := 51) hx hb dX1_spread_25 (by decide) (fun c25 => ?_) (fun c25 => ?_)
          · exact absurd c25 (nI_ge (by omega) (by omega))
          · refine lv_aload_n hx hb dX1_spread_28 rfl (lv_at hl 2 rfl) ?_
            refine x1_gth F hX dX1_spread_29 ?_
            refine lv_bipush (v := nI 32) hx hb dX1_spread_32 (by decide) ?_
            refine lv_iload_n hx hb dX1_spread_34 rfl (lv_at hl 0 rfl) ?_
            refine lv_imul hx hb dX1_spread_35 ?_
            refine pm_top (y := nI (32 * v)) (pk_mul _ _) ?_
            refine lv_iload_n hx hb dX1_spread_36 rfl (lv_at hl 3 rfl) ?_
            refine lv_iadd hx hb dX1_spread_37 ?_
            refine pm_top (y := nI ((32 * v) + k1)) (nI_add _ _) ?_
            refine x1_lth F hX (by omega) dX1_spread_38 ?_
            refine pm_top (y := pm_on (b.2.2 v k1)) (hI.on (by omega) hk1) ?_
            refine lv_if_eq (tgt := 45) hx hb dX1_spread_39 (by decide) (fun c39 => ?_) (fun c39 => ?_)
            · refine lv_iinc (v := nI (v + 1)) (lv' := [(3, .int (nI (v + 1))), (2, .int (nI (pm_cnt (fun v => (b.2.2 v k1).isSome) v))), (0, .ref (q 0)), (1, .int (nI k1))]) hx hb dX1_spread_45 hl (k := 0) rfl (nI_1 v) (by decide) rfl (fun ls hl => ?_)
              refine lv_goto (tgt := 14) hx hb dX1_spread_48 (by decide) ?_
              refine ih (v + 1) _ _ ls (by omega) hX ?_
              rw [pm_cnt_f (p := (fun v => (b.2.2 v k1).isSome)) (pm_on_n c39)]
              exact lv_sub hl [0, 1, 2, 3] rfl
            · refine lv_iinc (v := nI (pm_cnt (fun v => (b.2.2 v k1).isSome) v + 1)) (lv' := [(2, .int (nI (pm_cnt (fun v => (b.2.2 v k1).isSome) v + 1))), (3, .int (nI v)), (0, .ref (q 0)), (1, .int (nI k1))]) hx hb dX1_spread_42 hl (k := 1) rfl (nI_1 _) (by decide) rfl (fun ls hl => ?_)
              refine lv_iinc (v := nI (v + 1)) (lv' := [(3, .int (nI (v + 1))), (2, .int (nI (pm_cnt (fun v => (b.2.2 v k1).isSome) v + 1))), (0, .ref (q 0)), (1, .int (nI k1))]) hx hb dX1_spread_45 hl (k := 1) rfl (nI_1 v) (by decide) rfl (fun ls hl => ?_)
              refine lv_goto (tgt := 14) hx hb dX1_spread_48 (by decide) ?_
              refine ih (v + 1) _ _ ls (by omega) hX ?_
              rw [pm_cnt_t (p := (fun v => (b.2.2 v k1).isSome)) (pm_on_y c39)]
              exact lv_sub hl [0, 1, 2, 3] rfl
    exact loop b.1 0 _ _ ls (by omega) hX (lv_sub hl [0, 1, 2, 3] rfl)
  · have hk := hw2.1.yes c5
    refine lv_iconst (v := (-1)) hx hb dX1_spread_8 (by decide) ?_
    exact hret (-1) u _ _ 9 ls hX (⟨(sp_spread_1 hk).symm, rfl⟩) (rfl) dX1_spread_9

set_option maxHeartbeats 4000000 in
set_option maxRecDepth 100000 in
theorem c1_changes (l : Launch) (D : va_G) (q : Nat → Nat) (a : Nat → ClassId) (u : pm_S1) {b : pm_AB} (hI : pm_R1 u b) (k : Int32) : pm_Mi l yX1_changes cX1_changes 4 .int (pm_rm 1) D (pm_t1 a) (pm_w1 q a) [.ref (q 0), .int k] u (fun r u' => r = sp_changes b k ∧ u' = u) := by
  refine pm_Mi_of (by decide) (Nat.le_of_ble_eq_true rfl) ?_
  intro p e s m below meth c A args Q ls F hA hret hX hl
  have hx := F.1
  have hb := F.2.1
  have hl : lv_has ls 4 [(0, .ref (q 0)), (1, .int k)] := hl
  have hn := hI.1.2.1
  refine lv_aload_n hx hb dX1_changes_0 rfl (lv_at hl 0 rfl) ?_
  refine lv_iload_n hx hb dX1_changes_1 rfl (lv_at hl 1 rfl) ?_
  refine pm_calli (rest := []) F hA hX (c1_badKey l D q a u k) rfl rfl hG1_badKey hd1_badKey ⟨⟨rfl, rfl⟩, Nat.le_of_ble_eq_true rfl, Nat.le_of_ble_eq_true rfl⟩ rfl rfl hl.1 (Nat.le_of_ble_eq_true rfl) dX1_changes_2 ⟨Nat.zero_le _, Nat.zero_le _⟩ (fun r2 u2 H locs hw2 hX => ?_)
  rw [hw2.2] at hX
  refine lv_if_eq (tgt := 10) hx hb dX1_changes_5 (by decide) (fun c5 => ?_) (fun c5 => ?_)
  · have hk := hw2.1.nn c5
    obtain ⟨k1, hk1, rfl⟩ := sp_key_of hk
    refine lv_iconst (v := nI 0) hx hb dX1_changes_10 (by decide) ?_
    refine lv_istore_n (lv' := [(2, .int (nI 0)), (0, .ref (q 0)), (1, .int (nI k1))]) hx hb dX1_changes_11 rfl hl (by decide) rfl (fun ls hl => ?_)
    refine lv_iconst (v := nI 1) hx hb dX1_changes_12 (by decide) ?_
    refine lv_istore_n (lv' := [(3, .int (nI 1)), (2, .int (nI 0)), (0, .ref (q 0)), (1, .int (nI k1))]) hx hb dX1_changes_13 rfl hl (by decide) rfl (fun ls hl => ?_)
    have loop : ∀ (N v : Nat) (H : Heap) (locs : List Loc) (ls : Array Slot), v + N = b.1 → 1 ≤ v → pm_X D A s (pm_t1 a) (pm_w1 q a) u H locs → lv_has ls 4 [(3, .int (nI v)), (2, .int (nI (pm_cnt (fun v => decide (0 < v ∧ b.2.2 v k1 ≠ b.2.2 (b.2.1 v) k1)) v))), (0, .ref (q 0)), (1, .int (nI k1))] → W p l e (pm_rm 1) s m args below meth c H locs 0 0 Q (F0 m 14 ls []) := by
      intro N
      induction N with
      | zero =>
        intro v H locs ls hv h1 hX hl
        refine lv_iload_n hx hb dX1_changes_14 rfl (lv_at hl 0 rfl) ?_
        refine lv_aload_n hx hb dX1_changes_15 rfl (lv_at hl 2 rfl) ?_
        refine x1_gcn F hX dX1_changes_16 ?_
        refine pm_top (y := nI b.1) (hI.1.2.2) ?_
        refine lv_icmp_ge (tgt := 52) hx hb dX1_changes_19 (by decide) (fun c19 => ?_) (fun c19 => ?_)
        · refine lv_iload_n hx hb dX1_changes_52 rfl (lv_at hl 1 rfl) ?_
          exact hret (nI (pm_cnt (fun v => decide (0 < v ∧ b.2.2 v k1 ≠ b.2.2 (b.2.1 v) k1)) v)) u _ _ 53 ls hX (⟨by rw [sp_changes_2 hk1, show v = b.1 by omega], rfl⟩) (rfl) dX1_changes_53
        · exact absurd (nI_le (by omega) (by omega)) c19
      | succ N ih =>
        intro v H locs ls hv h1 hX hl
        have hpv := hI.2.1 v (by omega) (by omega)
        refine lv_iload_n hx hb dX1_changes_14 rfl (lv_at hl 0 rfl) ?_
        refine lv_aload_n hx hb dX1_changes_15 rfl (lv_at hl 2 rfl) ?_
        refine x1_gcn F hX dX1_changes_16 ?_
        refine pm_top (y := nI b.1) (hI.1.2.2) ?_
        refine lv_icmp_ge (tgt := 52) hx hb dX1_changes_19 (by decide) (fun c19 => ?_) (fun c19 => ?_)
        · exact absurd c19 (nI_ge (by omega) (by omega))
        · refine lv_iload_n hx hb dX1_changes_22 rfl (lv_at hl 0 rfl) ?_
          refine lv_bipush (v := nI 40) hx hb dX1_changes_23 (by decide) ?_
          refine lv_icmp_ge (tgt := 52) hx hb dX1_changes_25 (by decide) (fun c25 => ?_) (fun c25 => ?_)
          · exact absurd c25 (nI_ge (by omega) (by omega))
          · refine lv_aload_n hx hb dX1_changes_28 rfl (lv_at hl 2 rfl) ?_
            refine lv_iload_n hx hb dX1_changes_29 rfl (lv_at hl 0 rfl) ?_
            refine lv_aload_n hx hb dX1_changes_30 rfl (lv_at hl 2 rfl) ?_
            refine x1_gpa F hX dX1_changes_31 ?_
            refine lv_iload_n hx hb dX1_changes_34 rfl (lv_at hl 0 rfl) ?_
            refine x1_lpa F hX (by omega) dX1_changes_35 ?_
            refine pm_top (y := nI (b.2.1 v)) (hpv.1) ?_
            refine lv_iload_n hx hb dX1_changes_36 rfl (lv_at hl 3 rfl) ?_
            refine pm_calli (rest := []) F hA hX (c1_agree l D q a u hI (v := v) (w := b.2.1 v) (by omega) (by omega) hk1) rfl rfl hG1_agree hd1_agree ⟨⟨rfl, rfl⟩, Nat.le_of_ble_eq_true rfl, Nat.le_of_ble_eq_true rfl⟩ rfl rfl hl.1 (Nat.le_of_ble_eq_true rfl) dX1_changes_37 ⟨Nat.zero_le _, Nat.zero_le _⟩ (fun r37 u37 H locs hw37 hX => ?_)
            rw [hw37.2] at hX
            refine lv_if_ne (tgt := 46) hx hb dX1_changes_40 (by decide) (fun c40 => ?_) (fun c40 => ?_)
            · refine lv_iinc (v := nI (v + 1)) (lv' := [(3, .int (nI (v + 1))), (2, .int (nI (pm_cnt (fun v => decide (0 < v ∧ b.2.2 v k1 ≠ b.2.2 (b.2.1 v) k1)) v))), (0, .ref (q 0)), (1, .int (nI k1))]) hx hb dX1_changes_46 hl (k := 0) rfl (nI_1 v) (by decide) rfl (fun ls hl => ?_)
              refine lv_goto (tgt := 14) hx hb dX1_changes_49 (by decide) ?_
              refine ih (v + 1) _ _ ls (by omega) (by omega) hX ?_
              rw [pm_cnt_f (p := (fun v => decide (0 < v ∧ b.2.2 v k1 ≠ b.2.2 (b.2.1 v) k1))) (fun z => (of_decide_eq_true z).2 (hw37.1.yes c40))]
              exact lv_sub hl [0, 1, 2, 3] rfl
            · refine lv_iinc (v := nI (pm_cnt (fun v => decide (0 < v ∧ b.2.2 v k1 ≠ b.2.2 (b.2.1 v) k1)) v + 1)) (lv' := [(2, .int (nI (pm_cnt (fun v => decide (0 < v ∧ b.2.2 v k1 ≠ b.2.2 (b.2.1 v) k1)) v + 1))), (3, .int (nI v)), (0, .ref (q 0)), (1, .int (nI k1))]) hx hb dX1_changes_43 hl (k := 1) rfl (nI_1 _) (by decide) rfl (fun ls hl => ?_)
              refine lv_iinc (v := nI (v + 1)) (lv' := [(3, .int (nI (v + 1))), (2, .int (nI (pm_cnt (fun v => decide (0 < v ∧ b.2.2 v k1 ≠ b.2.2 (b.2.1 v) k1)) v + 1))), (0, .ref (q 0)), (1, .int (nI k1))]) hx hb dX1_changes_46 hl (k := 1) rfl (nI_1 v) (by decide) rfl (fun ls hl => ?_)
              refine lv_goto (tgt := 14) hx hb dX1_changes_49 (by decide) ?_
              refine ih (v + 1) _ _ ls (by omega) (by omega) hX ?_
              rw [pm_cnt_t (p := (fun v => decide (0 < v ∧ b.2.2 v k1 ≠ b.2.2 (b.2.1 v) k1))) (decide_eq_true ⟨by omega, hw37.1.no c40⟩)]
              exact lv_sub hl [0, 1, 2, 3] rfl
    exact loop (b.1 - 1) 1 _ _ ls (by have := hI.1.1; omega) (Nat.le_refl 1) hX (lv_sub hl [0, 1, 2, 3] rfl)
  · have hk := hw2.1.yes c5
    refine lv_iconst (v := (-1)) hx hb dX1_changes_8 (by decide) ?_
    exact hret (-1) u _ _ 9 ls hX (⟨(sp_changes_1 hk).symm, rfl⟩) (rfl) dX1_changes_9

set_option maxHeartbeats 4000000 in
set_option maxRecDepth 100000 in
theorem c1_meet (l : Launch) (D : va_G) (q : Nat → Nat) (a : Nat → ClassId) (u : pm_S1) {b : pm_AB} (hI : pm_R1 u b) (v w : Int32) : pm_Mi l yX1_meet cX1_meet 5 .int (pm_rm 1) D (pm_t1 a) (pm_w1 q a) [.ref (q 0), .int v, .int w] u (fun r u' => sp_meet b v w r ∧ u' = u) := by
  refine pm_Mi_of (by decide) (Nat.le_of_ble_eq_true rfl) ?_
  intro p e s m below meth c A args Q ls F hA hret hX hl
  have hx := F.1
  have hb := F.2.1
  have hl : lv_has ls 5 [(0, .ref (q 0)), (1, .int v), (2, .int w)] := hl
  have hn := hI.1.2.1
  refine lv_aload_n hx hb dX1_meet_0 rfl (lv_at hl 0 rfl) ?_
  refine lv_iload_n hx hb dX1_meet_1 rfl (lv_at hl 1 rfl) ?_
  refine pm_calli (rest := []) F hA hX (c1_bad l D q a u hI v) rfl rfl hG1_bad hd1_bad ⟨⟨rfl, rfl⟩, Nat.le_of_ble_eq_true rfl, Nat.le_of_ble_eq_true rfl⟩ rfl rfl hl.1 (Nat.le_of_ble_eq_true rfl) dX1_meet_2 ⟨Nat.zero_le _, Nat.zero_le _⟩ (fun r2 u2 H locs hw2 hX => ?_)
  rw [hw2.2] at hX
  refine lv_if_ne (tgt := 16) hx hb dX1_meet_5 (by decide) (fun c5 => ?_) (fun c5 => ?_)
  · have hv := hw2.1.yes c5
    refine lv_iconst (v := (-1)) hx hb dX1_meet_16 (by decide) ?_
    exact hret (-1) u _ _ 17 ls hX (⟨sp_meet_1 hv, rfl⟩) (rfl) dX1_meet_17
  · have hv := hw2.1.nn c5
    obtain ⟨v1, hv1, rfl⟩ := sp_ok_of hn hv
    refine lv_aload_n hx hb dX1_meet_8 rfl (lv_at hl 0 rfl) ?_
    refine lv_iload_n hx hb dX1_meet_9 rfl (lv_at hl 2 rfl) ?_
    refine pm_calli (rest := []) F hA hX (c1_bad l D q a u hI w) rfl rfl hG1_bad hd1_bad ⟨⟨rfl, rfl⟩, Nat.le_of_ble_eq_true rfl, Nat.le_of_ble_eq_true rfl⟩ rfl rfl hl.1 (Nat.le_of_ble_eq_true rfl) dX1_meet_10 ⟨Nat.zero_le _, Nat.zero_le _⟩ (fun r10 u10 H locs hw10 hX => ?_)
    rw [hw10.2] at hX
    refine lv_if_eq (tgt := 18) hx hb dX1_meet_13 (by decide) (fun c13 => ?_) (fun c13 => ?_)
    · have hw := hw10.1.nn c13
      obtain ⟨w1, hw1, rfl⟩ := sp_ok_of hn hw
      refine lv_iconst (v := nI 0) hx hb dX1_meet_18 (by decide) ?_
      refine lv_istore_n (lv' := [(3, .int (nI 0)), (0, .ref (q 0)), (1, .int (nI v1)), (2, .int (nI w1))]) hx hb dX1_meet_19 rfl hl (by decide) rfl (fun ls hl => ?_)
      refine lv_iconst (v := nI 0) hx hb dX1_meet_20 (by decide) ?_
      refine lv_istore (lv' := [(4, .int (nI 0)), (3, .int (nI 0)), (0, .ref (q 0)), (1, .int (nI v1)), (2, .int (nI w1))]) hx hb dX1_meet_21 hl (by decide) rfl (fun ls hl => ?_)
      have hd : pm_dn b.1 b.2.1 := fun x h0 hx => (hI.2.1 x h0 hx).2
      have loop : ∀ (N x g : Nat) (H : Heap) (locs : List Loc) (ls : Array Slot), x + N = b.1 → g < b.1 → pm_an b.2.1 g v1 = true → pm_an b.2.1 g w1 = true → (∀ y, y < x → pm_an b.2.1 y v1 = true → pm_an b.2.1 y w1 = true → y ≤ g) → pm_X D A s (pm_t1 a) (pm_w1 q a) u H locs → lv_has ls 5 [(4, .int (nI x)), (3, .int (nI g)), (0, .ref (q 0)), (1, .int (nI v1)), (2, .int (nI w1))] → W p l e (pm_rm 1) s m args below meth c H locs 0 0 Q (F0 m 23 ls []) := by
        intro N
        induction N with
        | zero =>
          intro x g H locs ls hxN hg ha1 ha2 hm hX hl
          refine lv_iload hx hb dX1_meet_23 (lv_at hl 0 rfl) ?_
          refine lv_aload_n hx hb dX1_meet_25 rfl (lv_at hl 2 rfl) ?_
          refine x1_gcn F hX dX1_meet_26 ?_
          refine pm_top (y := nI b.1) (hI.1.2.2) ?_
          refine lv_icmp_ge (tgt := 61) hx hb dX1_meet_29 (by decide) (fun c29 => ?_) (fun c29 => ?_)
          · refine lv_iload_n hx hb dX1_meet_61 rfl (lv_at hl 1 rfl) ?_
            exact hret (nI g) u _ _ 62 ls hX (⟨sp_meet_3 hn hv1 hw1 hg ha1 ha2 (fun y hy => hm y (by omega)), rfl⟩) (rfl) dX1_meet_62
          · exact absurd (nI_le (by omega) (by omega)) c29
        | succ N ih =>
          intro x g H locs ls hxN hg ha1 ha2 hm hX hl
          refine lv_iload hx hb dX1_meet_23 (lv_at hl 0 rfl) ?_
          refine lv_aload_n hx hb dX1_meet_25 rfl (lv_at hl 2 rfl) ?_
          refine x1_gcn F hX dX1_meet_26 ?_
          refine pm_top (y := nI b.1) (hI.1.2.2) ?_
          refine lv_icmp_ge (tgt := 61) hx hb dX1_meet_29 (by decide) (fun c29 => ?_) (fun c29 => ?_)
          · exact absurd c29 (nI_ge (by omega) (by omega))
          · refine lv_aload_n hx hb dX1_meet_32 rfl (lv_at hl 2 rfl) ?_
            refine lv_iload hx hb dX1_meet_33 (lv_at hl 0 rfl) ?_
            refine lv_iload_n hx hb dX1_meet_35 rfl (lv_at hl 3 rfl) ?_
            refine pm_calli (rest := []) F hA hX (c1_leads l D q a u hn hI.2.1 (v := x) (by omega) hv1) rfl rfl hG1_leads hd1_leads ⟨⟨rfl, rfl⟩, Nat.le_of_ble_eq_true rfl, Nat.le_of_ble_eq_true rfl⟩ rfl rfl hl.1 (Nat.le_of_ble_eq_true rfl) dX1_meet_36 ⟨Nat.zero_le _, Nat.zero_le _⟩ (fun r36 u36 H locs hw36 hX => ?_)
            rw [hw36.2] at hX
            refine lv_if_eq (tgt := 55) hx hb dX1_meet_39 (by decide) (fun c39 => ?_) (fun c39 => ?_)
            · refine lv_iinc (v := nI (x + 1)) (lv' := [(4, .int (nI (x + 1))), (3, .int (nI g)), (0, .ref (q 0)), (1, .int (nI v1)), (2, .int (nI w1))]) hx hb dX1_meet_55 hl (k := 0) rfl (nI_1 x) (by decide) rfl (fun ls hl => ?_)
              refine lv_goto (tgt := 23) hx hb dX1_meet_58 (by decide) ?_
              exact ih x.succ g _ _ ls (by omega) hg ha1 ha2 (fun y hy h1 h2 => by
                rcases Nat.lt_or_ge y x with z | z
                · exact hm y z h1 h2
                · rw [show y = x by omega] at h1 h2; exact absurd h1 (hw36.1.no c39)) hX (lv_sub hl [0, 1, 2, 3, 4] rfl)
            · refine lv_aload_n hx hb dX1_meet_42 rfl (lv_at hl 2 rfl) ?_
              refine lv_iload hx hb dX1_meet_43 (lv_at hl 0 rfl) ?_
              refine lv_iload_n hx hb dX1_meet_45 rfl (lv_at hl 4 rfl) ?_
              refine pm_calli (rest := []) F hA hX (c1_leads l D q a u hn hI.2.1 (v := x) (by omega) hw1) rfl rfl hG1_leads hd1_leads ⟨⟨rfl, rfl⟩, Nat.le_of_ble_eq_true rfl, Nat.le_of_ble_eq_true rfl⟩ rfl rfl hl.1 (Nat.le_of_ble_eq_true rfl) dX1_meet_46 ⟨Nat.zero_le _, Nat.zero_le _⟩ (fun r46 u46 H locs hw46 hX => ?_)
              rw [hw46.2] at hX
              refine lv_if_eq (tgt := 55) hx hb dX1_meet_49 (by decide) (fun c49 => ?_) (fun c49 => ?_)
              · refine lv_iinc (v := nI (x + 1)) (lv' := [(4, .int (nI (x + 1))), (3, .int (nI g)), (0, .ref (q 0)), (1, .int (nI v1)), (2, .int (nI w1))]) hx hb dX1_meet_55 hl (k := 0) rfl (nI_1 x) (by decide) rfl (fun ls hl => ?_)
                refine lv_goto (tgt := 23) hx hb dX1_meet_58 (by decide) ?_
                exact ih x.succ g _ _ ls (by omega) hg ha1 ha2 (fun y hy h1 h2 => by
                  rcases Nat.lt_or_ge y x with z | z
                  · exact hm y z h1 h2
                  · rw [show y = x by omega] at h1 h2; exact absurd h2 (hw46.1.no c49)) hX (lv_sub hl [0, 1, 2, 3, 4] rfl)
              · refine lv_iload hx hb dX1_meet_52 (lv_at hl 0 rfl) ?_
                refine lv_istore_n (lv' := [(3, .int (nI x)), (4, .int (nI x)), (0, .ref (q 0)), (1, .int (nI v1)), (2, .int (nI w1))]) hx hb dX1_meet_54 rfl hl (by decide) rfl (fun ls hl => ?_)
                refine lv_iinc (v := nI (x + 1)) (lv' := [(4, .int (nI (x + 1))), (3, .int (nI x)), (0, .ref (q 0)), (1, .int (nI v1)), (2, .int (nI w1))]) hx hb dX1_meet_55 hl (k := 1) rfl (nI_1 x) (by decide) rfl (fun ls hl => ?_)
                refine lv_goto (tgt := 23) hx hb dX1_meet_58 (by decide) ?_
                exact ih x.succ x _ _ ls (by omega) (by omega) (hw36.1.yes c39) (hw46.1.yes c49) (fun y hy _ _ => by omega) hX (lv_sub hl [0, 1, 2, 3, 4] rfl)
      exact loop b.1 0 0 _ _ ls (by omega) (by have := hI.1.1; omega) (pm_an_zero hn hd v1 hv1) (pm_an_zero hn hd w1 hw1) (fun y hy => by omega) hX (lv_sub hl [0, 1, 2, 3, 4] rfl)
    · have hw := hw10.1.yes c13
      refine lv_iconst (v := (-1)) hx hb dX1_meet_16 (by decide) ?_
      exact hret (-1) u _ _ 17 ls hX (⟨sp_meet_2 hw, rfl⟩) (rfl) dX1_meet_17
end
section
/-! ===== PersistentMapModel: put, remove, fill, graft, exchange ===== -/
theorem pm_wr_swap {b : pm_AB} {n i j : Nat} {x y : Option Int32} (h : i = j → x = y) : pm_wr (pm_wr b n j x) n i y = pm_wr (pm_wr b n i y) n j x := by
  show (b.1, b.2.1, _) = (b.1, b.2.1, _)
  congr 2
  funext w k
  show (if w = n ∧ k = i then y else (if w = n ∧ k = j then x else b.2.2 w k)) = (if w = n ∧ k = j then x else (if w = n ∧ k = i then y else b.2.2 w k))
  by_cases h1 : w = n ∧ k = i
  · by_cases h2 : w = n ∧ k = j
    · rw [if_pos h1, if_pos h2]; exact (h (h1.2.symm.trans h2.2)).symm
    · rw [if_pos h1, if_neg h2, if_pos h1]
  · rw [if_neg h1]
    by_cases h2 : w = n ∧ k = j
    · rw [if_pos h2, if_pos h2]
    · rw [if_neg h2, if_neg h2, if_neg h1]
set_option maxHeartbeats 4000000 in
set_option maxRecDepth 100000 in
theorem c1_put (l : Launch) (D : va_G) (q : Nat → Nat) (a : Nat → ClassId) (u : pm_S1) {b : pm_AB} (hI : pm_R1 u b) (v k x : Int32) : pm_Mi l yX1_put cX1_put 5 .int (pm_rm 1) D (pm_t1 a) (pm_w1 q a) [.ref (q 0), .int v, .int k, .int x] u (fun r u' => ∃ x9, sp_put b v k x r x9 ∧ pm_R1 u' x9) := by
  refine pm_Mi_of (by decide) (Nat.le_of_ble_eq_true rfl) ?_
  intro p e s m below meth c A args Q ls F hA hret hX hl
  have hx := F.1
  have hb := F.2.1
  have hl : lv_has ls 5 [(0, .ref (q 0)), (1, .int v), (2, .int k), (3, .int x)] := hl
  have hn := hI.1.2.1
  refine lv_aload_n hx hb dX1_put_0 rfl (lv_at hl 0 rfl) ?_
  refine lv_iload_n hx hb dX1_put_1 rfl (lv_at hl 1 rfl) ?_
  refine pm_calli (rest := []) F hA hX (c1_bad l D q a u hI v) rfl rfl hG1_bad hd1_bad ⟨⟨rfl, rfl⟩, Nat.le_of_ble_eq_true rfl, Nat.le_of_ble_eq_true rfl⟩ rfl rfl hl.1 (Nat.le_of_ble_eq_true rfl) dX1_put_2 ⟨Nat.zero_le _, Nat.zero_le _⟩ (fun r2 u2 H locs hw2 hX => ?_)
  rw [hw2.2] at hX
  refine lv_if_eq (tgt := 10) hx hb dX1_put_5 (by decide) (fun c5 => ?_) (fun c5 => ?_)
  · have hv := hw2.1.nn c5
    obtain ⟨v1, hv1, rfl⟩ := sp_ok_of hn hv
    refine lv_aload_n hx hb dX1_put_10 rfl (lv_at hl 0 rfl) ?_
    refine lv_iload_n hx hb dX1_put_11 rfl (lv_at hl 2 rfl) ?_
    refine pm_calli (rest := []) F hA hX (c1_badKey l D q a u k) rfl rfl hG1_badKey hd1_badKey ⟨⟨rfl, rfl⟩, Nat.le_of_ble_eq_true rfl, Nat.le_of_ble_eq_true rfl⟩ rfl rfl hl.1 (Nat.le_of_ble_eq_true rfl) dX1_put_12 ⟨Nat.zero_le _, Nat.zero_le _⟩ (fun r12 u12 H locs hw12 hX => ?_)
    rw [hw12.2] at hX
    refine lv_if_eq (tgt := 21) hx hb dX1_put_15 (by decide) (fun c15 => ?_) (fun c15 => ?_)
    · have hk := hw12.1.nn c15
      obtain ⟨k1, hk1, rfl⟩ := sp_key_of hk
      refine lv_aload_n hx hb dX1_put_21 rfl (lv_at hl 0 rfl) ?_
      refine lv_iload_n hx hb dX1_put_22 rfl (lv_at hl 1 rfl) ?_
      refine pm_calli (rest := []) F hA hX (c1_make l D q a u hI hv1) rfl rfl hG1_make hd1_make ⟨⟨rfl, rfl⟩, Nat.le_of_ble_eq_true rfl, Nat.le_of_ble_eq_true rfl⟩ rfl rfl hl.1 (Nat.le_of_ble_eq_true rfl) dX1_put_23 ⟨Nat.zero_le _, Nat.zero_le _⟩ (fun r23 u23 H locs hw23 hX => ?_)
      rcases hw23 with ⟨h40, hr, hu⟩ | ⟨h40, hr, hR⟩
      · rw [hu] at hX
        refine pm_top (y := -3) hr ?_
        refine lv_istore (lv' := [(4, .int (-3)), (0, .ref (q 0)), (1, .int (nI v1)), (2, .int (nI k1)), (3, .int x)]) hx hb dX1_put_26 hl (by decide) rfl (fun ls hl => ?_)
        refine lv_iload hx hb dX1_put_28 (lv_at hl 0 rfl) ?_
        refine lv_if_lt (tgt := 41) hx hb dX1_put_30 (by decide) (fun c30 => ?_) (fun c30 => ?_)
        · refine lv_iload hx hb dX1_put_41 (lv_at hl 0 rfl) ?_
          exact hret (-3) u _ _ 43 ls hX (⟨b, sp_mk_3 hv hk h40, hI⟩) (rfl) dX1_put_43
        · exact absurd (show (-3 : Int32) < 0 by decide) c30
      · refine pm_top (y := nI b.1) hr ?_
        refine lv_istore (lv' := [(4, .int (nI b.1)), (0, .ref (q 0)), (1, .int (nI v1)), (2, .int (nI k1)), (3, .int x)]) hx hb dX1_put_26 hl (by decide) rfl (fun ls hl => ?_)
        refine lv_iload hx hb dX1_put_28 (lv_at hl 0 rfl) ?_
        refine lv_if_lt (tgt := 41) hx hb dX1_put_30 (by decide) (fun c30 => ?_) (fun c30 => ?_)
        · exact absurd c30 (nI_pos (by omega))
        · refine lv_aload_n hx hb dX1_put_33 rfl (lv_at hl 1 rfl) ?_
          refine lv_iload hx hb dX1_put_34 (lv_at hl 0 rfl) ?_
          refine lv_iload_n hx hb dX1_put_36 rfl (lv_at hl 3 rfl) ?_
          refine lv_iload_n hx hb dX1_put_37 rfl (lv_at hl 4 rfl) ?_
          refine pm_callv (rest := []) F hA hX (c1_give l D q a u23 hR (v := b.1) (by show b.1 < b.1 + 1; omega) hk1 x) rfl rfl hG1_give hd1_give ⟨⟨rfl, rfl⟩, Nat.le_of_ble_eq_true rfl, Nat.le_of_ble_eq_true rfl⟩ rfl rfl hl.1 (Nat.le_of_ble_eq_true rfl) dX1_put_38 ⟨Nat.zero_le _, Nat.zero_le _⟩ (fun u38 H locs hw38 hX => ?_)
          refine lv_iload hx hb dX1_put_41 (lv_at hl 0 rfl) ?_
          exact hret (nI b.1) u38 _ _ 43 ls hX (⟨pm_wr (pm_opn b v1) b.1 k1 (some x), by unfold sp_put; rw [pm_clN (by omega), pm_clN (by omega)]; exact sp_mk_4 hv hk (by omega), hw38⟩) (rfl) dX1_put_43
    · have hk := hw12.1.yes c15
      refine lv_bipush (v := (-2)) hx hb dX1_put_18 (by decide) ?_
      exact hret (-2) u _ _ 20 ls hX (⟨b, sp_mk_2 hv hk, hI⟩) (rfl) dX1_put_20
  · have hv := hw2.1.yes c5
    refine lv_iconst (v := (-1)) hx hb dX1_put_8 (by decide) ?_
    exact hret (-1) u _ _ 9 ls hX (⟨b, sp_mk_1 hv, hI⟩) (rfl) dX1_put_9

set_option maxHeartbeats 4000000 in
set_option maxRecDepth 100000 in
theorem c1_remove (l : Launch) (D : va_G) (q : Nat → Nat) (a : Nat → ClassId) (u : pm_S1) {b : pm_AB} (hI : pm_R1 u b) (v k : Int32) : pm_Mi l yX1_remove cX1_remove 4 .int (pm_rm 1) D (pm_t1 a) (pm_w1 q a) [.ref (q 0), .int v, .int k] u (fun r u' => ∃ x9, sp_remove b v k r x9 ∧ pm_R1 u' x9) := by
  refine pm_Mi_of (by decide) (Nat.le_of_ble_eq_true rfl) ?_
  intro p e s m below meth c A args Q ls F hA hret hX hl
  have hx := F.1
  have hb := F.2.1
  have hl : lv_has ls 4 [(0, .ref (q 0)), (1, .int v), (2, .int k)] := hl
  have hn := hI.1.2.1
  refine lv_aload_n hx hb dX1_remove_0 rfl (lv_at hl 0 rfl) ?_
  refine lv_iload_n hx hb dX1_remove_1 rfl (lv_at hl 1 rfl) ?_
  refine pm_calli (rest := []) F hA hX (c1_bad l D q a u hI v) rfl rfl hG1_bad hd1_bad ⟨⟨rfl, rfl⟩, Nat.le_of_ble_eq_true rfl, Nat.le_of_ble_eq_true rfl⟩ rfl rfl hl.1 (Nat.le_of_ble_eq_true rfl) dX1_remove_2 ⟨Nat.zero_le _, Nat.zero_le _⟩ (fun r2 u2 H locs hw2 hX => ?_)
  rw [hw2.2] at hX
  refine lv_if_eq (tgt := 10) hx hb dX1_remove_5 (by decide) (fun c5 => ?_) (fun c5 => ?_)
  · have hv := hw2.1.nn c5
    obtain ⟨v1, hv1, rfl⟩ := sp_ok_of hn hv
    refine lv_aload_n hx hb dX1_remove_10 rfl (lv_at hl 0 rfl) ?_
    refine lv_iload_n hx hb dX1_remove_11 rfl (lv_at hl 2 rfl) ?_
    refine pm_calli (rest := []) F hA hX (c1_badKey l D q a u k) rfl rfl hG1_badKey hd1_badKey ⟨⟨rfl, rfl⟩, Nat.le_of_ble_eq_true rfl, Nat.le_of_ble_eq_true rfl⟩ rfl rfl hl.1 (Nat.le_of_ble_eq_true rfl) dX1_remove_12 ⟨Nat.zero_le _, Nat.zero_le _⟩ (fun r12 u12 H locs hw12 hX => ?_)
    rw [hw12.2] at hX
    refine lv_if_eq (tgt := 21) hx hb dX1_remove_15 (by decide) (fun c15 => ?_) (fun c15 => ?_)
    · have hk := hw12.1.nn c15
      obtain ⟨k1, hk1, rfl⟩ := sp_key_of hk
      refine lv_aload_n hx hb dX1_remove_21 rfl (lv_at hl 0 rfl) ?_
      refine lv_iload_n hx hb dX1_remove_22 rfl (lv_at hl 1 rfl) ?_
      refine pm_calli (rest := []) F hA hX (c1_make l D q a u hI hv1) rfl rfl hG1_make hd1_make ⟨⟨rfl, rfl⟩, Nat.le_of_ble_eq_true rfl, Nat.le_of_ble_eq_true rfl⟩ rfl rfl hl.1 (Nat.le_of_ble_eq_true rfl) dX1_remove_23 ⟨Nat.zero_le _, Nat.zero_le _⟩ (fun r23 u23 H locs hw23 hX => ?_)
      rcases hw23 with ⟨h40, hr, hu⟩ | ⟨h40, hr, hR⟩
      · rw [hu] at hX
        refine pm_top (y := -3) hr ?_
        refine lv_istore_n (lv' := [(3, .int (-3)), (0, .ref (q 0)), (1, .int (nI v1)), (2, .int (nI k1))]) hx hb dX1_remove_26 rfl hl (by decide) rfl (fun ls hl => ?_)
        refine lv_iload_n hx hb dX1_remove_27 rfl (lv_at hl 0 rfl) ?_
        refine lv_if_lt (tgt := 43) hx hb dX1_remove_28 (by decide) (fun c28 => ?_) (fun c28 => ?_)
        · refine lv_iload_n hx hb dX1_remove_43 rfl (lv_at hl 0 rfl) ?_
          exact hret (-3) u _ _ 44 ls hX (⟨b, sp_mk_3 hv hk h40, hI⟩) (rfl) dX1_remove_44
        · exact absurd (show (-3 : Int32) < 0 by decide) c28
      · refine pm_top (y := nI b.1) hr ?_
        refine lv_istore_n (lv' := [(3, .int (nI b.1)), (0, .ref (q 0)), (1, .int (nI v1)), (2, .int (nI k1))]) hx hb dX1_remove_26 rfl hl (by decide) rfl (fun ls hl => ?_)
        refine lv_iload_n hx hb dX1_remove_27 rfl (lv_at hl 0 rfl) ?_
        refine lv_if_lt (tgt := 43) hx hb dX1_remove_28 (by decide) (fun c28 => ?_) (fun c28 => ?_)
        · exact absurd c28 (nI_pos (by omega))
        · refine lv_aload_n hx hb dX1_remove_31 rfl (lv_at hl 1 rfl) ?_
          refine x1_gth F hX dX1_remove_32 ?_
          refine lv_bipush (v := nI 32) hx hb dX1_remove_35 (by decide) ?_
          refine lv_iload_n hx hb dX1_remove_37 rfl (lv_at hl 0 rfl) ?_
          refine lv_imul hx hb dX1_remove_38 ?_
          refine pm_top (y := nI (32 * b.1)) (pk_mul _ _) ?_
          refine lv_iload_n hx hb dX1_remove_39 rfl (lv_at hl 3 rfl) ?_
          refine lv_iadd hx hb dX1_remove_40 ?_
          refine pm_top (y := nI ((32 * b.1) + k1)) (nI_add _ _) ?_
          refine lv_iconst (v := 0) hx hb dX1_remove_41 (by decide) ?_
          refine x1_sth F hX (by omega) (Or.inl rfl) dX1_remove_42 (fun H locs hX => ?_)
          refine lv_iload_n hx hb dX1_remove_43 rfl (lv_at hl 0 rfl) ?_
          exact hret (nI b.1) _ _ _ 44 ls hX (⟨pm_wr (pm_opn b v1) b.1 k1 none, by unfold sp_remove; rw [pm_clN (by omega), pm_clN (by omega)]; exact sp_mk_4 hv hk (by omega), hR.clr (by show b.1 < b.1 + 1; omega) hk1⟩) (rfl) dX1_remove_44
    · have hk := hw12.1.yes c15
      refine lv_bipush (v := (-2)) hx hb dX1_remove_18 (by decide) ?_
      exact hret (-2) u _ _ 20 ls hX (⟨b, sp_mk_2 hv hk, hI⟩) (rfl) dX1_remove_20
  · have hv := hw2.1.yes c5
    refine lv_iconst (v := (-1)) hx hb dX1_remove_8 (by decide) ?_
    exact hret (-1) u _ _ 9 ls hX (⟨b, sp_mk_1 hv, hI⟩) (rfl) dX1_remove_9

set_option maxHeartbeats 4000000 in
set_option maxRecDepth 100000 in
theorem c1_fill (l : Launch) (D : va_G) (q : Nat → Nat) (a : Nat → ClassId) (u : pm_S1) {b : pm_AB} (hI : pm_R1 u b) (v g x t : Int32) : pm_Mi l yX1_fill cX1_fill 7 .int (pm_rm 1) D (pm_t1 a) (pm_w1 q a) [.ref (q 0), .int v, .int g, .int x, .int t] u (fun r u' => ∃ x9, sp_fill b v g x t r x9 ∧ pm_R1 u' x9) := by
  refine pm_Mi_of (by decide) (Nat.le_of_ble_eq_true rfl) ?_
  intro p e s m below meth c A args Q ls F hA hret hX hl
  have hx := F.1
  have hb := F.2.1
  have hl : lv_has ls 7 [(0, .ref (q 0)), (1, .int v), (2, .int g), (3, .int x), (4, .int t)] := hl
  have hn := hI.1.2.1
  refine lv_aload_n hx hb dX1_fill_0 rfl (lv_at hl 0 rfl) ?_
  refine lv_iload_n hx hb dX1_fill_1 rfl (lv_at hl 1 rfl) ?_
  refine pm_calli (rest := []) F hA hX (c1_bad l D q a u hI v) rfl rfl hG1_bad hd1_bad ⟨⟨rfl, rfl⟩, Nat.le_of_ble_eq_true rfl, Nat.le_of_ble_eq_true rfl⟩ rfl rfl hl.1 (Nat.le_of_ble_eq_true rfl) dX1_fill_2 ⟨Nat.zero_le _, Nat.zero_le _⟩ (fun r2 u2 H locs hw2 hX => ?_)
  rw [hw2.2] at hX
  refine lv_if_eq (tgt := 10) hx hb dX1_fill_5 (by decide) (fun c5 => ?_) (fun c5 => ?_)
  · have hv := hw2.1.nn c5
    obtain ⟨v1, hv1, rfl⟩ := sp_ok_of hn hv
    refine lv_aload_n hx hb dX1_fill_10 rfl (lv_at hl 0 rfl) ?_
    refine lv_iload_n hx hb dX1_fill_11 rfl (lv_at hl 2 rfl) ?_
    refine pm_calli (rest := []) F hA hX (c1_badPlan l D q a u g) rfl rfl hG1_badPlan hd1_badPlan ⟨⟨rfl, rfl⟩, Nat.le_of_ble_eq_true rfl, Nat.le_of_ble_eq_true rfl⟩ rfl rfl hl.1 (Nat.le_of_ble_eq_true rfl) dX1_fill_12 ⟨Nat.zero_le _, Nat.zero_le _⟩ (fun r12 u12 H locs hw12 hX => ?_)
    rw [hw12.2] at hX
    refine lv_if_eq (tgt := 21) hx hb dX1_fill_15 (by decide) (fun c15 => ?_) (fun c15 => ?_)
    · have hg := hw12.1.nn c15
      obtain ⟨f1, z1, hz1, hz2, hz3, hz4, rfl, hz5, hz6⟩ := sp_plan_of hg
      refine lv_aload_n hx hb dX1_fill_21 rfl (lv_at hl 0 rfl) ?_
      refine lv_iload_n hx hb dX1_fill_22 rfl (lv_at hl 1 rfl) ?_
      refine pm_calli (rest := []) F hA hX (c1_make l D q a u hI hv1) rfl rfl hG1_make hd1_make ⟨⟨rfl, rfl⟩, Nat.le_of_ble_eq_true rfl, Nat.le_of_ble_eq_true rfl⟩ rfl rfl hl.1 (Nat.le_of_ble_eq_true rfl) dX1_fill_23 ⟨Nat.zero_le _, Nat.zero_le _⟩ (fun r23 u23 H locs hw23 hX => ?_)
      rcases hw23 with ⟨h40, hr, hu⟩ | ⟨h40, hr, hR⟩
      · rw [hu] at hX
        refine pm_top (y := -3) hr ?_
        refine lv_istore (lv' := [(5, .int (-3)), (0, .ref (q 0)), (1, .int (nI v1)), (2, .int (nI (f1 * 16 + z1))), (3, .int x), (4, .int t)]) hx hb dX1_fill_26 hl (by decide) rfl (fun ls hl => ?_)
        refine lv_iconst (v := nI 0) hx hb dX1_fill_28 (by decide) ?_
        refine lv_istore (lv' := [(6, .int (nI 0)), (5, .int (-3)), (0, .ref (q 0)), (1, .int (nI v1)), (2, .int (nI (f1 * 16 + z1))), (3, .int x), (4, .int t)]) hx hb dX1_fill_29 hl (by decide) rfl (fun ls hl => ?_)
        refine lv_iload hx hb dX1_fill_31 (lv_at hl 0 rfl) ?_
        refine lv_iload_n hx hb dX1_fill_33 rfl (lv_at hl 4 rfl) ?_
        refine lv_bipush (v := nI 16) hx hb dX1_fill_34 (by decide) ?_
        refine lv_irem hx hb dX1_fill_36 (by decide) ?_
        refine pm_top (y := nI z1) ((pm_rem16 (by omega)).trans (by rw [show (f1 * 16 + z1) % 16 = z1 by omega])) ?_
        refine lv_icmp_ge (tgt := 71) hx hb dX1_fill_37 (by decide) (fun c37 => ?_) (fun c37 => ?_)
        · exact absurd c37 (nI_ge (by omega) (by omega))
        · refine lv_iload hx hb dX1_fill_40 (lv_at hl 1 rfl) ?_
          refine lv_if_lt (tgt := 71) hx hb dX1_fill_42 (by decide) (fun c42 => ?_) (fun c42 => ?_)
          · refine lv_iload hx hb dX1_fill_71 (lv_at hl 1 rfl) ?_
            exact hret (-3) u _ _ 73 ls hX (⟨b, sp_mk_3 hv hg h40, hI⟩) (rfl) dX1_fill_73
          · exact absurd (show (-3 : Int32) < 0 by decide) c42
      · refine pm_top (y := nI b.1) hr ?_
        refine lv_istore (lv' := [(5, .int (nI b.1)), (0, .ref (q 0)), (1, .int (nI v1)), (2, .int (nI (f1 * 16 + z1))), (3, .int x), (4, .int t)]) hx hb dX1_fill_26 hl (by decide) rfl (fun ls hl => ?_)
        refine lv_iconst (v := nI 0) hx hb dX1_fill_28 (by decide) ?_
        refine lv_istore (lv' := [(6, .int (nI 0)), (5, .int (nI b.1)), (0, .ref (q 0)), (1, .int (nI v1)), (2, .int (nI (f1 * 16 + z1))), (3, .int x), (4, .int t)]) hx hb dX1_fill_29 hl (by decide) rfl (fun ls hl => ?_)
        have loop : ∀ (N i : Nat) (u2 : pm_S1) (H : Heap) (locs : List Loc) (ls : Array Slot), i + N = z1 → pm_R1 u2 (pm_fil (pm_opn b v1) b.1 f1 x t i) → pm_X D A s (pm_t1 a) (pm_w1 q a) u2 H locs → lv_has ls 7 [(6, .int (nI i)), (5, .int (nI b.1)), (0, .ref (q 0)), (1, .int (nI v1)), (2, .int (nI (f1 * 16 + z1))), (3, .int x), (4, .int t)] → W p l e (pm_rm 1) s m args below meth c H locs 0 0 Q (F0 m 31 ls []) := by
          intro N
          induction N with
          | zero =>
            intro i u2 H locs ls hi hR2 hX hl
            refine lv_iload hx hb dX1_fill_31 (lv_at hl 0 rfl) ?_
            refine lv_iload_n hx hb dX1_fill_33 rfl (lv_at hl 4 rfl) ?_
            refine lv_bipush (v := nI 16) hx hb dX1_fill_34 (by decide) ?_
            refine lv_irem hx hb dX1_fill_36 (by decide) ?_
            refine pm_top (y := nI z1) ((pm_rem16 (by omega)).trans (by rw [show (f1 * 16 + z1) % 16 = z1 by omega])) ?_
            refine lv_icmp_ge (tgt := 71) hx hb dX1_fill_37 (by decide) (fun c37 => ?_) (fun c37 => ?_)
            · refine lv_iload hx hb dX1_fill_71 (lv_at hl 1 rfl) ?_
              exact hret (nI b.1) u2 _ _ 73 ls hX (⟨pm_fil (pm_opn b v1) b.1 f1 x t i, by unfold sp_fill; rw [pm_clN (by omega), hz5, hz6, show i = z1 by omega]; exact sp_mk_4 hv hg (by omega), hR2⟩) (rfl) dX1_fill_73
            · exact absurd (nI_le (by omega) (by omega)) c37
          | succ N ih =>
            intro i u2 H locs ls hi hR2 hX hl
            refine lv_iload hx hb dX1_fill_31 (lv_at hl 0 rfl) ?_
            refine lv_iload_n hx hb dX1_fill_33 rfl (lv_at hl 4 rfl) ?_
            refine lv_bipush (v := nI 16) hx hb dX1_fill_34 (by decide) ?_
            refine lv_irem hx hb dX1_fill_36 (by decide) ?_
            refine pm_top (y := nI z1) ((pm_rem16 (by omega)).trans (by rw [show (f1 * 16 + z1) % 16 = z1 by omega])) ?_
            refine lv_icmp_ge (tgt := 71) hx hb dX1_fill_37 (by decide) (fun c37 => ?_) (fun c37 => ?_)
            · exact absurd c37 (nI_ge (by omega) (by omega))
            · refine lv_iload hx hb dX1_fill_40 (lv_at hl 1 rfl) ?_
              refine lv_if_lt (tgt := 71) hx hb dX1_fill_42 (by decide) (fun c42 => ?_) (fun c42 => ?_)
              · exact absurd c42 (nI_pos (by omega))
              · refine lv_aload_n hx hb dX1_fill_45 rfl (lv_at hl 2 rfl) ?_
                refine lv_iload hx hb dX1_fill_46 (lv_at hl 1 rfl) ?_
                refine lv_iload_n hx hb dX1_fill_48 rfl (lv_at hl 4 rfl) ?_
                refine lv_bipush (v := nI 16) hx hb dX1_fill_49 (by decide) ?_
                refine lv_idiv hx hb dX1_fill_51 (by decide) ?_
                refine pm_top (y := nI f1) ((pm_div16 (by omega)).trans (by rw [show (f1 * 16 + z1) / 16 = f1 by omega])) ?_
                refine lv_iload hx hb dX1_fill_52 (lv_at hl 0 rfl) ?_
                refine lv_iadd hx hb dX1_fill_54 ?_
                refine pm_top (y := nI (f1 + i)) (nI_add _ _) ?_
                refine lv_iload_n hx hb dX1_fill_55 rfl (lv_at hl 5 rfl) ?_
                refine lv_iload hx hb dX1_fill_56 (lv_at hl 0 rfl) ?_
                refine lv_iload hx hb dX1_fill_58 (lv_at hl 6 rfl) ?_
                refine lv_imul hx hb dX1_fill_60 ?_
                refine lv_iadd hx hb dX1_fill_61 ?_
                refine pm_callv (rest := []) F hA hX (c1_give l D q a u2 hR2 (v := b.1) (k := f1 + i) (by rw [pm_fil_n]; show b.1 < b.1 + 1; omega) (by omega) (x + nI i * t)) rfl rfl hG1_give hd1_give ⟨⟨rfl, rfl⟩, Nat.le_of_ble_eq_true rfl, Nat.le_of_ble_eq_true rfl⟩ rfl rfl hl.1 (Nat.le_of_ble_eq_true rfl) dX1_fill_62 ⟨Nat.zero_le _, Nat.zero_le _⟩ (fun u3 H locs hw62 hX => ?_)
                refine lv_iinc (v := nI (i + 1)) (lv' := [(6, .int (nI (i + 1))), (5, .int (nI b.1)), (0, .ref (q 0)), (1, .int (nI v1)), (2, .int (nI (f1 * 16 + z1))), (3, .int x), (4, .int t)]) hx hb dX1_fill_65 hl (k := 0) rfl (nI_1 i) (by decide) rfl (fun ls hl => ?_)
                refine lv_goto (tgt := 31) hx hb dX1_fill_68 (by decide) ?_
                exact ih (i + 1) u3 _ _ ls (by omega) hw62 hX (lv_sub hl [0, 1, 2, 3, 4, 5, 6] rfl)
        exact loop z1 0 _ _ _ ls (by omega) hR hX (lv_sub hl [0, 1, 2, 3, 4, 5, 6] rfl)
    · have hg := hw12.1.yes c15
      refine lv_bipush (v := (-2)) hx hb dX1_fill_18 (by decide) ?_
      exact hret (-2) u _ _ 20 ls hX (⟨b, sp_mk_2 hv hg, hI⟩) (rfl) dX1_fill_20
  · have hv := hw2.1.yes c5
    refine lv_iconst (v := (-1)) hx hb dX1_fill_8 (by decide) ?_
    exact hret (-1) u _ _ 9 ls hX (⟨b, sp_mk_1 hv, hI⟩) (rfl) dX1_fill_9

set_option maxHeartbeats 4000000 in
set_option maxRecDepth 100000 in
theorem c1_graft (l : Launch) (D : va_G) (q : Nat → Nat) (a : Nat → ClassId) (u : pm_S1) {b : pm_AB} (hI : pm_R1 u b) (v w g : Int32) : pm_Mi l yX1_graft cX1_graft 6 .int (pm_rm 1) D (pm_t1 a) (pm_w1 q a) [.ref (q 0), .int v, .int w, .int g] u (fun r u' => ∃ x9, sp_graft b v w g r x9 ∧ pm_R1 u' x9) := by
  refine pm_Mi_of (by decide) (Nat.le_of_ble_eq_true rfl) ?_
  intro p e s m below meth c A args Q ls F hA hret hX hl
  have hx := F.1
  have hb := F.2.1
  have hl : lv_has ls 6 [(0, .ref (q 0)), (1, .int v), (2, .int w), (3, .int g)] := hl
  have hn := hI.1.2.1
  refine lv_aload_n hx hb dX1_graft_0 rfl (lv_at hl 0 rfl) ?_
  refine lv_iload_n hx hb dX1_graft_1 rfl (lv_at hl 1 rfl) ?_
  refine pm_calli (rest := []) F hA hX (c1_bad l D q a u hI v) rfl rfl hG1_bad hd1_bad ⟨⟨rfl, rfl⟩, Nat.le_of_ble_eq_true rfl, Nat.le_of_ble_eq_true rfl⟩ rfl rfl hl.1 (Nat.le_of_ble_eq_true rfl) dX1_graft_2 ⟨Nat.zero_le _, Nat.zero_le _⟩ (fun r2 u2 H locs hw2 hX => ?_)
  rw [hw2.2] at hX
  refine lv_if_ne (tgt := 16) hx hb dX1_graft_5 (by decide) (fun c5 => ?_) (fun c5 => ?_)
  · have hv := hw2.1.yes c5
    refine lv_iconst (v := (-1)) hx hb dX1_graft_16 (by decide) ?_
    exact hret (-1) u _ _ 17 ls hX (⟨b, sp_mk_1 (fun z => hv z.1), hI⟩) (rfl) dX1_graft_17
  · have hv := hw2.1.nn c5
    obtain ⟨v1, hv1, rfl⟩ := sp_ok_of hn hv
    refine lv_aload_n hx hb dX1_graft_8 rfl (lv_at hl 0 rfl) ?_
    refine lv_iload_n hx hb dX1_graft_9 rfl (lv_at hl 2 rfl) ?_
    refine pm_calli (rest := []) F hA hX (c1_bad l D q a u hI w) rfl rfl hG1_bad hd1_bad ⟨⟨rfl, rfl⟩, Nat.le_of_ble_eq_true rfl, Nat.le_of_ble_eq_true rfl⟩ rfl rfl hl.1 (Nat.le_of_ble_eq_true rfl) dX1_graft_10 ⟨Nat.zero_le _, Nat.zero_le _⟩ (fun r10 u10 H locs hw10 hX => ?_)
    rw [hw10.2] at hX
    refine lv_if_eq (tgt := 18) hx hb dX1_graft_13 (by decide) (fun c13 => ?_) (fun c13 => ?_)
    · have hw := hw10.1.nn c13
      obtain ⟨w1, hw1, rfl⟩ := sp_ok_of hn hw
      refine lv_aload_n hx hb dX1_graft_18 rfl (lv_at hl 0 rfl) ?_
      refine lv_iload_n hx hb dX1_graft_19 rfl (lv_at hl 3 rfl) ?_
      refine pm_calli (rest := []) F hA hX (c1_badPlan l D q a u g) rfl rfl hG1_badPlan hd1_badPlan ⟨⟨rfl, rfl⟩, Nat.le_of_ble_eq_true rfl, Nat.le_of_ble_eq_true rfl⟩ rfl rfl hl.1 (Nat.le_of_ble_eq_true rfl) dX1_graft_20 ⟨Nat.zero_le _, Nat.zero_le _⟩ (fun r20 u20 H locs hw20 hX => ?_)
      rw [hw20.2] at hX
      refine lv_if_eq (tgt := 29) hx hb dX1_graft_23 (by decide) (fun c23 => ?_) (fun c23 => ?_)
      · have hg := hw20.1.nn c23
        obtain ⟨f1, z1, hz1, hz2, hz3, hz4, rfl, hz5, hz6⟩ := sp_plan_of hg
        refine lv_aload_n hx hb dX1_graft_29 rfl (lv_at hl 0 rfl) ?_
        refine lv_iload_n hx hb dX1_graft_30 rfl (lv_at hl 1 rfl) ?_
        refine pm_calli (rest := []) F hA hX (c1_make l D q a u hI hv1) rfl rfl hG1_make hd1_make ⟨⟨rfl, rfl⟩, Nat.le_of_ble_eq_true rfl, Nat.le_of_ble_eq_true rfl⟩ rfl rfl hl.1 (Nat.le_of_ble_eq_true rfl) dX1_graft_31 ⟨Nat.zero_le _, Nat.zero_le _⟩ (fun r31 u31 H locs hw31 hX => ?_)
        rcases hw31 with ⟨h40, hr, hu⟩ | ⟨h40, hr, hR⟩
        · rw [hu] at hX
          refine pm_top (y := -3) hr ?_
          refine lv_istore (lv' := [(4, .int (-3)), (0, .ref (q 0)), (1, .int (nI v1)), (2, .int (nI w1)), (3, .int (nI (f1 * 16 + z1)))]) hx hb dX1_graft_34 hl (by decide) rfl (fun ls hl => ?_)
          refine lv_iconst (v := nI 0) hx hb dX1_graft_36 (by decide) ?_
          refine lv_istore (lv' := [(5, .int (nI 0)), (4, .int (-3)), (0, .ref (q 0)), (1, .int (nI v1)), (2, .int (nI w1)), (3, .int (nI (f1 * 16 + z1)))]) hx hb dX1_graft_37 hl (by decide) rfl (fun ls hl => ?_)
          refine lv_iload hx hb dX1_graft_39 (lv_at hl 0 rfl) ?_
          refine lv_iload_n hx hb dX1_graft_41 rfl (lv_at hl 5 rfl) ?_
          refine lv_bipush (v := nI 16) hx hb dX1_graft_42 (by decide) ?_
          refine lv_irem hx hb dX1_graft_44 (by decide) ?_
          refine pm_top (y := nI z1) ((pm_rem16 (by omega)).trans (by rw [show (f1 * 16 + z1) % 16 = z1 by omega])) ?_
          refine lv_icmp_ge (tgt := 80) hx hb dX1_graft_45 (by decide) (fun c45 => ?_) (fun c45 => ?_)
          · exact absurd c45 (nI_ge (by omega) (by omega))
          · refine lv_iload hx hb dX1_graft_48 (lv_at hl 1 rfl) ?_
            refine lv_if_lt (tgt := 80) hx hb dX1_graft_50 (by decide) (fun c50 => ?_) (fun c50 => ?_)
            · refine lv_iload hx hb dX1_graft_80 (lv_at hl 1 rfl) ?_
              exact hret (-3) u _ _ 82 ls hX (⟨b, sp_mk_3 ⟨hv, hw⟩ hg h40, hI⟩) (rfl) dX1_graft_82
            · exact absurd (show (-3 : Int32) < 0 by decide) c50
        · refine pm_top (y := nI b.1) hr ?_
          refine lv_istore (lv' := [(4, .int (nI b.1)), (0, .ref (q 0)), (1, .int (nI v1)), (2, .int (nI w1)), (3, .int (nI (f1 * 16 + z1)))]) hx hb dX1_graft_34 hl (by decide) rfl (fun ls hl => ?_)
          refine lv_iconst (v := nI 0) hx hb dX1_graft_36 (by decide) ?_
          refine lv_istore (lv' := [(5, .int (nI 0)), (4, .int (nI b.1)), (0, .ref (q 0)), (1, .int (nI v1)), (2, .int (nI w1)), (3, .int (nI (f1 * 16 + z1)))]) hx hb dX1_graft_37 hl (by decide) rfl (fun ls hl => ?_)
          have loop : ∀ (N i : Nat) (u2 : pm_S1) (H : Heap) (locs : List Loc) (ls : Array Slot), i + N = z1 → pm_R1 u2 (pm_grf (pm_opn b v1) b.1 w1 f1 i) → pm_X D A s (pm_t1 a) (pm_w1 q a) u2 H locs → lv_has ls 6 [(5, .int (nI i)), (4, .int (nI b.1)), (0, .ref (q 0)), (1, .int (nI v1)), (2, .int (nI w1)), (3, .int (nI (f1 * 16 + z1)))] → W p l e (pm_rm 1) s m args below meth c H locs 0 0 Q (F0 m 39 ls []) := by
            intro N
            induction N with
            | zero =>
              intro i u2 H locs ls hi hR2 hX hl
              refine lv_iload hx hb dX1_graft_39 (lv_at hl 0 rfl) ?_
              refine lv_iload_n hx hb dX1_graft_41 rfl (lv_at hl 5 rfl) ?_
              refine lv_bipush (v := nI 16) hx hb dX1_graft_42 (by decide) ?_
              refine lv_irem hx hb dX1_graft_44 (by decide) ?_
              refine pm_top (y := nI z1) ((pm_rem16 (by omega)).trans (by rw [show (f1 * 16 + z1) % 16 = z1 by omega])) ?_
              refine lv_icmp_ge (tgt := 80) hx hb dX1_graft_45 (by decide) (fun c45 => ?_) (fun c45 => ?_)
              · refine lv_iload hx hb dX1_graft_80 (lv_at hl 1 rfl) ?_
                exact hret (nI b.1) u2 _ _ 82 ls hX (⟨(pm_grf (pm_opn b v1) b.1 w1 f1 i), by unfold sp_graft; rw [pm_clN (by omega), pm_clN (by omega), hz5, hz6, show i = z1 by omega]; exact sp_mk_4 ⟨hv, hw⟩ hg (by omega), hR2⟩) (rfl) dX1_graft_82
              · exact absurd (nI_le (by omega) (by omega)) c45
            | succ N ih =>
              intro i u2 H locs ls hi hR2 hX hl
              have hbn : (pm_grf (pm_opn b v1) b.1 w1 f1 i).1 = b.1 + 1 := pm_grf_n _ _ _ _ _
              have hold : (pm_grf (pm_opn b v1) b.1 w1 f1 i).2.2 w1 (f1 + i) = (pm_opn b v1).2.2 w1 (f1 + i) := pm_grf_old _ _ _ _ _ (by omega) _
              refine lv_iload hx hb dX1_graft_39 (lv_at hl 0 rfl) ?_
              refine lv_iload_n hx hb dX1_graft_41 rfl (lv_at hl 5 rfl) ?_
              refine lv_bipush (v := nI 16) hx hb dX1_graft_42 (by decide) ?_
              refine lv_irem hx hb dX1_graft_44 (by decide) ?_
              refine pm_top (y := nI z1) ((pm_rem16 (by omega)).trans (by rw [show (f1 * 16 + z1) % 16 = z1 by omega])) ?_
              refine lv_icmp_ge (tgt := 80) hx hb dX1_graft_45 (by decide) (fun c45 => ?_) (fun c45 => ?_)
              · exact absurd c45 (nI_ge (by omega) (by omega))
              · refine lv_iload hx hb dX1_graft_48 (lv_at hl 1 rfl) ?_
                refine lv_if_lt (tgt := 80) hx hb dX1_graft_50 (by decide) (fun c50 => ?_) (fun c50 => ?_)
                · exact absurd c50 (nI_pos (by omega))
                · refine lv_aload_n hx hb dX1_graft_53 rfl (lv_at hl 2 rfl) ?_
                  refine lv_iload_n hx hb dX1_graft_54 rfl (lv_at hl 4 rfl) ?_
                  refine lv_iload_n hx hb dX1_graft_55 rfl (lv_at hl 5 rfl) ?_
                  refine lv_bipush (v := nI 16) hx hb dX1_graft_56 (by decide) ?_
                  refine lv_idiv hx hb dX1_graft_58 (by decide) ?_
                  refine pm_top (y := nI f1) ((pm_div16 (by omega)).trans (by rw [show (f1 * 16 + z1) / 16 = f1 by omega])) ?_
                  refine lv_iload hx hb dX1_graft_59 (lv_at hl 0 rfl) ?_
                  refine lv_iadd hx hb dX1_graft_61 ?_
                  refine pm_top (y := nI (f1 + i)) (nI_add _ _) ?_
                  refine lv_iload hx hb dX1_graft_62 (lv_at hl 1 rfl) ?_
                  refine lv_iload_n hx hb dX1_graft_64 rfl (lv_at hl 5 rfl) ?_
                  refine lv_bipush (v := nI 16) hx hb dX1_graft_65 (by decide) ?_
                  refine lv_idiv hx hb dX1_graft_67 (by decide) ?_
                  refine pm_top (y := nI f1) ((pm_div16 (by omega)).trans (by rw [show (f1 * 16 + z1) / 16 = f1 by omega])) ?_
                  refine lv_iload hx hb dX1_graft_68 (lv_at hl 0 rfl) ?_
                  refine lv_iadd hx hb dX1_graft_70 ?_
                  refine pm_top (y := nI (f1 + i)) (nI_add _ _) ?_
                  refine pm_callv (rest := []) F hA hX (c1_copy l D q a u2 hR2 (v := w1) (k := f1 + i) (w := b.1) (j := f1 + i) (by omega) (by omega) (by omega) (by omega)) rfl rfl hG1_copy hd1_copy ⟨⟨rfl, rfl⟩, Nat.le_of_ble_eq_true rfl, Nat.le_of_ble_eq_true rfl⟩ rfl rfl hl.1 (Nat.le_of_ble_eq_true rfl) dX1_graft_71 ⟨Nat.zero_le _, Nat.zero_le _⟩ (fun u3 H locs hw71 hX => ?_)
                  rw [hold] at hw71
                  refine lv_iinc (v := nI (i + 1)) (lv' := [(5, .int (nI (i + 1))), (4, .int (nI b.1)), (0, .ref (q 0)), (1, .int (nI v1)), (2, .int (nI w1)), (3, .int (nI (f1 * 16 + z1)))]) hx hb dX1_graft_74 hl (k := 0) rfl (nI_1 i) (by decide) rfl (fun ls hl => ?_)
                  refine lv_goto (tgt := 39) hx hb dX1_graft_77 (by decide) ?_
                  exact ih (i + 1) u3 _ _ ls (by omega) hw71 hX (lv_sub hl [0, 1, 2, 3, 4, 5] rfl)
          exact loop z1 0 _ _ _ ls (by omega) hR hX (lv_sub hl [0, 1, 2, 3, 4, 5] rfl)
      · have hg := hw20.1.yes c23
        refine lv_bipush (v := (-2)) hx hb dX1_graft_26 (by decide) ?_
        exact hret (-2) u _ _ 28 ls hX (⟨b, sp_mk_2 ⟨hv, hw⟩ hg, hI⟩) (rfl) dX1_graft_28
    · have hw := hw10.1.yes c13
      refine lv_iconst (v := (-1)) hx hb dX1_graft_16 (by decide) ?_
      exact hret (-1) u _ _ 17 ls hX (⟨b, sp_mk_1 (fun z => hw z.2), hI⟩) (rfl) dX1_graft_17

set_option maxHeartbeats 4000000 in
set_option maxRecDepth 100000 in
theorem c1_exchange (l : Launch) (D : va_G) (q : Nat → Nat) (a : Nat → ClassId) (u : pm_S1) {b : pm_AB} (hI : pm_R1 u b) (v i j : Int32) : pm_Mi l yX1_exchange cX1_exchange 5 .int (pm_rm 1) D (pm_t1 a) (pm_w1 q a) [.ref (q 0), .int v, .int i, .int j] u (fun r u' => ∃ x9, sp_exchange b v i j r x9 ∧ pm_R1 u' x9) := by
  refine pm_Mi_of (by decide) (Nat.le_of_ble_eq_true rfl) ?_
  intro p e s m below meth c A args Q ls F hA hret hX hl
  have hx := F.1
  have hb := F.2.1
  have hl : lv_has ls 5 [(0, .ref (q 0)), (1, .int v), (2, .int i), (3, .int j)] := hl
  have hn := hI.1.2.1
  refine lv_aload_n hx hb dX1_exchange_0 rfl (lv_at hl 0 rfl) ?_
  refine lv_iload_n hx hb dX1_exchange_1 rfl (lv_at hl 1 rfl) ?_
  refine pm_calli (rest := []) F hA hX (c1_bad l D q a u hI v) rfl rfl hG1_bad hd1_bad ⟨⟨rfl, rfl⟩, Nat.le_of_ble_eq_true rfl, Nat.le_of_ble_eq_true rfl⟩ rfl rfl hl.1 (Nat.le_of_ble_eq_true rfl) dX1_exchange_2 ⟨Nat.zero_le _, Nat.zero_le _⟩ (fun r2 u2 H locs hw2 hX => ?_)
  rw [hw2.2] at hX
  refine lv_if_eq (tgt := 10) hx hb dX1_exchange_5 (by decide) (fun c5 => ?_) (fun c5 => ?_)
  · have hv := hw2.1.nn c5
    obtain ⟨v1, hv1, rfl⟩ := sp_ok_of hn hv
    refine lv_aload_n hx hb dX1_exchange_10 rfl (lv_at hl 0 rfl) ?_
    refine lv_iload_n hx hb dX1_exchange_11 rfl (lv_at hl 2 rfl) ?_
    refine pm_calli (rest := []) F hA hX (c1_badKey l D q a u i) rfl rfl hG1_badKey hd1_badKey ⟨⟨rfl, rfl⟩, Nat.le_of_ble_eq_true rfl, Nat.le_of_ble_eq_true rfl⟩ rfl rfl hl.1 (Nat.le_of_ble_eq_true rfl) dX1_exchange_12 ⟨Nat.zero_le _, Nat.zero_le _⟩ (fun r12 u12 H locs hw12 hX => ?_)
    rw [hw12.2] at hX
    refine lv_if_ne (tgt := 26) hx hb dX1_exchange_15 (by decide) (fun c15 => ?_) (fun c15 => ?_)
    · have hi := hw12.1.yes c15
      refine lv_bipush (v := (-2)) hx hb dX1_exchange_26 (by decide) ?_
      exact hret (-2) u _ _ 28 ls hX (⟨b, sp_mk_2 hv (fun z => hi z.1), hI⟩) (rfl) dX1_exchange_28
    · have hi := hw12.1.nn c15
      obtain ⟨i1, hi1, rfl⟩ := sp_key_of hi
      refine lv_aload_n hx hb dX1_exchange_18 rfl (lv_at hl 0 rfl) ?_
      refine lv_iload_n hx hb dX1_exchange_19 rfl (lv_at hl 3 rfl) ?_
      refine pm_calli (rest := []) F hA hX (c1_badKey l D q a u j) rfl rfl hG1_badKey hd1_badKey ⟨⟨rfl, rfl⟩, Nat.le_of_ble_eq_true rfl, Nat.le_of_ble_eq_true rfl⟩ rfl rfl hl.1 (Nat.le_of_ble_eq_true rfl) dX1_exchange_20 ⟨Nat.zero_le _, Nat.zero_le _⟩ (fun r20 u20 H locs hw20 hX => ?_)
      rw [hw20.2] at hX
      refine lv_if_eq (tgt := 29) hx hb dX1_exchange_23 (by decide) (fun c23 => ?_) (fun c23 => ?_)
      · have hj := hw20.1.nn c23
        obtain ⟨j1, hj1, rfl⟩ := sp_key_of hj
        refine lv_aload_n hx hb dX1_exchange_29 rfl (lv_at hl 0 rfl) ?_
        refine lv_iload_n hx hb dX1_exchange_30 rfl (lv_at hl 1 rfl) ?_
        refine pm_calli (rest := []) F hA hX (c1_make l D q a u hI hv1) rfl rfl hG1_make hd1_make ⟨⟨rfl, rfl⟩, Nat.le_of_ble_eq_true rfl, Nat.le_of_ble_eq_true rfl⟩ rfl rfl hl.1 (Nat.le_of_ble_eq_true rfl) dX1_exchange_31 ⟨Nat.zero_le _, Nat.zero_le _⟩ (fun r31 u31 H locs hw31 hX => ?_)
        rcases hw31 with ⟨h40, hr, hu⟩ | ⟨h40, hr, hR⟩
        · rw [hu] at hX
          refine pm_top (y := -3) hr ?_
          refine lv_istore (lv' := [(4, .int (-3)), (0, .ref (q 0)), (1, .int (nI v1)), (2, .int (nI i1)), (3, .int (nI j1))]) hx hb dX1_exchange_34 hl (by decide) rfl (fun ls hl => ?_)
          refine lv_iload hx hb dX1_exchange_36 (lv_at hl 0 rfl) ?_
          refine lv_if_lt (tgt := 59) hx hb dX1_exchange_38 (by decide) (fun c38 => ?_) (fun c38 => ?_)
          · refine lv_iload hx hb dX1_exchange_59 (lv_at hl 0 rfl) ?_
            exact hret (-3) u _ _ 61 ls hX (⟨b, sp_mk_3 hv ⟨hi, hj⟩ h40, hI⟩) (rfl) dX1_exchange_61
          · exact absurd (show (-3 : Int32) < 0 by decide) c38
        · refine pm_top (y := nI b.1) hr ?_
          refine lv_istore (lv' := [(4, .int (nI b.1)), (0, .ref (q 0)), (1, .int (nI v1)), (2, .int (nI i1)), (3, .int (nI j1))]) hx hb dX1_exchange_34 hl (by decide) rfl (fun ls hl => ?_)
          refine lv_iload hx hb dX1_exchange_36 (lv_at hl 0 rfl) ?_
          refine lv_if_lt (tgt := 59) hx hb dX1_exchange_38 (by decide) (fun c38 => ?_) (fun c38 => ?_)
          · exact absurd c38 (nI_pos (by omega))
          · refine lv_aload_n hx hb dX1_exchange_41 rfl (lv_at hl 1 rfl) ?_
            refine lv_iload_n hx hb dX1_exchange_42 rfl (lv_at hl 2 rfl) ?_
            refine lv_iload_n hx hb dX1_exchange_43 rfl (lv_at hl 3 rfl) ?_
            refine lv_iload hx hb dX1_exchange_44 (lv_at hl 0 rfl) ?_
            refine lv_iload_n hx hb dX1_exchange_46 rfl (lv_at hl 4 rfl) ?_
            refine pm_callv (rest := []) F hA hX (c1_copy l D q a u31 hR (v := v1) (k := i1) (w := b.1) (j := j1) (by show v1 < b.1 + 1; omega) hi1 (by show b.1 < b.1 + 1; omega) hj1) rfl rfl hG1_copy hd1_copy ⟨⟨rfl, rfl⟩, Nat.le_of_ble_eq_true rfl, Nat.le_of_ble_eq_true rfl⟩ rfl rfl hl.1 (Nat.le_of_ble_eq_true rfl) dX1_exchange_47 ⟨Nat.zero_le _, Nat.zero_le _⟩ (fun u47 H locs hw47 hX => ?_)
            rw [pm_opn_old hv1] at hw47
            refine lv_aload_n hx hb dX1_exchange_50 rfl (lv_at hl 1 rfl) ?_
            refine lv_iload_n hx hb dX1_exchange_51 rfl (lv_at hl 2 rfl) ?_
            refine lv_iload_n hx hb dX1_exchange_52 rfl (lv_at hl 4 rfl) ?_
            refine lv_iload hx hb dX1_exchange_53 (lv_at hl 0 rfl) ?_
            refine lv_iload_n hx hb dX1_exchange_55 rfl (lv_at hl 3 rfl) ?_
            refine pm_callv (rest := []) F hA hX (c1_copy l D q a u47 hw47 (v := v1) (k := j1) (w := b.1) (j := i1) (by show v1 < b.1 + 1; omega) hj1 (by show b.1 < b.1 + 1; omega) hi1) rfl rfl hG1_copy hd1_copy ⟨⟨rfl, rfl⟩, Nat.le_of_ble_eq_true rfl, Nat.le_of_ble_eq_true rfl⟩ rfl rfl hl.1 (Nat.le_of_ble_eq_true rfl) dX1_exchange_56 ⟨Nat.zero_le _, Nat.zero_le _⟩ (fun u56 H locs hw56 hX => ?_)
            rw [show (pm_wr (pm_opn b v1) b.1 j1 (b.2.2 v1 i1)).2.2 v1 j1 = b.2.2 v1 j1 from (if_neg (by omega)).trans (pm_opn_old hv1 j1), pm_wr_swap (fun z => by rw [z])] at hw56
            refine lv_iload hx hb dX1_exchange_59 (lv_at hl 0 rfl) ?_
            exact hret (nI b.1) u56 _ _ 61 ls hX (⟨pm_wr (pm_wr (pm_opn b v1) b.1 i1 (b.2.2 v1 j1)) b.1 j1 (b.2.2 v1 i1), by unfold sp_exchange; rw [pm_clN (by omega), pm_clN (by omega), pm_clN (by omega)]; exact sp_mk_4 hv ⟨hi, hj⟩ (by omega), hw56⟩) (rfl) dX1_exchange_61
      · have hj := hw20.1.yes c23
        refine lv_bipush (v := (-2)) hx hb dX1_exchange_26 (by decide) ?_
        exact hret (-2) u _ _ 28 ls hX (⟨b, sp_mk_2 hv (fun z => hj z.2), hI⟩) (rfl) dX1_exchange_28
  · have hv := hw2.1.yes c5
    refine lv_iconst (v := (-1)) hx hb dX1_exchange_8 (by decide) ?_
    exact hret (-1) u _ _ 9 ls hX (⟨b, sp_mk_1 hv, hI⟩) (rfl) dX1_exchange_9
end
section
/-! ===== the constructors ===== -/
def pm_ab0 : pm_AB := (1, fun _ => 0, fun _ _ => none)
abbrev pm_o0 (h0 : Nat) : va_W := [(h0, .inr (0, [.null, .null, .null, .null, .null, .null, .null, .null, .int 0, .int 0, .int 0, .int 0]))]
abbrev pm_o1 (h0 : Nat) : va_W := [(h0, .inr (1, [.int 0, .null, .null, .null]))]
theorem pm_R0_start {k : pm_K0} (h1 : k_fo k 0 = -1) (h2 : k_la k 0 = lN (2 ^ 60)) (h3 : k_cn k = nI 1) (h4 : k_es k = nI 0) (h5 : ∀ j, j < 32 → k_he k j = -1) : pm_Rc k pm_ab0 := by
  refine ⟨0, Nat.zero_le _, [0], fun _ => 0, fun _ => 2 ^ 60, fun _ => [], fun _ => 0, ?_, ?_, ?_, ?_⟩
  · exact ⟨⟨Nat.le_refl 1, by decide, h3⟩, fun v a1 a2 => by have a2 : v < 1 := a2; omega⟩
  · refine ⟨⟨rfl, h1⟩, List.Perm.refl _, List.pairwise_singleton _ _, List.pairwise_singleton _ _, fun v hv => ?_, fun _ _ _ _ _ => Nat.le_refl _, fun x y z hx hy hz _ _ h => ?_⟩
    · have hv : v < 1 := hv
      rw [show v = 0 by omega]; exact ⟨h2, by decide⟩
    · have hy : y < 1 := hy
      have hz : z < 1 := hz
      rw [show y = z by omega]; exact h
  · exact ⟨⟨Nat.zero_le _, h4⟩, fun key hk => ⟨h5 key hk, List.Pairwise.nil, fun e h => by cases h⟩, fun _ _ _ _ _ e h => by cases h⟩
  · intro w key _ _
    rfl
theorem pm_R1_start {u : pm_S1} (h1 : r_cn u = nI 1) (h2 : ∀ i, r_th u i = 0) : pm_R1 u pm_ab0 := by
  refine ⟨⟨Nat.le_refl 1, by decide, h1⟩, fun v a1 a2 => by have a2 : v < 1 := a2; omega, fun v key _ _ => ?_⟩
  rw [h2]
  exact ⟨Or.inl rfl, rfl⟩
set_option maxHeartbeats 4000000 in
set_option maxRecDepth 100000 in
theorem c0_init_b {p : Program} {l : Launch} {e : Env} {R : Room} {s : State} {m : MethodId} {args : Array Value} {below : List Frame} {meth : Method} {c : Code} {H : Heap} {locs : List Loc} {cells slots : Nat} {Q : State → Prop} {D : va_G} {A : Nat → Prop} {q : Nat → Nat} {a : Nat → ClassId} {ls : Array Slot} (F : CallFix p m c cX0_init 2 s args lw_all RX0)
    (hret : ∀ (u : pm_S0) (H : Heap) (locs : List Loc) (ls : Array Slot), pm_X D A s (pm_t0 a) (pm_w0 q a) u H locs → pm_Rc u.1 pm_ab0 → W p l e R s m args below meth c H locs cells slots Q (F0 m 121 ls []))
    (hX : pm_X D A s (pm_t0 a) (pm_w0 q a) (((fun _ => 0, fun _ => 0, fun _ => 0, fun _ => 0, fun _ => 0, fun _ => 0, fun _ => 0, fun _ => 0, 0, 0), 0, 0) : pm_S0) H locs) (hl : lv_has ls 2 [(0, .ref (q 0))]) : W p l e R s m args below meth c H locs cells slots Q (F0 m 72 ls []) := by
  have hx := F.1
  have hb := F.2.1
  refine lv_aload_n hx hb dX0_init_72 rfl (lv_at hl 0 rfl) ?_
  refine x0_gpa F hX dX0_init_73 ?_
  refine lv_iconst (v := nI 0) hx hb dX0_init_76 (by decide) ?_
  refine lv_iconst (v := (-1)) hx hb dX0_init_77 (by decide) ?_
  refine x0_spa F hX (by omega) dX0_init_78 (fun H locs hX => ?_)
  refine lv_aload_n hx hb dX0_init_79 rfl (lv_at hl 0 rfl) ?_
  refine x0_gfo F hX dX0_init_80 ?_
  refine lv_iconst (v := nI 0) hx hb dX0_init_83 (by decide) ?_
  refine lv_iconst (v := (-1)) hx hb dX0_init_84 (by decide) ?_
  refine x0_sfo F hX (by omega) dX0_init_85 (fun H locs hX => ?_)
  refine lv_aload_n hx hb dX0_init_86 rfl (lv_at hl 0 rfl) ?_
  refine x0_gla F hX dX0_init_87 ?_
  refine lv_iconst (v := nI 0) hx hb dX0_init_90 (by decide) ?_
  refine lv_ldc2 (v := 1152921504606846976) hx hb F.2.2.2.1 (F.2.2.2.2 _ q28) dX0_init_91 ?_
  refine pm_topl (y := lN (2 ^ 60)) (by decide) ?_
  refine x0_sla F hX (by omega) dX0_init_94 (fun H locs hX => ?_)
  refine lv_aload_n hx hb dX0_init_95 rfl (lv_at hl 0 rfl) ?_
  refine lv_iconst (v := nI 1) hx hb dX0_init_96 (by decide) ?_
  refine x0_pcn F hX dX0_init_97 (fun H locs hX => ?_)
  refine lv_iconst (v := nI 0) hx hb dX0_init_100 (by decide) ?_
  refine lv_istore_n (lv' := [(1, .int (nI 0)), (0, .ref (q 0))]) hx hb dX0_init_101 rfl hl (by decide) rfl (fun ls hl => ?_)
  generalize hu : (k_scn (k_sla (k_sfo (k_spa (((fun _ => 0, fun _ => 0, fun _ => 0, fun _ => 0, fun _ => 0, fun _ => 0, fun _ => 0, fun _ => 0, 0, 0), 0, 0) : pm_S0).1 (upd (k_pa (((fun _ => 0, fun _ => 0, fun _ => 0, fun _ => 0, fun _ => 0, fun _ => 0, fun _ => 0, fun _ => 0, 0, 0), 0, 0) : pm_S0).1) 0 (-1)), (((fun _ => 0, fun _ => 0, fun _ => 0, fun _ => 0, fun _ => 0, fun _ => 0, fun _ => 0, fun _ => 0, 0, 0), 0, 0) : pm_S0).2).1 (upd (k_fo (k_spa (((fun _ => 0, fun _ => 0, fun _ => 0, fun _ => 0, fun _ => 0, fun _ => 0, fun _ => 0, fun _ => 0, 0, 0), 0, 0) : pm_S0).1 (upd (k_pa (((fun _ => 0, fun _ => 0, fun _ => 0, fun _ => 0, fun _ => 0, fun _ => 0, fun _ => 0, fun _ => 0, 0, 0), 0, 0) : pm_S0).1) 0 (-1)), (((fun _ => 0, fun _ => 0, fun _ => 0, fun _ => 0, fun _ => 0, fun _ => 0, fun _ => 0, fun _ => 0, 0, 0), 0, 0) : pm_S0).2).1) 0 (-1)), (k_spa (((fun _ => 0, fun _ => 0, fun _ => 0, fun _ => 0, fun _ => 0, fun _ => 0, fun _ => 0, fun _ => 0, 0, 0), 0, 0) : pm_S0).1 (upd (k_pa (((fun _ => 0, fun _ => 0, fun _ => 0, fun _ => 0, fun _ => 0, fun _ => 0, fun _ => 0, fun _ => 0, 0, 0), 0, 0) : pm_S0).1) 0 (-1)), (((fun _ => 0, fun _ => 0, fun _ => 0, fun _ => 0, fun _ => 0, fun _ => 0, fun _ => 0, fun _ => 0, 0, 0), 0, 0) : pm_S0).2).2).1 (vp_updL (k_la (k_sfo (k_spa (((fun _ => 0, fun _ => 0, fun _ => 0, fun _ => 0, fun _ => 0, fun _ => 0, fun _ => 0, fun _ => 0, 0, 0), 0, 0) : pm_S0).1 (upd (k_pa (((fun _ => 0, fun _ => 0, fun _ => 0, fun _ => 0, fun _ => 0, fun _ => 0, fun _ => 0, fun _ => 0, 0, 0), 0, 0) : pm_S0).1) 0 (-1)), (((fun _ => 0, fun _ => 0, fun _ => 0, fun _ => 0, fun _ => 0, fun _ => 0, fun _ => 0, fun _ => 0, 0, 0), 0, 0) : pm_S0).2).1 (upd (k_fo (k_spa (((fun _ => 0, fun _ => 0, fun _ => 0, fun _ => 0, fun _ => 0, fun _ => 0, fun _ => 0, fun _ => 0, 0, 0), 0, 0) : pm_S0).1 (upd (k_pa (((fun _ => 0, fun _ => 0, fun _ => 0, fun _ => 0, fun _ => 0, fun _ => 0, fun _ => 0, fun _ => 0, 0, 0), 0, 0) : pm_S0).1) 0 (-1)), (((fun _ => 0, fun _ => 0, fun _ => 0, fun _ => 0, fun _ => 0, fun _ => 0, fun _ => 0, fun _ => 0, 0, 0), 0, 0) : pm_S0).2).1) 0 (-1)), (k_spa (((fun _ => 0, fun _ => 0, fun _ => 0, fun _ => 0, fun _ => 0, fun _ => 0, fun _ => 0, fun _ => 0, 0, 0), 0, 0) : pm_S0).1 (upd (k_pa (((fun _ => 0, fun _ => 0, fun _ => 0, fun _ => 0, fun _ => 0, fun _ => 0, fun _ => 0, fun _ => 0, 0, 0), 0, 0) : pm_S0).1) 0 (-1)), (((fun _ => 0, fun _ => 0, fun _ => 0, fun _ => 0, fun _ => 0, fun _ => 0, fun _ => 0, fun _ => 0, 0, 0), 0, 0) : pm_S0).2).2).1) 0 (lN (2 ^ 60))), (k_sfo (k_spa (((fun _ => 0, fun _ => 0, fun _ => 0, fun _ => 0, fun _ => 0, fun _ => 0, fun _ => 0, fun _ => 0, 0, 0), 0, 0) : pm_S0).1 (upd (k_pa (((fun _ => 0, fun _ => 0, fun _ => 0, fun _ => 0, fun _ => 0, fun _ => 0, fun _ => 0, fun _ => 0, 0, 0), 0, 0) : pm_S0).1) 0 (-1)), (((fun _ => 0, fun _ => 0, fun _ => 0, fun _ => 0, fun _ => 0, fun _ => 0, fun _ => 0, fun _ => 0, 0, 0), 0, 0) : pm_S0).2).1 (upd (k_fo (k_spa (((fun _ => 0, fun _ => 0, fun _ => 0, fun _ => 0, fun _ => 0, fun _ => 0, fun _ => 0, fun _ => 0, 0, 0), 0, 0) : pm_S0).1 (upd (k_pa (((fun _ => 0, fun _ => 0, fun _ => 0, fun _ => 0, fun _ => 0, fun _ => 0, fun _ => 0, fun _ => 0, 0, 0), 0, 0) : pm_S0).1) 0 (-1)), (((fun _ => 0, fun _ => 0, fun _ => 0, fun _ => 0, fun _ => 0, fun _ => 0, fun _ => 0, fun _ => 0, 0, 0), 0, 0) : pm_S0).2).1) 0 (-1)), (k_spa (((fun _ => 0, fun _ => 0, fun _ => 0, fun _ => 0, fun _ => 0, fun _ => 0, fun _ => 0, fun _ => 0, 0, 0), 0, 0) : pm_S0).1 (upd (k_pa (((fun _ => 0, fun _ => 0, fun _ => 0, fun _ => 0, fun _ => 0, fun _ => 0, fun _ => 0, fun _ => 0, 0, 0), 0, 0) : pm_S0).1) 0 (-1)), (((fun _ => 0, fun _ => 0, fun _ => 0, fun _ => 0, fun _ => 0, fun _ => 0, fun _ => 0, fun _ => 0, 0, 0), 0, 0) : pm_S0).2).2).2).1 (nI 1), (k_sla (k_sfo (k_spa (((fun _ => 0, fun _ => 0, fun _ => 0, fun _ => 0, fun _ => 0, fun _ => 0, fun _ => 0, fun _ => 0, 0, 0), 0, 0) : pm_S0).1 (upd (k_pa (((fun _ => 0, fun _ => 0, fun _ => 0, fun _ => 0, fun _ => 0, fun _ => 0, fun _ => 0, fun _ => 0, 0, 0), 0, 0) : pm_S0).1) 0 (-1)), (((fun _ => 0, fun _ => 0, fun _ => 0, fun _ => 0, fun _ => 0, fun _ => 0, fun _ => 0, fun _ => 0, 0, 0), 0, 0) : pm_S0).2).1 (upd (k_fo (k_spa (((fun _ => 0, fun _ => 0, fun _ => 0, fun _ => 0, fun _ => 0, fun _ => 0, fun _ => 0, fun _ => 0, 0, 0), 0, 0) : pm_S0).1 (upd (k_pa (((fun _ => 0, fun _ => 0, fun _ => 0, fun _ => 0, fun _ => 0, fun _ => 0, fun _ => 0, fun _ => 0, 0, 0), 0, 0) : pm_S0).1) 0 (-1)), (((fun _ => 0, fun _ => 0, fun _ => 0, fun _ => 0, fun _ => 0, fun _ => 0, fun _ => 0, fun _ => 0, 0, 0), 0, 0) : pm_S0).2).1) 0 (-1)), (k_spa (((fun _ => 0, fun _ => 0, fun _ => 0, fun _ => 0, fun _ => 0, fun _ => 0, fun _ => 0, fun _ => 0, 0, 0), 0, 0) : pm_S0).1 (upd (k_pa (((fun _ => 0, fun _ => 0, fun _ => 0, fun _ => 0, fun _ => 0, fun _ => 0, fun _ => 0, fun _ => 0, 0, 0), 0, 0) : pm_S0).1) 0 (-1)), (((fun _ => 0, fun _ => 0, fun _ => 0, fun _ => 0, fun _ => 0, fun _ => 0, fun _ => 0, fun _ => 0, 0, 0), 0, 0) : pm_S0).2).2).1 (vp_updL (k_la (k_sfo (k_spa (((fun _ => 0, fun _ => 0, fun _ => 0, fun _ => 0, fun _ => 0, fun _ => 0, fun _ => 0, fun _ => 0, 0, 0), 0, 0) : pm_S0).1 (upd (k_pa (((fun _ => 0, fun _ => 0, fun _ => 0, fun _ => 0, fun _ => 0, fun _ => 0, fun _ => 0, fun _ => 0, 0, 0), 0, 0) : pm_S0).1) 0 (-1)), (((fun _ => 0, fun _ => 0, fun _ => 0, fun _ => 0, fun _ => 0, fun _ => 0, fun _ => 0, fun _ => 0, 0, 0), 0, 0) : pm_S0).2).1 (upd (k_fo (k_spa (((fun _ => 0, fun _ => 0, fun _ => 0, fun _ => 0, fun _ => 0, fun _ => 0, fun _ => 0, fun _ => 0, 0, 0), 0, 0) : pm_S0).1 (upd (k_pa (((fun _ => 0, fun _ => 0, fun _ => 0, fun _ => 0, fun _ => 0, fun _ => 0, fun _ => 0, fun _ => 0, 0, 0), 0, 0) : pm_S0).1) 0 (-1)), (((fun _ => 0, fun _ => 0, fun _ => 0, fun _ => 0, fun _ => 0, fun _ => 0, fun _ => 0, fun _ => 0, 0, 0), 0, 0) : pm_S0).2).1) 0 (-1)), (k_spa (((fun _ => 0, fun _ => 0, fun _ => 0, fun _ => 0, fun _ => 0, fun _ => 0, fun _ => 0, fun _ => 0, 0, 0), 0, 0) : pm_S0).1 (upd (k_pa (((fun _ => 0, fun _ => 0, fun _ => 0, fun _ => 0, fun _ => 0, fun _ => 0, fun _ => 0, fun _ => 0, 0, 0), 0, 0) : pm_S0).1) 0 (-1)), (((fun _ => 0, fun _ => 0, fun _ => 0, fun _ => 0, fun _ => 0, fun _ => 0, fun _ => 0, fun _ => 0, 0, 0), 0, 0) : pm_S0).2).2).1) 0 (lN (2 ^ 60))), (k_sfo (k_spa (((fun _ => 0, fun _ => 0, fun _ => 0, fun _ => 0, fun _ => 0, fun _ => 0, fun _ => 0, fun _ => 0, 0, 0), 0, 0) : pm_S0).1 (upd (k_pa (((fun _ => 0, fun _ => 0, fun _ => 0, fun _ => 0, fun _ => 0, fun _ => 0, fun _ => 0, fun _ => 0, 0, 0), 0, 0) : pm_S0).1) 0 (-1)), (((fun _ => 0, fun _ => 0, fun _ => 0, fun _ => 0, fun _ => 0, fun _ => 0, fun _ => 0, fun _ => 0, 0, 0), 0, 0) : pm_S0).2).1 (upd (k_fo (k_spa (((fun _ => 0, fun _ => 0, fun _ => 0, fun _ => 0, fun _ => 0, fun _ => 0, fun _ => 0, fun _ => 0, 0, 0), 0, 0) : pm_S0).1 (upd (k_pa (((fun _ => 0, fun _ => 0, fun _ => 0, fun _ => 0, fun _ => 0, fun _ => 0, fun _ => 0, fun _ => 0, 0, 0), 0, 0) : pm_S0).1) 0 (-1)), (((fun _ => 0, fun _ => 0, fun _ => 0, fun _ => 0, fun _ => 0, fun _ => 0, fun _ => 0, fun _ => 0, 0, 0), 0, 0) : pm_S0).2).1) 0 (-1)), (k_spa (((fun _ => 0, fun _ => 0, fun _ => 0, fun _ => 0, fun _ => 0, fun _ => 0, fun _ => 0, fun _ => 0, 0, 0), 0, 0) : pm_S0).1 (upd (k_pa (((fun _ => 0, fun _ => 0, fun _ => 0, fun _ => 0, fun _ => 0, fun _ => 0, fun _ => 0, fun _ => 0, 0, 0), 0, 0) : pm_S0).1) 0 (-1)), (((fun _ => 0, fun _ => 0, fun _ => 0, fun _ => 0, fun _ => 0, fun _ => 0, fun _ => 0, fun _ => 0, 0, 0), 0, 0) : pm_S0).2).2).2).2) = u at hX
  have g1 : k_fo u.1 0 = -1 := by rw [← hu]; show upd (fun _ => 0) 0 (-1) 0 = -1; exact pk_us
  have g2 : k_la u.1 0 = lN (2 ^ 60) := by rw [← hu]; show vp_updL (fun _ => 0) 0 (lN (2 ^ 60)) 0 = lN (2 ^ 60); exact pk_uLs
  have g3 : k_cn u.1 = nI 1 := by rw [← hu]
  have g4 : k_es u.1 = nI 0 := by rw [← hu]; rfl
  have loop : ∀ (N k : Nat) (he : Nat → Int32) (H : Heap) (locs : List Loc) (ls : Array Slot), k + N = 32 → (∀ j, j < k → he j = -1) → pm_X D A s (pm_t0 a) (pm_w0 q a) (k_she u.1 he, u.2) H locs → lv_has ls 2 [(1, .int (nI k)), (0, .ref (q 0))] → W p l e R s m args below meth c H locs cells slots Q (F0 m 102 ls []) := by
    intro N
    induction N with
    | zero =>
      intro k he H locs ls hk hj hX hl
      refine lv_iload_n hx hb dX0_init_102 rfl (lv_at hl 0 rfl) ?_
      refine lv_bipush (v := nI 32) hx hb dX0_init_103 (by decide) ?_
      refine lv_icmp_ge (tgt := 121) hx hb dX0_init_105 (by decide) (fun c105 => ?_) (fun c105 => ?_)
      · exact hret _ _ _ ls hX (pm_R0_start g1 g2 g3 g4 (fun j h => hj j (by omega)))
      · exact absurd (nI_le (by omega) (by omega)) c105
    | succ N ih =>
      intro k he H locs ls hk hj hX hl
      refine lv_iload_n hx hb dX0_init_102 rfl (lv_at hl 0 rfl) ?_
      refine lv_bipush (v := nI 32) hx hb dX0_init_103 (by decide) ?_
      refine lv_icmp_ge (tgt := 121) hx hb dX0_init_105 (by decide) (fun c105 => ?_) (fun c105 => ?_)
      · exact absurd c105 (nI_ge (by omega) (by omega))
      · refine lv_aload_n hx hb dX0_init_108 rfl (lv_at hl 1 rfl) ?_
        refine x0_ghe F hX dX0_init_109 ?_
        refine lv_iload_n hx hb dX0_init_112 rfl (lv_at hl 0 rfl) ?_
        refine lv_iconst (v := (-1)) hx hb dX0_init_113 (by decide) ?_
        refine x0_she F hX (by omega) dX0_init_114 (fun H locs hX => ?_)
        refine lv_iinc (v := nI (k + 1)) (lv' := [(1, .int (nI (k + 1))), (0, .ref (q 0))]) hx hb dX0_init_115 hl (k := 0) rfl (nI_1 k) (by decide) rfl (fun ls hl => ?_)
        refine lv_goto (tgt := 102) hx hb dX0_init_118 (by decide) ?_
        refine ih (k + 1) (upd he k (-1)) _ _ ls (by omega) ?_ hX (lv_sub hl [0, 1] rfl)
        intro j hj2
        by_cases z : j = k
        · rw [z]; exact pk_us
        · rw [pk_un z]; exact hj j (by omega)
  exact loop 32 0 (k_he u.1) _ _ ls (by omega) (fun j h => by omega) hX (lv_sub hl [0, 1] rfl)

set_option maxHeartbeats 4000000 in
set_option maxRecDepth 100000 in
theorem c0_init (l : Launch) (D : va_G) (h0 sz : Nat) : Met l yX0_init (ws_ yX0_init cX0_init 2 none) ({ frames := 1, cells := 8, slots := 2712, locals := 32 }) (va_Pc [.ref h0] (fun U => U.heap.size = sz ∧ va_P D pm_cl (pm_o0 h0) U.heap ∧ va_K D pm_cl [] U ∧ va_D (fun _ => True) (pm_o0 h0)))
    (va_Qv (fun x : (Nat → Nat) × (Nat → ClassId) × pm_S0 => x.1 0 = h0 ∧ pm_Rc x.2.2.1 pm_ab0) (fun x t => va_P D pm_cl (pm_w0 x.1 x.2.1 x.2.2) t.heap ∧ va_K D pm_cl (pm_t0 x.2.1) t ∧ va_D (va_A (pm_o0 h0) sz) (pm_w0 x.1 x.2.1 x.2.2)) (va_A (pm_o0 h0) sz)) 8 2712 (va_A (pm_o0 h0) sz) := by
  refine Met.ofW (cc := cX0_init) (maxL := 2) (ret := none) (by decide) rfl ?_
  intro p e s m args below meth c s₁ B hml hv
  obtain ⟨rfl, hsz, hP, hK, hD0⟩ := hv
  have hx := B.exec
  have hb := B.bytes
  have hr := B.returns
  have hts := atoms_spec (ws := ws_ yX0_init cX0_init 2 none) B.pre
  have hts : ∀ w ∈ lw_all, w.before _ s = true := fun w h => hts w (List.mem_cons_of_mem _ h)
  have hown : s.vm.findClass RX0 = some m.cls := findClass_of_methodNamed B.named
  have hlocks := B.notSynchronized
  have hin : meth.name = "<init>" := (name_of_methodNamed B.named B.method).1
  subst hsz
  have hD := hD0.self (sz := s.heap.size)
  generalize hAe : va_A (pm_o0 h0) s.heap.size = A at hD ⊢
  have hA : ∀ q : Nat, s.heap.size ≤ q → A q := fun q h => by rw [← hAe]; exact Or.inr h
  have hS : va_S A s.heap s.heap [] := va_S.rf
  have hl := lv_entry ([.ref h0]) (n := 2) (Nat.le_of_ble_eq_true rfl)
  rw [lg_entry_eq]
  generalize (lg_sl ([.ref h0]) ++ List.replicate (2 - (lg_sl ([.ref h0])).length) Slot.unset).toArray = ls at hl ⊢
  have hl : lv_has ls 2 [(0, .ref h0)] := hl
  refine lv_aload_n hx hb dX0_init_0 rfl (lv_at hl 0 rfl) ?_
  refine W.objInit hx hb hown (hts _ q25) (hts _ q26) (hts _ q27) rfl (by rw [hml]; exact hl.1) rfl dX0_init_1 (Nat.le_of_ble_eq_true rfl) (Nat.le_of_ble_eq_true rfl) ?_
  refine W.eq (g2 := F0 m 4 ls []) rfl ?_
  refine lv_aload_n hx hb dX0_init_4 rfl (lv_at hl 0 rfl) ?_
  refine lv_bipush (v := 40) hx hb dX0_init_5 (by decide) ?_
  refine va_newa (atype := .int) (ty := .int) (n := 40) (N' := 40) (a0 := (40, .inl (fun _ => 0))) hx hb (hts _ q66) rfl hK hP hD hS hA (fun _ => rfl) (by decide) (by decide) (by decide) (Nat.le_of_ble_eq_true rfl) (Nat.le_of_ble_eq_true rfl) dX0_init_7 (fun q1 cA1 H hK hP hD hS => ?_)
  have hP : va_P D pm_cl [(h0, .inr (0, [.null, .null, .null, .null, .null, .null, .null, .null, .int 0, .int 0, .int 0, .int 0])), (q1, .inl (cA1, 40, .inl (fun _ => 0)))] H := hP
  have hD : va_D A [(h0, .inr (0, [.null, .null, .null, .null, .null, .null, .null, .null, .int 0, .int 0, .int 0, .int 0])), (q1, .inl (cA1, 40, .inl (fun _ => 0)))] := hD
  have hK : va_K D pm_cl [(cA1, .int)] s := hK
  refine W.widen (k := 1) (n := 40) (Nat.le_of_ble_eq_true rfl) (Nat.le_of_ble_eq_true rfl) ?_
  refine va_putF (D := D) (ci := 0) (v := .ref q1) (ty := .array .int) (C := RX0) (T := TX0) (N := 12) hx hb hts in_X0 tyX0 tyX0_ok nmX0 hown hK hP hD hS 0 rfl rfl 0 (by decide) (hts _ q29) (fun _ h9 => h9) rfl hin rfl (by decide +kernel) rfl rfl (Nat.le_of_ble_eq_true rfl) dX0_init_9 (fun H locs hP hD hS => ?_)
  have hP : va_P D pm_cl [(h0, .inr (0, [.ref q1, .null, .null, .null, .null, .null, .null, .null, .int 0, .int 0, .int 0, .int 0])), (q1, .inl (cA1, 40, .inl (fun _ => 0)))] H := hP
  have hD : va_D A [(h0, .inr (0, [.ref q1, .null, .null, .null, .null, .null, .null, .null, .int 0, .int 0, .int 0, .int 0])), (q1, .inl (cA1, 40, .inl (fun _ => 0)))] := hD
  refine lv_aload_n hx hb dX0_init_12 rfl (lv_at hl 0 rfl) ?_
  refine lv_bipush (v := 40) hx hb dX0_init_13 (by decide) ?_
  refine va_newa (atype := .long) (ty := .long) (n := 40) (N' := 40) (a0 := (40, .inr (.inl (fun _ => 0)))) hx hb (hts _ q67) rfl hK hP hD hS hA (fun _ => rfl) (by decide) (by decide) (by decide) (Nat.le_of_ble_eq_true rfl) (Nat.le_of_ble_eq_true rfl) dX0_init_15 (fun q2 cA2 H hK hP hD hS => ?_)
  have hP : va_P D pm_cl [(h0, .inr (0, [.ref q1, .null, .null, .null, .null, .null, .null, .null, .int 0, .int 0, .int 0, .int 0])), (q1, .inl (cA1, 40, .inl (fun _ => 0))), (q2, .inl (cA2, 40, .inr (.inl (fun _ => 0))))] H := hP
  have hD : va_D A [(h0, .inr (0, [.ref q1, .null, .null, .null, .null, .null, .null, .null, .int 0, .int 0, .int 0, .int 0])), (q1, .inl (cA1, 40, .inl (fun _ => 0))), (q2, .inl (cA2, 40, .inr (.inl (fun _ => 0))))] := hD
  have hK : va_K D pm_cl [(cA1, .int), (cA2, .long)] s := hK
  refine W.widen (k := 2) (n := 80) (Nat.le_of_ble_eq_true rfl) (Nat.le_of_ble_eq_true rfl) ?_
  refine va_putF (D := D) (ci := 0) (v := .ref q2) (ty := .array .long) (C := RX0) (T := TX0) (N := 12) hx hb hts in_X0 tyX0 tyX0_ok nmX0 hown hK hP hD hS 0 rfl rfl 1 (by decide) (hts _ q30) (fun _ h9 => h9) rfl hin rfl (by decide +kernel) rfl rfl (Nat.le_of_ble_eq_true rfl) dX0_init_17 (fun H locs hP hD hS => ?_)
  have hP : va_P D pm_cl [(h0, .inr (0, [.ref q1, .ref q2, .null, .null, .null, .null, .null, .null, .int 0, .int 0, .int 0, .int 0])), (q1, .inl (cA1, 40, .inl (fun _ => 0))), (q2, .inl (cA2, 40, .inr (.inl (fun _ => 0))))] H := hP
  have hD : va_D A [(h0, .inr (0, [.ref q1, .ref q2, .null, .null, .null, .null, .null, .null, .int 0, .int 0, .int 0, .int 0])), (q1, .inl (cA1, 40, .inl (fun _ => 0))), (q2, .inl (cA2, 40, .inr (.inl (fun _ => 0))))] := hD
  refine lv_aload_n hx hb dX0_init_20 rfl (lv_at hl 0 rfl) ?_
  refine lv_bipush (v := 40) hx hb dX0_init_21 (by decide) ?_
  refine va_newa (atype := .int) (ty := .int) (n := 40) (N' := 40) (a0 := (40, .inl (fun _ => 0))) hx hb (hts _ q66) rfl hK hP hD hS hA (fun _ => rfl) (by decide) (by decide) (by decide) (Nat.le_of_ble_eq_true rfl) (Nat.le_of_ble_eq_true rfl) dX0_init_23 (fun q3 cA3 H hK hP hD hS => ?_)
  have hP : va_P D pm_cl [(h0, .inr (0, [.ref q1, .ref q2, .null, .null, .null, .null, .null, .null, .int 0, .int 0, .int 0, .int 0])), (q1, .inl (cA1, 40, .inl (fun _ => 0))), (q2, .inl (cA2, 40, .inr (.inl (fun _ => 0)))), (q3, .inl (cA3, 40, .inl (fun _ => 0)))] H := hP
  have hD : va_D A [(h0, .inr (0, [.ref q1, .ref q2, .null, .null, .null, .null, .null, .null, .int 0, .int 0, .int 0, .int 0])), (q1, .inl (cA1, 40, .inl (fun _ => 0))), (q2, .inl (cA2, 40, .inr (.inl (fun _ => 0)))), (q3, .inl (cA3, 40, .inl (fun _ => 0)))] := hD
  have hK : va_K D pm_cl [(cA1, .int), (cA2, .long), (cA3, .int)] s := hK
  refine W.widen (k := 3) (n := 120) (Nat.le_of_ble_eq_true rfl) (Nat.le_of_ble_eq_true rfl) ?_
  refine va_putF (D := D) (ci := 0) (v := .ref q3) (ty := .array .int) (C := RX0) (T := TX0) (N := 12) hx hb hts in_X0 tyX0 tyX0_ok nmX0 hown hK hP hD hS 0 rfl rfl 2 (by decide) (hts _ q31) (fun _ h9 => h9) rfl hin rfl (by decide +kernel) rfl rfl (Nat.le_of_ble_eq_true rfl) dX0_init_25 (fun H locs hP hD hS => ?_)
  have hP : va_P D pm_cl [(h0, .inr (0, [.ref q1, .ref q2, .ref q3, .null, .null, .null, .null, .null, .int 0, .int 0, .int 0, .int 0])), (q1, .inl (cA1, 40, .inl (fun _ => 0))), (q2, .inl (cA2, 40, .inr (.inl (fun _ => 0)))), (q3, .inl (cA3, 40, .inl (fun _ => 0)))] H := hP
  have hD : va_D A [(h0, .inr (0, [.ref q1, .ref q2, .ref q3, .null, .null, .null, .null, .null, .int 0, .int 0, .int 0, .int 0])), (q1, .inl (cA1, 40, .inl (fun _ => 0))), (q2, .inl (cA2, 40, .inr (.inl (fun _ => 0)))), (q3, .inl (cA3, 40, .inl (fun _ => 0)))] := hD
  refine lv_aload_n hx hb dX0_init_28 rfl (lv_at hl 0 rfl) ?_
  refine lv_bipush (v := 32) hx hb dX0_init_29 (by decide) ?_
  refine va_newa (atype := .int) (ty := .int) (n := 32) (N' := 32) (a0 := (32, .inl (fun _ => 0))) hx hb (hts _ q66) rfl hK hP hD hS hA (fun _ => rfl) (by decide) (by decide) (by decide) (Nat.le_of_ble_eq_true rfl) (Nat.le_of_ble_eq_true rfl) dX0_init_31 (fun q4 cA4 H hK hP hD hS => ?_)
  have hP : va_P D pm_cl [(h0, .inr (0, [.ref q1, .ref q2, .ref q3, .null, .null, .null, .null, .null, .int 0, .int 0, .int 0, .int 0])), (q1, .inl (cA1, 40, .inl (fun _ => 0))), (q2, .inl (cA2, 40, .inr (.inl (fun _ => 0)))), (q3, .inl (cA3, 40, .inl (fun _ => 0))), (q4, .inl (cA4, 32, .inl (fun _ => 0)))] H := hP
  have hD : va_D A [(h0, .inr (0, [.ref q1, .ref q2, .ref q3, .null, .null, .null, .null, .null, .int 0, .int 0, .int 0, .int 0])), (q1, .inl (cA1, 40, .inl (fun _ => 0))), (q2, .inl (cA2, 40, .inr (.inl (fun _ => 0)))), (q3, .inl (cA3, 40, .inl (fun _ => 0))), (q4, .inl (cA4, 32, .inl (fun _ => 0)))] := hD
  have hK : va_K D pm_cl [(cA1, .int), (cA2, .long), (cA3, .int), (cA4, .int)] s := hK
  refine W.widen (k := 4) (n := 152) (Nat.le_of_ble_eq_true rfl) (Nat.le_of_ble_eq_true rfl) ?_
  refine va_putF (D := D) (ci := 0) (v := .ref q4) (ty := .array .int) (C := RX0) (T := TX0) (N := 12) hx hb hts in_X0 tyX0 tyX0_ok nmX0 hown hK hP hD hS 0 rfl rfl 3 (by decide) (hts _ q32) (fun _ h9 => h9) rfl hin rfl (by decide +kernel) rfl rfl (Nat.le_of_ble_eq_true rfl) dX0_init_33 (fun H locs hP hD hS => ?_)
  have hP : va_P D pm_cl [(h0, .inr (0, [.ref q1, .ref q2, .ref q3, .ref q4, .null, .null, .null, .null, .int 0, .int 0, .int 0, .int 0])), (q1, .inl (cA1, 40, .inl (fun _ => 0))), (q2, .inl (cA2, 40, .inr (.inl (fun _ => 0)))), (q3, .inl (cA3, 40, .inl (fun _ => 0))), (q4, .inl (cA4, 32, .inl (fun _ => 0)))] H := hP
  have hD : va_D A [(h0, .inr (0, [.ref q1, .ref q2, .ref q3, .ref q4, .null, .null, .null, .null, .int 0, .int 0, .int 0, .int 0])), (q1, .inl (cA1, 40, .inl (fun _ => 0))), (q2, .inl (cA2, 40, .inr (.inl (fun _ => 0)))), (q3, .inl (cA3, 40, .inl (fun _ => 0))), (q4, .inl (cA4, 32, .inl (fun _ => 0)))] := hD
  refine lv_aload_n hx hb dX0_init_36 rfl (lv_at hl 0 rfl) ?_
  refine lv_sipush (v := 640) hx hb dX0_init_37 (by decide) ?_
  refine va_newa (atype := .int) (ty := .int) (n := 640) (N' := 640) (a0 := (640, .inl (fun _ => 0))) hx hb (hts _ q66) rfl hK hP hD hS hA (fun _ => rfl) (by decide) (by decide) (by decide) (Nat.le_of_ble_eq_true rfl) (Nat.le_of_ble_eq_true rfl) dX0_init_40 (fun q5 cA5 H hK hP hD hS => ?_)
  have hP : va_P D pm_cl [(h0, .inr (0, [.ref q1, .ref q2, .ref q3, .ref q4, .null, .null, .null, .null, .int 0, .int 0, .int 0, .int 0])), (q1, .inl (cA1, 40, .inl (fun _ => 0))), (q2, .inl (cA2, 40, .inr (.inl (fun _ => 0)))), (q3, .inl (cA3, 40, .inl (fun _ => 0))), (q4, .inl (cA4, 32, .inl (fun _ => 0))), (q5, .inl (cA5, 640, .inl (fun _ => 0)))] H := hP
  have hD : va_D A [(h0, .inr (0, [.ref q1, .ref q2, .ref q3, .ref q4, .null, .null, .null, .null, .int 0, .int 0, .int 0, .int 0])), (q1, .inl (cA1, 40, .inl (fun _ => 0))), (q2, .inl (cA2, 40, .inr (.inl (fun _ => 0)))), (q3, .inl (cA3, 40, .inl (fun _ => 0))), (q4, .inl (cA4, 32, .inl (fun _ => 0))), (q5, .inl (cA5, 640, .inl (fun _ => 0)))] := hD
  have hK : va_K D pm_cl [(cA1, .int), (cA2, .long), (cA3, .int), (cA4, .int), (cA5, .int)] s := hK
  refine W.widen (k := 5) (n := 792) (Nat.le_of_ble_eq_true rfl) (Nat.le_of_ble_eq_true rfl) ?_
  refine va_putF (D := D) (ci := 0) (v := .ref q5) (ty := .array .int) (C := RX0) (T := TX0) (N := 12) hx hb hts in_X0 tyX0 tyX0_ok nmX0 hown hK hP hD hS 0 rfl rfl 4 (by decide) (hts _ q33) (fun _ h9 => h9) rfl hin rfl (by decide +kernel) rfl rfl (Nat.le_of_ble_eq_true rfl) dX0_init_42 (fun H locs hP hD hS => ?_)
  have hP : va_P D pm_cl [(h0, .inr (0, [.ref q1, .ref q2, .ref q3, .ref q4, .ref q5, .null, .null, .null, .int 0, .int 0, .int 0, .int 0])), (q1, .inl (cA1, 40, .inl (fun _ => 0))), (q2, .inl (cA2, 40, .inr (.inl (fun _ => 0)))), (q3, .inl (cA3, 40, .inl (fun _ => 0))), (q4, .inl (cA4, 32, .inl (fun _ => 0))), (q5, .inl (cA5, 640, .inl (fun _ => 0)))] H := hP
  have hD : va_D A [(h0, .inr (0, [.ref q1, .ref q2, .ref q3, .ref q4, .ref q5, .null, .null, .null, .int 0, .int 0, .int 0, .int 0])), (q1, .inl (cA1, 40, .inl (fun _ => 0))), (q2, .inl (cA2, 40, .inr (.inl (fun _ => 0)))), (q3, .inl (cA3, 40, .inl (fun _ => 0))), (q4, .inl (cA4, 32, .inl (fun _ => 0))), (q5, .inl (cA5, 640, .inl (fun _ => 0)))] := hD
  refine lv_aload_n hx hb dX0_init_45 rfl (lv_at hl 0 rfl) ?_
  refine lv_sipush (v := 640) hx hb dX0_init_46 (by decide) ?_
  refine va_newa (atype := .int) (ty := .int) (n := 640) (N' := 640) (a0 := (640, .inl (fun _ => 0))) hx hb (hts _ q66) rfl hK hP hD hS hA (fun _ => rfl) (by decide) (by decide) (by decide) (Nat.le_of_ble_eq_true rfl) (Nat.le_of_ble_eq_true rfl) dX0_init_49 (fun q6 cA6 H hK hP hD hS => ?_)
  have hP : va_P D pm_cl [(h0, .inr (0, [.ref q1, .ref q2, .ref q3, .ref q4, .ref q5, .null, .null, .null, .int 0, .int 0, .int 0, .int 0])), (q1, .inl (cA1, 40, .inl (fun _ => 0))), (q2, .inl (cA2, 40, .inr (.inl (fun _ => 0)))), (q3, .inl (cA3, 40, .inl (fun _ => 0))), (q4, .inl (cA4, 32, .inl (fun _ => 0))), (q5, .inl (cA5, 640, .inl (fun _ => 0))), (q6, .inl (cA6, 640, .inl (fun _ => 0)))] H := hP
  have hD : va_D A [(h0, .inr (0, [.ref q1, .ref q2, .ref q3, .ref q4, .ref q5, .null, .null, .null, .int 0, .int 0, .int 0, .int 0])), (q1, .inl (cA1, 40, .inl (fun _ => 0))), (q2, .inl (cA2, 40, .inr (.inl (fun _ => 0)))), (q3, .inl (cA3, 40, .inl (fun _ => 0))), (q4, .inl (cA4, 32, .inl (fun _ => 0))), (q5, .inl (cA5, 640, .inl (fun _ => 0))), (q6, .inl (cA6, 640, .inl (fun _ => 0)))] := hD
  have hK : va_K D pm_cl [(cA1, .int), (cA2, .long), (cA3, .int), (cA4, .int), (cA5, .int), (cA6, .int)] s := hK
  refine W.widen (k := 6) (n := 1432) (Nat.le_of_ble_eq_true rfl) (Nat.le_of_ble_eq_true rfl) ?_
  refine va_putF (D := D) (ci := 0) (v := .ref q6) (ty := .array .int) (C := RX0) (T := TX0) (N := 12) hx hb hts in_X0 tyX0 tyX0_ok nmX0 hown hK hP hD hS 0 rfl rfl 5 (by decide) (hts _ q34) (fun _ h9 => h9) rfl hin rfl (by decide +kernel) rfl rfl (Nat.le_of_ble_eq_true rfl) dX0_init_51 (fun H locs hP hD hS => ?_)
  have hP : va_P D pm_cl [(h0, .inr (0, [.ref q1, .ref q2, .ref q3, .ref q4, .ref q5, .ref q6, .null, .null, .int 0, .int 0, .int 0, .int 0])), (q1, .inl (cA1, 40, .inl (fun _ => 0))), (q2, .inl (cA2, 40, .inr (.inl (fun _ => 0)))), (q3, .inl (cA3, 40, .inl (fun _ => 0))), (q4, .inl (cA4, 32, .inl (fun _ => 0))), (q5, .inl (cA5, 640, .inl (fun _ => 0))), (q6, .inl (cA6, 640, .inl (fun _ => 0)))] H := hP
  have hD : va_D A [(h0, .inr (0, [.ref q1, .ref q2, .ref q3, .ref q4, .ref q5, .ref q6, .null, .null, .int 0, .int 0, .int 0, .int 0])), (q1, .inl (cA1, 40, .inl (fun _ => 0))), (q2, .inl (cA2, 40, .inr (.inl (fun _ => 0)))), (q3, .inl (cA3, 40, .inl (fun _ => 0))), (q4, .inl (cA4, 32, .inl (fun _ => 0))), (q5, .inl (cA5, 640, .inl (fun _ => 0))), (q6, .inl (cA6, 640, .inl (fun _ => 0)))] := hD
  refine lv_aload_n hx hb dX0_init_54 rfl (lv_at hl 0 rfl) ?_
  refine lv_sipush (v := 640) hx hb dX0_init_55 (by decide) ?_
  refine va_newa (atype := .boolean) (ty := .boolean) (n := 640) (N' := 640) (a0 := (640, .inl (fun _ => 0))) hx hb (hts _ q68) rfl hK hP hD hS hA (fun _ => rfl) (by decide) (by decide) (by decide) (Nat.le_of_ble_eq_true rfl) (Nat.le_of_ble_eq_true rfl) dX0_init_58 (fun q7 cA7 H hK hP hD hS => ?_)
  have hP : va_P D pm_cl [(h0, .inr (0, [.ref q1, .ref q2, .ref q3, .ref q4, .ref q5, .ref q6, .null, .null, .int 0, .int 0, .int 0, .int 0])), (q1, .inl (cA1, 40, .inl (fun _ => 0))), (q2, .inl (cA2, 40, .inr (.inl (fun _ => 0)))), (q3, .inl (cA3, 40, .inl (fun _ => 0))), (q4, .inl (cA4, 32, .inl (fun _ => 0))), (q5, .inl (cA5, 640, .inl (fun _ => 0))), (q6, .inl (cA6, 640, .inl (fun _ => 0))), (q7, .inl (cA7, 640, .inl (fun _ => 0)))] H := hP
  have hD : va_D A [(h0, .inr (0, [.ref q1, .ref q2, .ref q3, .ref q4, .ref q5, .ref q6, .null, .null, .int 0, .int 0, .int 0, .int 0])), (q1, .inl (cA1, 40, .inl (fun _ => 0))), (q2, .inl (cA2, 40, .inr (.inl (fun _ => 0)))), (q3, .inl (cA3, 40, .inl (fun _ => 0))), (q4, .inl (cA4, 32, .inl (fun _ => 0))), (q5, .inl (cA5, 640, .inl (fun _ => 0))), (q6, .inl (cA6, 640, .inl (fun _ => 0))), (q7, .inl (cA7, 640, .inl (fun _ => 0)))] := hD
  have hK : va_K D pm_cl [(cA1, .int), (cA2, .long), (cA3, .int), (cA4, .int), (cA5, .int), (cA6, .int), (cA7, .boolean)] s := hK
  refine W.widen (k := 7) (n := 2072) (Nat.le_of_ble_eq_true rfl) (Nat.le_of_ble_eq_true rfl) ?_
  refine va_putF (D := D) (ci := 0) (v := .ref q7) (ty := .array .boolean) (C := RX0) (T := TX0) (N := 12) hx hb hts in_X0 tyX0 tyX0_ok nmX0 hown hK hP hD hS 0 rfl rfl 6 (by decide) (hts _ q35) (fun _ h9 => h9) rfl hin rfl (by decide +kernel) rfl rfl (Nat.le_of_ble_eq_true rfl) dX0_init_60 (fun H locs hP hD hS => ?_)
  have hP : va_P D pm_cl [(h0, .inr (0, [.ref q1, .ref q2, .ref q3, .ref q4, .ref q5, .ref q6, .ref q7, .null, .int 0, .int 0, .int 0, .int 0])), (q1, .inl (cA1, 40, .inl (fun _ => 0))), (q2, .inl (cA2, 40, .inr (.inl (fun _ => 0)))), (q3, .inl (cA3, 40, .inl (fun _ => 0))), (q4, .inl (cA4, 32, .inl (fun _ => 0))), (q5, .inl (cA5, 640, .inl (fun _ => 0))), (q6, .inl (cA6, 640, .inl (fun _ => 0))), (q7, .inl (cA7, 640, .inl (fun _ => 0)))] H := hP
  have hD : va_D A [(h0, .inr (0, [.ref q1, .ref q2, .ref q3, .ref q4, .ref q5, .ref q6, .ref q7, .null, .int 0, .int 0, .int 0, .int 0])), (q1, .inl (cA1, 40, .inl (fun _ => 0))), (q2, .inl (cA2, 40, .inr (.inl (fun _ => 0)))), (q3, .inl (cA3, 40, .inl (fun _ => 0))), (q4, .inl (cA4, 32, .inl (fun _ => 0))), (q5, .inl (cA5, 640, .inl (fun _ => 0))), (q6, .inl (cA6, 640, .inl (fun _ => 0))), (q7, .inl (cA7, 640, .inl (fun _ => 0)))] := hD
  refine lv_aload_n hx hb dX0_init_63 rfl (lv_at hl 0 rfl) ?_
  refine lv_sipush (v := 640) hx hb dX0_init_64 (by decide) ?_
  refine va_newa (atype := .int) (ty := .int) (n := 640) (N' := 640) (a0 := (640, .inl (fun _ => 0))) hx hb (hts _ q66) rfl hK hP hD hS hA (fun _ => rfl) (by decide) (by decide) (by decide) (Nat.le_of_ble_eq_true rfl) (Nat.le_of_ble_eq_true rfl) dX0_init_67 (fun q8 cA8 H hK hP hD hS => ?_)
  have hP : va_P D pm_cl [(h0, .inr (0, [.ref q1, .ref q2, .ref q3, .ref q4, .ref q5, .ref q6, .ref q7, .null, .int 0, .int 0, .int 0, .int 0])), (q1, .inl (cA1, 40, .inl (fun _ => 0))), (q2, .inl (cA2, 40, .inr (.inl (fun _ => 0)))), (q3, .inl (cA3, 40, .inl (fun _ => 0))), (q4, .inl (cA4, 32, .inl (fun _ => 0))), (q5, .inl (cA5, 640, .inl (fun _ => 0))), (q6, .inl (cA6, 640, .inl (fun _ => 0))), (q7, .inl (cA7, 640, .inl (fun _ => 0))), (q8, .inl (cA8, 640, .inl (fun _ => 0)))] H := hP
  have hD : va_D A [(h0, .inr (0, [.ref q1, .ref q2, .ref q3, .ref q4, .ref q5, .ref q6, .ref q7, .null, .int 0, .int 0, .int 0, .int 0])), (q1, .inl (cA1, 40, .inl (fun _ => 0))), (q2, .inl (cA2, 40, .inr (.inl (fun _ => 0)))), (q3, .inl (cA3, 40, .inl (fun _ => 0))), (q4, .inl (cA4, 32, .inl (fun _ => 0))), (q5, .inl (cA5, 640, .inl (fun _ => 0))), (q6, .inl (cA6, 640, .inl (fun _ => 0))), (q7, .inl (cA7, 640, .inl (fun _ => 0))), (q8, .inl (cA8, 640, .inl (fun _ => 0)))] := hD
  have hK : va_K D pm_cl [(cA1, .int), (cA2, .long), (cA3, .int), (cA4, .int), (cA5, .int), (cA6, .int), (cA7, .boolean), (cA8, .int)] s := hK
  refine W.widen (k := 8) (n := 2712) (Nat.le_of_ble_eq_true rfl) (Nat.le_of_ble_eq_true rfl) ?_
  refine va_putF (D := D) (ci := 0) (v := .ref q8) (ty := .array .int) (C := RX0) (T := TX0) (N := 12) hx hb hts in_X0 tyX0 tyX0_ok nmX0 hown hK hP hD hS 0 rfl rfl 7 (by decide) (hts _ q36) (fun _ h9 => h9) rfl hin rfl (by decide +kernel) rfl rfl (Nat.le_of_ble_eq_true rfl) dX0_init_69 (fun H locs hP hD hS => ?_)
  have hP : va_P D pm_cl [(h0, .inr (0, [.ref q1, .ref q2, .ref q3, .ref q4, .ref q5, .ref q6, .ref q7, .ref q8, .int 0, .int 0, .int 0, .int 0])), (q1, .inl (cA1, 40, .inl (fun _ => 0))), (q2, .inl (cA2, 40, .inr (.inl (fun _ => 0)))), (q3, .inl (cA3, 40, .inl (fun _ => 0))), (q4, .inl (cA4, 32, .inl (fun _ => 0))), (q5, .inl (cA5, 640, .inl (fun _ => 0))), (q6, .inl (cA6, 640, .inl (fun _ => 0))), (q7, .inl (cA7, 640, .inl (fun _ => 0))), (q8, .inl (cA8, 640, .inl (fun _ => 0)))] H := hP
  have hD : va_D A [(h0, .inr (0, [.ref q1, .ref q2, .ref q3, .ref q4, .ref q5, .ref q6, .ref q7, .ref q8, .int 0, .int 0, .int 0, .int 0])), (q1, .inl (cA1, 40, .inl (fun _ => 0))), (q2, .inl (cA2, 40, .inr (.inl (fun _ => 0)))), (q3, .inl (cA3, 40, .inl (fun _ => 0))), (q4, .inl (cA4, 32, .inl (fun _ => 0))), (q5, .inl (cA5, 640, .inl (fun _ => 0))), (q6, .inl (cA6, 640, .inl (fun _ => 0))), (q7, .inl (cA7, 640, .inl (fun _ => 0))), (q8, .inl (cA8, 640, .inl (fun _ => 0)))] := hD
  obtain ⟨q, hq0, a, hX⟩ : ∃ q : Nat → Nat, q 0 = h0 ∧ ∃ a : Nat → ClassId, pm_X D A s (pm_t0 a) (pm_w0 q a) (((fun _ => 0, fun _ => 0, fun _ => 0, fun _ => 0, fun _ => 0, fun _ => 0, fun _ => 0, fun _ => 0, 0, 0), 0, 0) : pm_S0) H locs := ⟨fun k => match k with | 0 => h0 | 1 => q1 | 2 => q2 | 3 => q3 | 4 => q4 | 5 => q5 | 6 => q6 | 7 => q7 | _ => q8, rfl, fun k => match k with | 1 => cA1 | 2 => cA2 | 3 => cA3 | 4 => cA4 | 5 => cA5 | 6 => cA6 | 7 => cA7 | _ => cA8, hK, hP, hD, hS⟩
  subst hq0
  have F : CallFix p m c cX0_init 2 s _ lw_all RX0 := ⟨hx, hb, hml, hown, hts⟩
  refine c0_init_b F (fun u H locs ls hX hR => ?_) hX hl
  obtain ⟨hK, hP, hD, hS⟩ := hX
  exact W.vret hx hb hr (fun t ht hW => ⟨⟨(q, a, u), rfl, ⟨rfl, hR⟩, by rw [ht]; exact hP, va_K.moved hW.alike hK, hD⟩, hS.F ht⟩) hS.2.2 dX0_init_121

set_option maxHeartbeats 4000000 in
set_option maxRecDepth 100000 in
theorem c1_init (l : Launch) (D : va_G) (h0 sz : Nat) : Met l yX1_init (ws_ yX1_init cX1_init 1 none) ({ frames := 1, cells := 3, slots := 2600, locals := 32 }) (va_Pc [.ref h0] (fun U => U.heap.size = sz ∧ va_P D pm_cl (pm_o1 h0) U.heap ∧ va_K D pm_cl [] U ∧ va_D (fun _ => True) (pm_o1 h0)))
    (va_Qv (fun x : (Nat → Nat) × (Nat → ClassId) × pm_S1 => x.1 0 = h0 ∧ pm_R1 x.2.2 pm_ab0) (fun x t => va_P D pm_cl (pm_w1 x.1 x.2.1 x.2.2) t.heap ∧ va_K D pm_cl (pm_t1 x.2.1) t ∧ va_D (va_A (pm_o1 h0) sz) (pm_w1 x.1 x.2.1 x.2.2)) (va_A (pm_o1 h0) sz)) 3 2600 (va_A (pm_o1 h0) sz) := by
  refine Met.ofW (cc := cX1_init) (maxL := 1) (ret := none) (by decide) rfl ?_
  intro p e s m args below meth c s₁ B hml hv
  obtain ⟨rfl, hsz, hP, hK, hD0⟩ := hv
  have hx := B.exec
  have hb := B.bytes
  have hr := B.returns
  have hts := atoms_spec (ws := ws_ yX1_init cX1_init 1 none) B.pre
  have hts : ∀ w ∈ lw_all, w.before _ s = true := fun w h => hts w (List.mem_cons_of_mem _ h)
  have hown : s.vm.findClass RX1 = some m.cls := findClass_of_methodNamed B.named
  have hlocks := B.notSynchronized
  have hin : meth.name = "<init>" := (name_of_methodNamed B.named B.method).1
  subst hsz
  have hD := hD0.self (sz := s.heap.size)
  generalize hAe : va_A (pm_o1 h0) s.heap.size = A at hD ⊢
  have hA : ∀ q : Nat, s.heap.size ≤ q → A q := fun q h => by rw [← hAe]; exact Or.inr h
  have hS : va_S A s.heap s.heap [] := va_S.rf
  have hl := lv_entry ([.ref h0]) (n := 1) (Nat.le_of_ble_eq_true rfl)
  rw [lg_entry_eq]
  generalize (lg_sl ([.ref h0]) ++ List.replicate (1 - (lg_sl ([.ref h0])).length) Slot.unset).toArray = ls at hl ⊢
  have hl : lv_has ls 1 [(0, .ref h0)] := hl
  refine lv_aload_n hx hb dX1_init_0 rfl (lv_at hl 0 rfl) ?_
  refine W.objInit hx hb hown (hts _ q199) (hts _ q26) (hts _ q27) rfl (by rw [hml]; exact hl.1) rfl dX1_init_1 (Nat.le_of_ble_eq_true rfl) (Nat.le_of_ble_eq_true rfl) ?_
  refine W.eq (g2 := F0 m 4 ls []) rfl ?_
  refine lv_aload_n hx hb dX1_init_4 rfl (lv_at hl 0 rfl) ?_
  refine lv_iconst (v := nI 1) hx hb dX1_init_5 (by decide) ?_
  refine va_put (D := D) (ci := 1) (v := .int (nI 1)) (ty := .int) (C := RX1) (T := TX1) (N := 4) hx hb hts in_X1 tyX1 tyX1_ok nmX1 hown hK hP hD hS 0 rfl rfl 0 (by decide) (hts _ q200) (fun _ h9 => h9) rfl (by decide +kernel) rfl rfl (Nat.le_of_ble_eq_true rfl) dX1_init_6 (fun H locs hP hD hS => ?_)
  have hP : va_P D pm_cl [(h0, .inr (1, [.int (nI 1), .null, .null, .null]))] H := hP
  have hD : va_D A [(h0, .inr (1, [.int (nI 1), .null, .null, .null]))] := hD
  refine lv_aload_n hx hb dX1_init_9 rfl (lv_at hl 0 rfl) ?_
  refine lv_bipush (v := 40) hx hb dX1_init_10 (by decide) ?_
  refine va_newa (atype := .int) (ty := .int) (n := 40) (N' := 40) (a0 := (40, .inl (fun _ => 0))) hx hb (hts _ q66) rfl hK hP hD hS hA (fun _ => rfl) (by decide) (by decide) (by decide) (Nat.le_of_ble_eq_true rfl) (Nat.le_of_ble_eq_true rfl) dX1_init_12 (fun q1 cA1 H hK hP hD hS => ?_)
  have hP : va_P D pm_cl [(h0, .inr (1, [.int (nI 1), .null, .null, .null])), (q1, .inl (cA1, 40, .inl (fun _ => 0)))] H := hP
  have hD : va_D A [(h0, .inr (1, [.int (nI 1), .null, .null, .null])), (q1, .inl (cA1, 40, .inl (fun _ => 0)))] := hD
  have hK : va_K D pm_cl [(cA1, .int)] s := hK
  refine W.widen (k := 1) (n := 40) (Nat.le_of_ble_eq_true rfl) (Nat.le_of_ble_eq_true rfl) ?_
  refine va_put (D := D) (ci := 1) (v := .ref q1) (ty := .array .int) (C := RX1) (T := TX1) (N := 4) hx hb hts in_X1 tyX1 tyX1_ok nmX1 hown hK hP hD hS 0 rfl rfl 1 (by decide) (hts _ q201) (fun _ h9 => h9) rfl (by decide +kernel) rfl rfl (Nat.le_of_ble_eq_true rfl) dX1_init_14 (fun H locs hP hD hS => ?_)
  have hP : va_P D pm_cl [(h0, .inr (1, [.int (nI 1), .ref q1, .null, .null])), (q1, .inl (cA1, 40, .inl (fun _ => 0)))] H := hP
  have hD : va_D A [(h0, .inr (1, [.int (nI 1), .ref q1, .null, .null])), (q1, .inl (cA1, 40, .inl (fun _ => 0)))] := hD
  refine lv_aload_n hx hb dX1_init_17 rfl (lv_at hl 0 rfl) ?_
  refine lv_sipush (v := 1280) hx hb dX1_init_18 (by decide) ?_
  refine va_newa (atype := .boolean) (ty := .boolean) (n := 1280) (N' := 1280) (a0 := (1280, .inl (fun _ => 0))) hx hb (hts _ q68) rfl hK hP hD hS hA (fun _ => rfl) (by decide) (by decide) (by decide) (Nat.le_of_ble_eq_true rfl) (Nat.le_of_ble_eq_true rfl) dX1_init_21 (fun q2 cA2 H hK hP hD hS => ?_)
  have hP : va_P D pm_cl [(h0, .inr (1, [.int (nI 1), .ref q1, .null, .null])), (q1, .inl (cA1, 40, .inl (fun _ => 0))), (q2, .inl (cA2, 1280, .inl (fun _ => 0)))] H := hP
  have hD : va_D A [(h0, .inr (1, [.int (nI 1), .ref q1, .null, .null])), (q1, .inl (cA1, 40, .inl (fun _ => 0))), (q2, .inl (cA2, 1280, .inl (fun _ => 0)))] := hD
  have hK : va_K D pm_cl [(cA1, .int), (cA2, .boolean)] s := hK
  refine W.widen (k := 2) (n := 1320) (Nat.le_of_ble_eq_true rfl) (Nat.le_of_ble_eq_true rfl) ?_
  refine va_put (D := D) (ci := 1) (v := .ref q2) (ty := .array .boolean) (C := RX1) (T := TX1) (N := 4) hx hb hts in_X1 tyX1 tyX1_ok nmX1 hown hK hP hD hS 0 rfl rfl 2 (by decide) (hts _ q202) (fun _ h9 => h9) rfl (by decide +kernel) rfl rfl (Nat.le_of_ble_eq_true rfl) dX1_init_23 (fun H locs hP hD hS => ?_)
  have hP : va_P D pm_cl [(h0, .inr (1, [.int (nI 1), .ref q1, .ref q2, .null])), (q1, .inl (cA1, 40, .inl (fun _ => 0))), (q2, .inl (cA2, 1280, .inl (fun _ => 0)))] H := hP
  have hD : va_D A [(h0, .inr (1, [.int (nI 1), .ref q1, .ref q2, .null])), (q1, .inl (cA1, 40, .inl (fun _ => 0))), (q2, .inl (cA2, 1280, .inl (fun _ => 0)))] := hD
  refine lv_aload_n hx hb dX1_init_26 rfl (lv_at hl 0 rfl) ?_
  refine lv_sipush (v := 1280) hx hb dX1_init_27 (by decide) ?_
  refine va_newa (atype := .int) (ty := .int) (n := 1280) (N' := 1280) (a0 := (1280, .inl (fun _ => 0))) hx hb (hts _ q66) rfl hK hP hD hS hA (fun _ => rfl) (by decide) (by decide) (by decide) (Nat.le_of_ble_eq_true rfl) (Nat.le_of_ble_eq_true rfl) dX1_init_30 (fun q3 cA3 H hK hP hD hS => ?_)
  have hP : va_P D pm_cl [(h0, .inr (1, [.int (nI 1), .ref q1, .ref q2, .null])), (q1, .inl (cA1, 40, .inl (fun _ => 0))), (q2, .inl (cA2, 1280, .inl (fun _ => 0))), (q3, .inl (cA3, 1280, .inl (fun _ => 0)))] H := hP
  have hD : va_D A [(h0, .inr (1, [.int (nI 1), .ref q1, .ref q2, .null])), (q1, .inl (cA1, 40, .inl (fun _ => 0))), (q2, .inl (cA2, 1280, .inl (fun _ => 0))), (q3, .inl (cA3, 1280, .inl (fun _ => 0)))] := hD
  have hK : va_K D pm_cl [(cA1, .int), (cA2, .boolean), (cA3, .int)] s := hK
  refine W.widen (k := 3) (n := 2600) (Nat.le_of_ble_eq_true rfl) (Nat.le_of_ble_eq_true rfl) ?_
  refine va_put (D := D) (ci := 1) (v := .ref q3) (ty := .array .int) (C := RX1) (T := TX1) (N := 4) hx hb hts in_X1 tyX1 tyX1_ok nmX1 hown hK hP hD hS 0 rfl rfl 3 (by decide) (hts _ q203) (fun _ h9 => h9) rfl (by decide +kernel) rfl rfl (Nat.le_of_ble_eq_true rfl) dX1_init_32 (fun H locs hP hD hS => ?_)
  have hP : va_P D pm_cl [(h0, .inr (1, [.int (nI 1), .ref q1, .ref q2, .ref q3])), (q1, .inl (cA1, 40, .inl (fun _ => 0))), (q2, .inl (cA2, 1280, .inl (fun _ => 0))), (q3, .inl (cA3, 1280, .inl (fun _ => 0)))] H := hP
  have hD : va_D A [(h0, .inr (1, [.int (nI 1), .ref q1, .ref q2, .ref q3])), (q1, .inl (cA1, 40, .inl (fun _ => 0))), (q2, .inl (cA2, 1280, .inl (fun _ => 0))), (q3, .inl (cA3, 1280, .inl (fun _ => 0)))] := hD
  obtain ⟨q, hq0, a, hX⟩ : ∃ q : Nat → Nat, q 0 = h0 ∧ ∃ a : Nat → ClassId, pm_X D A s (pm_t1 a) (pm_w1 q a) ((fun _ => 0, fun _ => 0, fun _ => 0, nI 1) : pm_S1) H locs := ⟨fun k => match k with | 0 => h0 | 1 => q1 | 2 => q2 | _ => q3, rfl, fun k => match k with | 1 => cA1 | 2 => cA2 | _ => cA3, hK, hP, hD, hS⟩
  subst hq0
  have F : CallFix p m c cX1_init 1 s _ lw_all RX1 := ⟨hx, hb, hml, hown, hts⟩
  refine lv_aload_n hx hb dX1_init_35 rfl (lv_at hl 0 rfl) ?_
  refine x1_gpa F hX dX1_init_36 ?_
  refine lv_iconst (v := nI 0) hx hb dX1_init_39 (by decide) ?_
  refine lv_iconst (v := (-1)) hx hb dX1_init_40 (by decide) ?_
  refine x1_spa F hX (by omega) dX1_init_41 (fun H locs hX => ?_)
  obtain ⟨hK, hP, hD, hS⟩ := hX
  exact W.vret hx hb hr (fun t ht hW => ⟨⟨(q, a, _), rfl, ⟨rfl, pm_R1_start (u := (upd (fun _ => 0) 0 (-1), fun _ => 0, fun _ => 0, nI 1)) rfl (fun _ => rfl)⟩, by rw [ht]; exact hP, va_K.moved hW.alike hK, hD⟩, hS.F ht⟩) hS.2.2 dX1_init_42
end
section
set_option maxRecDepth 100000
theorem q17 : (Jvm.Cond.initialized "PersistentMapLaw") ∈ lw_all := lw_g (lw_at lw_m1 0 rfl) rfl
theorem q20 : (Jvm.Cond.classLink "PersistentMapLaw" (7 : Nat) "PersistentMap") ∈ lw_all := lw_g (lw_at lw_m1 3 rfl) rfl
theorem q22 : (Jvm.Cond.methodLink "PersistentMapLaw" (9 : Nat) ({ cls := "PersistentMap", name := "<init>", desc := "()V" } : Jvm.MethodName)) ∈ lw_all := lw_g (lw_at lw_m1 5 rfl) rfl
theorem q69 : (Jvm.Cond.methodLink "PersistentMapLaw" (13 : Nat) ({ cls := "PersistentMap", name := "put", desc := "(III)I" } : Jvm.MethodName)) ∈ lw_all := lw_g (lw_at lw_m1 52 rfl) rfl
theorem q103 : (Jvm.Cond.methodLink "PersistentMapLaw" (18 : Nat) ({ cls := "PersistentMap", name := "remove", desc := "(II)I" } : Jvm.MethodName)) ∈ lw_all := lw_g (lw_at lw_m1 86 rfl) rfl
theorem q107 : (Jvm.Cond.methodLink "PersistentMapLaw" (23 : Nat) ({ cls := "PersistentMap", name := "fill", desc := "(IIII)I" } : Jvm.MethodName)) ∈ lw_all := lw_g (lw_at lw_m1 90 rfl) rfl
theorem q114 : (Jvm.Cond.methodLink "PersistentMapLaw" (28 : Nat) ({ cls := "PersistentMap", name := "graft", desc := "(III)I" } : Jvm.MethodName)) ∈ lw_all := lw_g (lw_at lw_m1 97 rfl) rfl
theorem q122 : (Jvm.Cond.methodLink "PersistentMapLaw" (32 : Nat) ({ cls := "PersistentMap", name := "exchange", desc := "(III)I" } : Jvm.MethodName)) ∈ lw_all := lw_g (lw_at lw_m1 105 rfl) rfl
theorem q126 : (Jvm.Cond.methodLink "PersistentMapLaw" (36 : Nat) ({ cls := "PersistentMap", name := "versions", desc := "()I" } : Jvm.MethodName)) ∈ lw_all := lw_g (lw_at lw_m1 109 rfl) rfl
theorem q130 : (Jvm.Cond.methodLink "PersistentMapLaw" (41 : Nat) ({ cls := "PersistentMap", name := "parent", desc := "(I)I" } : Jvm.MethodName)) ∈ lw_all := lw_g (lw_at lw_m1 113 rfl) rfl
theorem q134 : (Jvm.Cond.methodLink "PersistentMapLaw" (46 : Nat) ({ cls := "PersistentMap", name := "ancestor", desc := "(II)I" } : Jvm.MethodName)) ∈ lw_all := lw_g (lw_at lw_m1 117 rfl) rfl
theorem q142 : (Jvm.Cond.methodLink "PersistentMapLaw" (50 : Nat) ({ cls := "PersistentMap", name := "meet", desc := "(II)I" } : Jvm.MethodName)) ∈ lw_all := lw_g (lw_at lw_m1 125 rfl) rfl
theorem q146 : (Jvm.Cond.methodLink "PersistentMapLaw" (54 : Nat) ({ cls := "PersistentMap", name := "family", desc := "(I)I" } : Jvm.MethodName)) ∈ lw_all := lw_g (lw_at lw_m1 129 rfl) rfl
theorem q150 : (Jvm.Cond.methodLink "PersistentMapLaw" (58 : Nat) ({ cls := "PersistentMap", name := "has", desc := "(II)I" } : Jvm.MethodName)) ∈ lw_all := lw_g (lw_at lw_m1 133 rfl) rfl
theorem q154 : (Jvm.Cond.methodLink "PersistentMapLaw" (62 : Nat) ({ cls := "PersistentMap", name := "get", desc := "(II)I" } : Jvm.MethodName)) ∈ lw_all := lw_g (lw_at lw_m1 137 rfl) rfl
theorem q158 : (Jvm.Cond.methodLink "PersistentMapLaw" (66 : Nat) ({ cls := "PersistentMap", name := "size", desc := "(I)I" } : Jvm.MethodName)) ∈ lw_all := lw_g (lw_at lw_m1 141 rfl) rfl
theorem q162 : (Jvm.Cond.methodLink "PersistentMapLaw" (70 : Nat) ({ cls := "PersistentMap", name := "next", desc := "(II)I" } : Jvm.MethodName)) ∈ lw_all := lw_g (lw_at lw_m1 145 rfl) rfl
theorem q166 : (Jvm.Cond.methodLink "PersistentMapLaw" (74 : Nat) ({ cls := "PersistentMap", name := "previous", desc := "(II)I" } : Jvm.MethodName)) ∈ lw_all := lw_g (lw_at lw_m1 149 rfl) rfl
theorem q170 : (Jvm.Cond.methodLink "PersistentMapLaw" (78 : Nat) ({ cls := "PersistentMap", name := "select", desc := "(II)I" } : Jvm.MethodName)) ∈ lw_all := lw_g (lw_at lw_m1 153 rfl) rfl
theorem q174 : (Jvm.Cond.methodLink "PersistentMapLaw" (82 : Nat) ({ cls := "PersistentMap", name := "sum", desc := "(III)I" } : Jvm.MethodName)) ∈ lw_all := lw_g (lw_at lw_m1 157 rfl) rfl
theorem q178 : (Jvm.Cond.methodLink "PersistentMapLaw" (86 : Nat) ({ cls := "PersistentMap", name := "differing", desc := "(II)I" } : Jvm.MethodName)) ∈ lw_all := lw_g (lw_at lw_m1 161 rfl) rfl
theorem q186 : (Jvm.Cond.methodLink "PersistentMapLaw" (90 : Nat) ({ cls := "PersistentMap", name := "spread", desc := "(I)I" } : Jvm.MethodName)) ∈ lw_all := lw_g (lw_at lw_m1 169 rfl) rfl
theorem q190 : (Jvm.Cond.methodLink "PersistentMapLaw" (94 : Nat) ({ cls := "PersistentMap", name := "changes", desc := "(I)I" } : Jvm.MethodName)) ∈ lw_all := lw_g (lw_at lw_m1 173 rfl) rfl
theorem q194 : (Jvm.Cond.classLink "PersistentMapLaw" (10 : Nat) "PersistentMapModel") ∈ lw_all := lw_g (lw_at lw_m1 177 rfl) rfl
theorem q196 : (Jvm.Cond.methodLink "PersistentMapLaw" (12 : Nat) ({ cls := "PersistentMapModel", name := "<init>", desc := "()V" } : Jvm.MethodName)) ∈ lw_all := lw_g (lw_at lw_m1 179 rfl) rfl
theorem q213 : (Jvm.Cond.methodLink "PersistentMapLaw" (17 : Nat) ({ cls := "PersistentMapModel", name := "put", desc := "(III)I" } : Jvm.MethodName)) ∈ lw_all := lw_g (lw_at lw_m1 196 rfl) rfl
theorem q233 : (Jvm.Cond.methodLink "PersistentMapLaw" (22 : Nat) ({ cls := "PersistentMapModel", name := "remove", desc := "(II)I" } : Jvm.MethodName)) ∈ lw_all := lw_g (lw_at lw_m1 216 rfl) rfl
theorem q237 : (Jvm.Cond.methodLink "PersistentMapLaw" (27 : Nat) ({ cls := "PersistentMapModel", name := "fill", desc := "(IIII)I" } : Jvm.MethodName)) ∈ lw_all := lw_g (lw_at lw_m1 220 rfl) rfl
theorem q245 : (Jvm.Cond.methodLink "PersistentMapLaw" (31 : Nat) ({ cls := "PersistentMapModel", name := "graft", desc := "(III)I" } : Jvm.MethodName)) ∈ lw_all := lw_g (lw_at lw_m1 228 rfl) rfl
theorem q253 : (Jvm.Cond.methodLink "PersistentMapLaw" (35 : Nat) ({ cls := "PersistentMapModel", name := "exchange", desc := "(III)I" } : Jvm.MethodName)) ∈ lw_all := lw_g (lw_at lw_m1 236 rfl) rfl
theorem q257 : (Jvm.Cond.methodLink "PersistentMapLaw" (40 : Nat) ({ cls := "PersistentMapModel", name := "versions", desc := "()I" } : Jvm.MethodName)) ∈ lw_all := lw_g (lw_at lw_m2 0 rfl) rfl
theorem q261 : (Jvm.Cond.methodLink "PersistentMapLaw" (45 : Nat) ({ cls := "PersistentMapModel", name := "parent", desc := "(I)I" } : Jvm.MethodName)) ∈ lw_all := lw_g (lw_at lw_m2 4 rfl) rfl
theorem q265 : (Jvm.Cond.methodLink "PersistentMapLaw" (49 : Nat) ({ cls := "PersistentMapModel", name := "ancestor", desc := "(II)I" } : Jvm.MethodName)) ∈ lw_all := lw_g (lw_at lw_m2 8 rfl) rfl
theorem q273 : (Jvm.Cond.methodLink "PersistentMapLaw" (53 : Nat) ({ cls := "PersistentMapModel", name := "meet", desc := "(II)I" } : Jvm.MethodName)) ∈ lw_all := lw_g (lw_at lw_m2 16 rfl) rfl
theorem q277 : (Jvm.Cond.methodLink "PersistentMapLaw" (57 : Nat) ({ cls := "PersistentMapModel", name := "family", desc := "(I)I" } : Jvm.MethodName)) ∈ lw_all := lw_g (lw_at lw_m2 20 rfl) rfl
theorem q281 : (Jvm.Cond.methodLink "PersistentMapLaw" (61 : Nat) ({ cls := "PersistentMapModel", name := "has", desc := "(II)I" } : Jvm.MethodName)) ∈ lw_all := lw_g (lw_at lw_m2 24 rfl) rfl
theorem q285 : (Jvm.Cond.methodLink "PersistentMapLaw" (65 : Nat) ({ cls := "PersistentMapModel", name := "get", desc := "(II)I" } : Jvm.MethodName)) ∈ lw_all := lw_g (lw_at lw_m2 28 rfl) rfl
theorem q289 : (Jvm.Cond.methodLink "PersistentMapLaw" (69 : Nat) ({ cls := "PersistentMapModel", name := "size", desc := "(I)I" } : Jvm.MethodName)) ∈ lw_all := lw_g (lw_at lw_m2 32 rfl) rfl
theorem q293 : (Jvm.Cond.methodLink "PersistentMapLaw" (73 : Nat) ({ cls := "PersistentMapModel", name := "next", desc := "(II)I" } : Jvm.MethodName)) ∈ lw_all := lw_g (lw_at lw_m2 36 rfl) rfl
theorem q297 : (Jvm.Cond.methodLink "PersistentMapLaw" (77 : Nat) ({ cls := "PersistentMapModel", name := "previous", desc := "(II)I" } : Jvm.MethodName)) ∈ lw_all := lw_g (lw_at lw_m2 40 rfl) rfl
theorem q301 : (Jvm.Cond.methodLink "PersistentMapLaw" (81 : Nat) ({ cls := "PersistentMapModel", name := "select", desc := "(II)I" } : Jvm.MethodName)) ∈ lw_all := lw_g (lw_at lw_m2 44 rfl) rfl
theorem q305 : (Jvm.Cond.methodLink "PersistentMapLaw" (85 : Nat) ({ cls := "PersistentMapModel", name := "sum", desc := "(III)I" } : Jvm.MethodName)) ∈ lw_all := lw_g (lw_at lw_m2 48 rfl) rfl
theorem q309 : (Jvm.Cond.methodLink "PersistentMapLaw" (89 : Nat) ({ cls := "PersistentMapModel", name := "differing", desc := "(II)I" } : Jvm.MethodName)) ∈ lw_all := lw_g (lw_at lw_m2 52 rfl) rfl
theorem q317 : (Jvm.Cond.methodLink "PersistentMapLaw" (93 : Nat) ({ cls := "PersistentMapModel", name := "spread", desc := "(I)I" } : Jvm.MethodName)) ∈ lw_all := lw_g (lw_at lw_m2 60 rfl) rfl
theorem q321 : (Jvm.Cond.methodLink "PersistentMapLaw" (97 : Nat) ({ cls := "PersistentMapModel", name := "changes", desc := "(I)I" } : Jvm.MethodName)) ∈ lw_all := lw_g (lw_at lw_m2 64 rfl) rfl

abbrev cL_law : ByteArray := code
-- ===== end of PART A; then your names; then what follows =====
/-! THE CLAIM OUT OF ONE WALK OF THE LAW'S BODY. Your part is whole_start (and what it stands on); all else here is the same for every law, but numbers. -/
def R_law : String := "PersistentMapLaw"
def lw_P (b : Addr) (xs : List Int32) (args : Array Value) (s : State) : Prop := args = #[.ref b] ∧ s.IntsAt b xs ∧ xs.length ≤ 320 ∧ (Jvm.Cond.and given_1 narrow_1).before args s = true
def lw_Q (_ : Array Value) (s : State) (o : Outcome) (t : State) : Prop := o = .returned (some (.int 1)) ∧ Framed s o t [] 600000 7290000
def lw_Z (below : List Frame) (a : Array Value) (s : State) : State → Prop := fun t => ∃ o, t.status = .running ∧ Ended t below o ∧ lw_Q a s o t
/-- the law's own end, with 1 on the stack, nothing written that was there before, its room as the claim has it -/
theorem lw_ret {p : Program} {l : Launch} {e : Env} {s : State} {m : MethodId} {below : List Frame} {meth : Method} {c : Code} {b : Nat} (hx : p.tables.exec = Jvm.exec) (hb : c.code = code) (hr : meth.sig.returnType = ret) (hlocks : meth.locks = false) {pc : Nat} {H : Heap} {ls : Array Slot} (hdg : decode code pc = .ok (.ireturn, 1)) : W p l e room_1 s m #[Value.ref b] below meth c H [] 600000 7290000 (lw_Z below #[Value.ref b] s) (F0 m pc ls [.int 1]) := by
  intro T hT X
  obtain ⟨fs, hret, hrun, hended, hW, hframe⟩ := X.leave (v := some (.int 1)) (hlocks := hlocks) (fun h => by rw [hr] at h; cases h)
  have hmeth' : T.vm.method? m = some meth := X.method'
  refine ⟨T.setFrames fs, ?_, .returned (some (.int 1)), hrun, hended, rfl, ⟨_, rfl⟩, hW, hframe⟩
  jvm_step X.here [X.here.top, hx, hb, hdg, hmeth', hr, ret, narrow_b1]
  (try refine ⟨rfl, ?_⟩); (try refine ⟨rfl, ?_⟩)
  first | (intro acts; rw [hret _ acts rfl rfl rfl]) | rw [hret _ _ rfl rfl rfl]
  exact Steps.refl _
/-- what holds at the law's entry: the machine, the code, the tables' words (any of lw_tbl by 'hts w (by decide +kernel)'), the script of L ints xs at the cell b, what the Statement gives of the start (any of its parts by flat_of_before) -/
def lw_At (p : Program) (s : State) (m : MethodId) (meth : Method) (c : Code) (b L : Nat) (xs : Nat → Int32) : Prop :=
  p.tables.exec = Jvm.exec ∧ c.code = code ∧ meth.sig.returnType = ret ∧ c.maxLocals = 4 ∧ s.vm.findClass R_law = some m.cls ∧ (∀ w ∈ lw_tbl, w.before #[Value.ref b] s = true) ∧ va_X b L xs s s.heap ∧ b < s.heap.size ∧ meth.locks = false ∧ (Jvm.Cond.and given_1 narrow_1).before #[Value.ref b] s = true

theorem hL0_put : GoodIn lw_all (wsV R_law 13 RX0 yX0_put (ws_ yX0_put cX0_put 5 (some .int))) := lw_V q69 q70 q71 q18 q72
theorem hL0_remove : GoodIn lw_all (wsV R_law 18 RX0 yX0_remove (ws_ yX0_remove cX0_remove 4 (some .int))) := lw_V q103 q104 q105 q18 q106
theorem hL0_fill : GoodIn lw_all (wsV R_law 23 RX0 yX0_fill (ws_ yX0_fill cX0_fill 8 (some .int))) := lw_V q107 q108 q109 q18 q110
theorem hL0_graft : GoodIn lw_all (wsV R_law 28 RX0 yX0_graft (ws_ yX0_graft cX0_graft 7 (some .int))) := lw_V q114 q115 q116 q18 q117
theorem hL0_exchange : GoodIn lw_all (wsV R_law 32 RX0 yX0_exchange (ws_ yX0_exchange cX0_exchange 7 (some .int))) := lw_V q122 q123 q124 q18 q125
theorem hL0_versions : GoodIn lw_all (wsV R_law 36 RX0 yX0_versions (ws_ yX0_versions cX0_versions 1 (some .int))) := lw_V q126 q127 q128 q18 q129
theorem hL0_parent : GoodIn lw_all (wsV R_law 41 RX0 yX0_parent (ws_ yX0_parent cX0_parent 2 (some .int))) := lw_V q130 q131 q132 q18 q133
theorem hL0_ancestor : GoodIn lw_all (wsV R_law 46 RX0 yX0_ancestor (ws_ yX0_ancestor cX0_ancestor 3 (some .int))) := lw_V q134 q135 q136 q18 q137
theorem hL0_meet : GoodIn lw_all (wsV R_law 50 RX0 yX0_meet (ws_ yX0_meet cX0_meet 5 (some .int))) := lw_V q142 q143 q144 q18 q145
theorem hL0_family : GoodIn lw_all (wsV R_law 54 RX0 yX0_family (ws_ yX0_family cX0_family 4 (some .int))) := lw_V q146 q147 q148 q18 q149
theorem hL0_has : GoodIn lw_all (wsV R_law 58 RX0 yX0_has (ws_ yX0_has cX0_has 3 (some .int))) := lw_V q150 q151 q152 q18 q153
theorem hL0_get : GoodIn lw_all (wsV R_law 62 RX0 yX0_get (ws_ yX0_get cX0_get 3 (some .int))) := lw_V q154 q155 q156 q18 q157
theorem hL0_size : GoodIn lw_all (wsV R_law 66 RX0 yX0_size (ws_ yX0_size cX0_size 4 (some .int))) := lw_V q158 q159 q160 q18 q161
theorem hL0_next : GoodIn lw_all (wsV R_law 70 RX0 yX0_next (ws_ yX0_next cX0_next 4 (some .int))) := lw_V q162 q163 q164 q18 q165
theorem hL0_previous : GoodIn lw_all (wsV R_law 74 RX0 yX0_previous (ws_ yX0_previous cX0_previous 4 (some .int))) := lw_V q166 q167 q168 q18 q169
theorem hL0_select : GoodIn lw_all (wsV R_law 78 RX0 yX0_select (ws_ yX0_select cX0_select 5 (some .int))) := lw_V q170 q171 q172 q18 q173
theorem hL0_sum : GoodIn lw_all (wsV R_law 82 RX0 yX0_sum (ws_ yX0_sum cX0_sum 7 (some .int))) := lw_V q174 q175 q176 q18 q177
theorem hL0_differing : GoodIn lw_all (wsV R_law 86 RX0 yX0_differing (ws_ yX0_differing cX0_differing 5 (some .int))) := lw_V q178 q179 q180 q18 q181
theorem hL0_spread : GoodIn lw_all (wsV R_law 90 RX0 yX0_spread (ws_ yX0_spread cX0_spread 5 (some .int))) := lw_V q186 q187 q188 q18 q189
theorem hL0_changes : GoodIn lw_all (wsV R_law 94 RX0 yX0_changes (ws_ yX0_changes cX0_changes 4 (some .int))) := lw_V q190 q191 q192 q18 q193
theorem hL1_put : GoodIn lw_all (wsV R_law 17 RX1 yX1_put (ws_ yX1_put cX1_put 5 (some .int))) := lw_V q213 q214 q215 q19 q216
theorem hL1_remove : GoodIn lw_all (wsV R_law 22 RX1 yX1_remove (ws_ yX1_remove cX1_remove 4 (some .int))) := lw_V q233 q234 q235 q19 q236
theorem hL1_fill : GoodIn lw_all (wsV R_law 27 RX1 yX1_fill (ws_ yX1_fill cX1_fill 7 (some .int))) := lw_V q237 q238 q239 q19 q240
theorem hL1_graft : GoodIn lw_all (wsV R_law 31 RX1 yX1_graft (ws_ yX1_graft cX1_graft 6 (some .int))) := lw_V q245 q246 q247 q19 q248
theorem hL1_exchange : GoodIn lw_all (wsV R_law 35 RX1 yX1_exchange (ws_ yX1_exchange cX1_exchange 5 (some .int))) := lw_V q253 q254 q255 q19 q256
theorem hL1_versions : GoodIn lw_all (wsV R_law 40 RX1 yX1_versions (ws_ yX1_versions cX1_versions 1 (some .int))) := lw_V q257 q258 q259 q19 q260
theorem hL1_parent : GoodIn lw_all (wsV R_law 45 RX1 yX1_parent (ws_ yX1_parent cX1_parent 2 (some .int))) := lw_V q261 q262 q263 q19 q264
theorem hL1_ancestor : GoodIn lw_all (wsV R_law 49 RX1 yX1_ancestor (ws_ yX1_ancestor cX1_ancestor 3 (some .int))) := lw_V q265 q266 q267 q19 q268
theorem hL1_meet : GoodIn lw_all (wsV R_law 53 RX1 yX1_meet (ws_ yX1_meet cX1_meet 5 (some .int))) := lw_V q273 q274 q275 q19 q276
theorem hL1_family : GoodIn lw_all (wsV R_law 57 RX1 yX1_family (ws_ yX1_family cX1_family 4 (some .int))) := lw_V q277 q278 q279 q19 q280
theorem hL1_has : GoodIn lw_all (wsV R_law 61 RX1 yX1_has (ws_ yX1_has cX1_has 3 (some .int))) := lw_V q281 q282 q283 q19 q284
theorem hL1_get : GoodIn lw_all (wsV R_law 65 RX1 yX1_get (ws_ yX1_get cX1_get 3 (some .int))) := lw_V q285 q286 q287 q19 q288
theorem hL1_size : GoodIn lw_all (wsV R_law 69 RX1 yX1_size (ws_ yX1_size cX1_size 4 (some .int))) := lw_V q289 q290 q291 q19 q292
theorem hL1_next : GoodIn lw_all (wsV R_law 73 RX1 yX1_next (ws_ yX1_next cX1_next 4 (some .int))) := lw_V q293 q294 q295 q19 q296
theorem hL1_previous : GoodIn lw_all (wsV R_law 77 RX1 yX1_previous (ws_ yX1_previous cX1_previous 4 (some .int))) := lw_V q297 q298 q299 q19 q300
theorem hL1_select : GoodIn lw_all (wsV R_law 81 RX1 yX1_select (ws_ yX1_select cX1_select 5 (some .int))) := lw_V q301 q302 q303 q19 q304
theorem hL1_sum : GoodIn lw_all (wsV R_law 85 RX1 yX1_sum (ws_ yX1_sum cX1_sum 6 (some .int))) := lw_V q305 q306 q307 q19 q308
theorem hL1_differing : GoodIn lw_all (wsV R_law 89 RX1 yX1_differing (ws_ yX1_differing cX1_differing 5 (some .int))) := lw_V q309 q310 q311 q19 q312
theorem hL1_spread : GoodIn lw_all (wsV R_law 93 RX1 yX1_spread (ws_ yX1_spread cX1_spread 4 (some .int))) := lw_V q317 q318 q319 q19 q320
theorem hL1_changes : GoodIn lw_all (wsV R_law 97 RX1 yX1_changes (ws_ yX1_changes cX1_changes 4 (some .int))) := lw_V q321 q322 q323 q19 q324
/-- the law's world: both objects, nothing of the start written -/
def pm_Y (D : va_G) (s : State) (q q2 : Nat → Nat) (a a2 : Nat → ClassId) (u : pm_S0) (u2 : pm_S1) (H : Heap) (locs : List Loc) : Prop :=
  va_K D pm_cl (pm_t0 a ++ pm_t1 a2) s ∧ va_P D pm_cl (pm_w0 q a u ++ pm_w1 q2 a2 u2) H ∧ va_D (fun x : Nat => s.heap.size ≤ x) (pm_w0 q a u ++ pm_w1 q2 a2 u2) ∧ va_S (fun x : Nat => s.heap.size ≤ x) s.heap H locs
section PML
variable {p : Program} {l : Launch} {e : Env} {R : Room} {s : State} {m : MethodId} {args : Array Value} {below : List Frame} {meth : Method} {c : Code} {H : Heap} {locs : List Loc} {cells slots : Nat} {Q : State → Prop}
variable {cc : ByteArray} {pc nL : Nat} {ls : Array Slot} {rest st : List Value} {D : va_G} {own : String} {q q2 : Nat → Nat} {a a2 : Nat → ClassId} {u : pm_S0} {u2 : pm_S1}

set_option maxHeartbeats 4000000 in
theorem pm_law0 {n idx : Nat} {y : MethodName} {bytes : ByteArray} {maxL : Nat} {ty : FieldType} {rm : Room} {As : List Value} {post : Int32 → pm_S0 → Prop}
    (F : CallFix p m c cc nL s args lw_all own) (hY : pm_Y D s q q2 a a2 u u2 H locs)
    (hM : pm_Mi l y bytes maxL ty rm D (pm_t0 a) (pm_w0 q a) (.ref (q 0) :: As) u post)
    (hG : GoodIn lw_all (wsV own idx RX0 y (ws_ y bytes maxL (some ty))))
    (hd : y.cls = RX0 ∧ y.cls ≠ "java/lang/invoke/MethodHandle" ∧ y.cls ≠ "java/lang/invoke/VarHandle" ∧ (parseMethodDescriptor y.desc).map (fun d => d.parameters.length) = some n)
    (hR : (rm.cells = 0 ∧ rm.slots = 0) ∧ rm.frames + 1 ≤ R.frames ∧ 8 + (maxL + 11) + rm.locals ≤ R.locals) (hst : st = As.reverse ++ .ref (q 0) :: rest) (hn : As.length = n) (hsz : ls.size = nL) (hW : (rest.map fun v => v.category).sum ≤ 8)
    (hdg : decode cc pc = .ok (.invokevirtual idx, 3)) (hcs : cells ≤ R.cells ∧ slots ≤ R.slots)
    (kk : ∀ (r : Int32) (z : pm_S0) (H1 : Heap) (locs1 : List Loc), post r z → pm_Y D s q q2 a a2 z u2 H1 locs1 → W p l e R s m args below meth c H1 locs1 cells slots Q (F0 m (pc + 3) ls (.int r :: rest))) :
    W p l e R s m args below meth c H locs cells slots Q (F0 m pc ls st) := by
  obtain ⟨hK, hP, hD, hS⟩ := hY
  have hA : ∀ x : Nat, s.heap.size ≤ x → (fun x : Nat => s.heap.size ≤ x) x := fun _ h => h
  have hPc := hP.sub (ws' := pm_w0 q a u) [0, 1, 2, 3, 4, 5, 6, 7, 8] rfl
  have hDc := hD.sub (ws' := pm_w0 q a u) [0, 1, 2, 3, 4, 5, 6, 7, 8] (by decide) rfl
  have hKc := hK.sub (tys' := pm_t0 a) [0, 1, 2, 3, 4, 5, 6, 7] rfl
  have hFc := va_free (wc := pm_w0 q a u) hD hS hA [0, 1, 2, 3, 4, 5, 6, 7, 8] rfl
  refine va_calli (va_runV (As := As) (rest := rest) F (hM H.size) (cwV n F.2.2.2.2 hG rfl hR.1.1 hR.1.2 hd hR.2) ⟨fun a U g mk q => ?_, va_recv hKc hPc (ci := 0) (q0 := 0) rfl rfl, fun U hU hW => ⟨rfl, by rw [hU], by rw [hU]; exact hPc, va_K.moved hW.alike hKc, hDc.weaken (fun _ _ _ _ => trivial)⟩⟩ rfl hn hsz hst (lv_room hW) hdg hcs) hS (fun q _ h => hFc q h) hFc (fun r z t H1 locs1 ht hvm hw hB hz1 hk1 hS1 => ?_)
  · obtain ⟨q0, q1, qP, qK, qD⟩ := q
    exact ⟨q0, q1, qP, va_K.moved (u := U) (U := U.calling g mk a) (Vm.Alike.refl U.vm) qK, qD⟩
  · obtain ⟨hP1, hK1, hD1⟩ := hB
    rw [ht] at hP1
    obtain ⟨hP, hD⟩ := va_join (wr := pm_w1 q2 a2 u2) (w1 := pm_w0 q a z) hP hD [0, 1, 2, 3, 4, 5, 6, 7, 8] [9, 10, 11, 12] rfl rfl (by decide) (by decide) hk1 hFc hP1 hD1
    exact kk r z H1 locs1 hw ⟨hK, hP.sub (ws' := pm_w0 q a z ++ pm_w1 q2 a2 u2) [4, 5, 6, 7, 8, 9, 10, 11, 12, 0, 1, 2, 3] rfl, hD.sub (ws' := pm_w0 q a z ++ pm_w1 q2 a2 u2) [4, 5, 6, 7, 8, 9, 10, 11, 12, 0, 1, 2, 3] (by decide) rfl, hS1⟩
set_option maxHeartbeats 4000000 in
theorem pm_law1 {n idx : Nat} {y : MethodName} {bytes : ByteArray} {maxL : Nat} {ty : FieldType} {rm : Room} {As : List Value} {post : Int32 → pm_S1 → Prop}
    (F : CallFix p m c cc nL s args lw_all own) (hY : pm_Y D s q q2 a a2 u u2 H locs)
    (hM : pm_Mi l y bytes maxL ty rm D (pm_t1 a2) (pm_w1 q2 a2) (.ref (q2 0) :: As) u2 post)
    (hG : GoodIn lw_all (wsV own idx RX1 y (ws_ y bytes maxL (some ty))))
    (hd : y.cls = RX1 ∧ y.cls ≠ "java/lang/invoke/MethodHandle" ∧ y.cls ≠ "java/lang/invoke/VarHandle" ∧ (parseMethodDescriptor y.desc).map (fun d => d.parameters.length) = some n)
    (hR : (rm.cells = 0 ∧ rm.slots = 0) ∧ rm.frames + 1 ≤ R.frames ∧ 8 + (maxL + 11) + rm.locals ≤ R.locals) (hst : st = As.reverse ++ .ref (q2 0) :: rest) (hn : As.length = n) (hsz : ls.size = nL) (hW : (rest.map fun v => v.category).sum ≤ 8)
    (hdg : decode cc pc = .ok (.invokevirtual idx, 3)) (hcs : cells ≤ R.cells ∧ slots ≤ R.slots)
    (kk : ∀ (r : Int32) (z : pm_S1) (H1 : Heap) (locs1 : List Loc), post r z → pm_Y D s q q2 a a2 u z H1 locs1 → W p l e R s m args below meth c H1 locs1 cells slots Q (F0 m (pc + 3) ls (.int r :: rest))) :
    W p l e R s m args below meth c H locs cells slots Q (F0 m pc ls st) := by
  obtain ⟨hK, hP, hD, hS⟩ := hY
  have hA : ∀ x : Nat, s.heap.size ≤ x → (fun x : Nat => s.heap.size ≤ x) x := fun _ h => h
  have hPc := hP.sub (ws' := pm_w1 q2 a2 u2) [9, 10, 11, 12] rfl
  have hDc := hD.sub (ws' := pm_w1 q2 a2 u2) [9, 10, 11, 12] (by decide) rfl
  have hKc := hK.sub (tys' := pm_t1 a2) [8, 9, 10] rfl
  have hFc := va_free (wc := pm_w1 q2 a2 u2) hD hS hA [9, 10, 11, 12] rfl
  refine va_calli (va_runV (As := As) (rest := rest) F (hM H.size) (cwV n F.2.2.2.2 hG rfl hR.1.1 hR.1.2 hd hR.2) ⟨fun a U g mk q => ?_, va_recv hKc hPc (ci := 1) (q0 := 0) rfl rfl, fun U hU hW => ⟨rfl, by rw [hU], by rw [hU]; exact hPc, va_K.moved hW.alike hKc, hDc.weaken (fun _ _ _ _ => trivial)⟩⟩ rfl hn hsz hst (lv_room hW) hdg hcs) hS (fun q _ h => hFc q h) hFc (fun r z t H1 locs1 ht hvm hw hB hz1 hk1 hS1 => ?_)
  · obtain ⟨q0, q1, qP, qK, qD⟩ := q
    exact ⟨q0, q1, qP, va_K.moved (u := U) (U := U.calling g mk a) (Vm.Alike.refl U.vm) qK, qD⟩
  · obtain ⟨hP1, hK1, hD1⟩ := hB
    rw [ht] at hP1
    obtain ⟨hP, hD⟩ := va_join (wr := pm_w0 q a u) (w1 := pm_w1 q2 a2 z) hP hD [9, 10, 11, 12] [0, 1, 2, 3, 4, 5, 6, 7, 8] rfl rfl (by decide) (by decide) hk1 hFc hP1 hD1
    exact kk r z H1 locs1 hw ⟨hK, hP.sub (ws' := pm_w0 q a u ++ pm_w1 q2 a2 z) [0, 1, 2, 3, 4, 5, 6, 7, 8, 9, 10, 11, 12] rfl, hD.sub (ws' := pm_w0 q a u ++ pm_w1 q2 a2 z) [0, 1, 2, 3, 4, 5, 6, 7, 8, 9, 10, 11, 12] (by decide) rfl, hS1⟩
end PML
end
section
set_option maxRecDepth 100000
theorem dL_law_0 : decode cL_law 0 = .ok (.new 7, 3) := by decide +kernel
theorem dL_law_3 : decode cL_law 3 = .ok (.dup, 1) := by decide +kernel
theorem dL_law_4 : decode cL_law 4 = .ok (.invokespecial 9, 3) := by decide +kernel
theorem dL_law_7 : decode cL_law 7 = .ok (.astore_n 1, 1) := by decide +kernel
theorem dL_law_8 : decode cL_law 8 = .ok (.new 10, 3) := by decide +kernel
theorem dL_law_11 : decode cL_law 11 = .ok (.dup, 1) := by decide +kernel
theorem dL_law_12 : decode cL_law 12 = .ok (.invokespecial 12, 3) := by decide +kernel
theorem dL_law_15 : decode cL_law 15 = .ok (.astore_n 2, 1) := by decide +kernel
theorem dL_law_16 : decode cL_law 16 = .ok (.iconst 0, 1) := by decide +kernel
theorem dL_law_17 : decode cL_law 17 = .ok (.istore_n 3, 1) := by decide +kernel
theorem dL_law_18 : decode cL_law 18 = .ok (.iload_n 3, 1) := by decide +kernel
theorem dL_law_19 : decode cL_law 19 = .ok (.aload_n 0, 1) := by decide +kernel
theorem dL_law_20 : decode cL_law 20 = .ok (.arraylength, 1) := by decide +kernel
theorem dL_law_21 : decode cL_law 21 = .ok (.iconst 5, 1) := by decide +kernel
theorem dL_law_22 : decode cL_law 22 = .ok (.isub, 1) := by decide +kernel
theorem dL_law_23 : decode cL_law 23 = .ok (.if_icmp .gt 761, 3) := by decide +kernel
theorem dL_law_26 : decode cL_law 26 = .ok (.aload_n 0, 1) := by decide +kernel
theorem dL_law_27 : decode cL_law 27 = .ok (.iload_n 3, 1) := by decide +kernel
theorem dL_law_28 : decode cL_law 28 = .ok (.iaload, 1) := by decide +kernel
theorem dL_law_29 : decode cL_law 29 = .ok (.bipush 31, 2) := by decide +kernel
theorem dL_law_31 : decode cL_law 31 = .ok (.iand, 1) := by decide +kernel
theorem dL_law_32 : decode cL_law 32 = .ok (.tableswitch 746 0 19 #[96, 139, 172, 225, 268, 311, 324, 347, 380, 413, 436, 469, 502, 525, 558, 591, 624, 667, 700, 723], 96) := by decide +kernel
theorem dL_law_128 : decode cL_law 128 = .ok (.aload_n 1, 1) := by decide +kernel
theorem dL_law_129 : decode cL_law 129 = .ok (.aload_n 0, 1) := by decide +kernel
theorem dL_law_130 : decode cL_law 130 = .ok (.iload_n 3, 1) := by decide +kernel
theorem dL_law_131 : decode cL_law 131 = .ok (.iconst 1, 1) := by decide +kernel
theorem dL_law_132 : decode cL_law 132 = .ok (.iadd, 1) := by decide +kernel
theorem dL_law_133 : decode cL_law 133 = .ok (.iaload, 1) := by decide +kernel
theorem dL_law_134 : decode cL_law 134 = .ok (.aload_n 0, 1) := by decide +kernel
theorem dL_law_135 : decode cL_law 135 = .ok (.iload_n 3, 1) := by decide +kernel
theorem dL_law_136 : decode cL_law 136 = .ok (.iconst 2, 1) := by decide +kernel
theorem dL_law_137 : decode cL_law 137 = .ok (.iadd, 1) := by decide +kernel
theorem dL_law_138 : decode cL_law 138 = .ok (.iaload, 1) := by decide +kernel
theorem dL_law_139 : decode cL_law 139 = .ok (.aload_n 0, 1) := by decide +kernel
theorem dL_law_140 : decode cL_law 140 = .ok (.iload_n 3, 1) := by decide +kernel
theorem dL_law_141 : decode cL_law 141 = .ok (.iconst 3, 1) := by decide +kernel
theorem dL_law_142 : decode cL_law 142 = .ok (.iadd, 1) := by decide +kernel
theorem dL_law_143 : decode cL_law 143 = .ok (.iaload, 1) := by decide +kernel
theorem dL_law_144 : decode cL_law 144 = .ok (.invokevirtual 13, 3) := by decide +kernel
theorem dL_law_147 : decode cL_law 147 = .ok (.aload_n 2, 1) := by decide +kernel
theorem dL_law_148 : decode cL_law 148 = .ok (.aload_n 0, 1) := by decide +kernel
theorem dL_law_149 : decode cL_law 149 = .ok (.iload_n 3, 1) := by decide +kernel
theorem dL_law_150 : decode cL_law 150 = .ok (.iconst 1, 1) := by decide +kernel
theorem dL_law_151 : decode cL_law 151 = .ok (.iadd, 1) := by decide +kernel
theorem dL_law_152 : decode cL_law 152 = .ok (.iaload, 1) := by decide +kernel
theorem dL_law_153 : decode cL_law 153 = .ok (.aload_n 0, 1) := by decide +kernel
theorem dL_law_154 : decode cL_law 154 = .ok (.iload_n 3, 1) := by decide +kernel
theorem dL_law_155 : decode cL_law 155 = .ok (.iconst 2, 1) := by decide +kernel
theorem dL_law_156 : decode cL_law 156 = .ok (.iadd, 1) := by decide +kernel
theorem dL_law_157 : decode cL_law 157 = .ok (.iaload, 1) := by decide +kernel
theorem dL_law_158 : decode cL_law 158 = .ok (.aload_n 0, 1) := by decide +kernel
theorem dL_law_159 : decode cL_law 159 = .ok (.iload_n 3, 1) := by decide +kernel
theorem dL_law_160 : decode cL_law 160 = .ok (.iconst 3, 1) := by decide +kernel
theorem dL_law_161 : decode cL_law 161 = .ok (.iadd, 1) := by decide +kernel
theorem dL_law_162 : decode cL_law 162 = .ok (.iaload, 1) := by decide +kernel
theorem dL_law_163 : decode cL_law 163 = .ok (.invokevirtual 17, 3) := by decide +kernel
theorem dL_law_166 : decode cL_law 166 = .ok (.if_icmp .eq 612, 3) := by decide +kernel
theorem dL_law_169 : decode cL_law 169 = .ok (.iconst 0, 1) := by decide +kernel
theorem dL_law_170 : decode cL_law 170 = .ok (.ireturn, 1) := by decide +kernel
theorem dL_law_171 : decode cL_law 171 = .ok (.aload_n 1, 1) := by decide +kernel
theorem dL_law_172 : decode cL_law 172 = .ok (.aload_n 0, 1) := by decide +kernel
theorem dL_law_173 : decode cL_law 173 = .ok (.iload_n 3, 1) := by decide +kernel
theorem dL_law_174 : decode cL_law 174 = .ok (.iconst 1, 1) := by decide +kernel
theorem dL_law_175 : decode cL_law 175 = .ok (.iadd, 1) := by decide +kernel
theorem dL_law_176 : decode cL_law 176 = .ok (.iaload, 1) := by decide +kernel
theorem dL_law_177 : decode cL_law 177 = .ok (.aload_n 0, 1) := by decide +kernel
theorem dL_law_178 : decode cL_law 178 = .ok (.iload_n 3, 1) := by decide +kernel
theorem dL_law_179 : decode cL_law 179 = .ok (.iconst 2, 1) := by decide +kernel
theorem dL_law_180 : decode cL_law 180 = .ok (.iadd, 1) := by decide +kernel
theorem dL_law_181 : decode cL_law 181 = .ok (.iaload, 1) := by decide +kernel
theorem dL_law_182 : decode cL_law 182 = .ok (.invokevirtual 18, 3) := by decide +kernel
theorem dL_law_185 : decode cL_law 185 = .ok (.aload_n 2, 1) := by decide +kernel
theorem dL_law_186 : decode cL_law 186 = .ok (.aload_n 0, 1) := by decide +kernel
theorem dL_law_187 : decode cL_law 187 = .ok (.iload_n 3, 1) := by decide +kernel
theorem dL_law_188 : decode cL_law 188 = .ok (.iconst 1, 1) := by decide +kernel
theorem dL_law_189 : decode cL_law 189 = .ok (.iadd, 1) := by decide +kernel
theorem dL_law_190 : decode cL_law 190 = .ok (.iaload, 1) := by decide +kernel
theorem dL_law_191 : decode cL_law 191 = .ok (.aload_n 0, 1) := by decide +kernel
theorem dL_law_192 : decode cL_law 192 = .ok (.iload_n 3, 1) := by decide +kernel
theorem dL_law_193 : decode cL_law 193 = .ok (.iconst 2, 1) := by decide +kernel
theorem dL_law_194 : decode cL_law 194 = .ok (.iadd, 1) := by decide +kernel
theorem dL_law_195 : decode cL_law 195 = .ok (.iaload, 1) := by decide +kernel
theorem dL_law_196 : decode cL_law 196 = .ok (.invokevirtual 22, 3) := by decide +kernel
theorem dL_law_199 : decode cL_law 199 = .ok (.if_icmp .eq 579, 3) := by decide +kernel
theorem dL_law_202 : decode cL_law 202 = .ok (.iconst 0, 1) := by decide +kernel
theorem dL_law_203 : decode cL_law 203 = .ok (.ireturn, 1) := by decide +kernel
theorem dL_law_204 : decode cL_law 204 = .ok (.aload_n 1, 1) := by decide +kernel
theorem dL_law_205 : decode cL_law 205 = .ok (.aload_n 0, 1) := by decide +kernel
theorem dL_law_206 : decode cL_law 206 = .ok (.iload_n 3, 1) := by decide +kernel
theorem dL_law_207 : decode cL_law 207 = .ok (.iconst 1, 1) := by decide +kernel
theorem dL_law_208 : decode cL_law 208 = .ok (.iadd, 1) := by decide +kernel
theorem dL_law_209 : decode cL_law 209 = .ok (.iaload, 1) := by decide +kernel
theorem dL_law_210 : decode cL_law 210 = .ok (.aload_n 0, 1) := by decide +kernel
theorem dL_law_211 : decode cL_law 211 = .ok (.iload_n 3, 1) := by decide +kernel
theorem dL_law_212 : decode cL_law 212 = .ok (.iconst 2, 1) := by decide +kernel
theorem dL_law_213 : decode cL_law 213 = .ok (.iadd, 1) := by decide +kernel
theorem dL_law_214 : decode cL_law 214 = .ok (.iaload, 1) := by decide +kernel
theorem dL_law_215 : decode cL_law 215 = .ok (.aload_n 0, 1) := by decide +kernel
theorem dL_law_216 : decode cL_law 216 = .ok (.iload_n 3, 1) := by decide +kernel
theorem dL_law_217 : decode cL_law 217 = .ok (.iconst 3, 1) := by decide +kernel
theorem dL_law_218 : decode cL_law 218 = .ok (.iadd, 1) := by decide +kernel
theorem dL_law_219 : decode cL_law 219 = .ok (.iaload, 1) := by decide +kernel
theorem dL_law_220 : decode cL_law 220 = .ok (.aload_n 0, 1) := by decide +kernel
theorem dL_law_221 : decode cL_law 221 = .ok (.iload_n 3, 1) := by decide +kernel
theorem dL_law_222 : decode cL_law 222 = .ok (.iconst 4, 1) := by decide +kernel
theorem dL_law_223 : decode cL_law 223 = .ok (.iadd, 1) := by decide +kernel
theorem dL_law_224 : decode cL_law 224 = .ok (.iaload, 1) := by decide +kernel
theorem dL_law_225 : decode cL_law 225 = .ok (.invokevirtual 23, 3) := by decide +kernel
theorem dL_law_228 : decode cL_law 228 = .ok (.aload_n 2, 1) := by decide +kernel
theorem dL_law_229 : decode cL_law 229 = .ok (.aload_n 0, 1) := by decide +kernel
theorem dL_law_230 : decode cL_law 230 = .ok (.iload_n 3, 1) := by decide +kernel
theorem dL_law_231 : decode cL_law 231 = .ok (.iconst 1, 1) := by decide +kernel
theorem dL_law_232 : decode cL_law 232 = .ok (.iadd, 1) := by decide +kernel
theorem dL_law_233 : decode cL_law 233 = .ok (.iaload, 1) := by decide +kernel
theorem dL_law_234 : decode cL_law 234 = .ok (.aload_n 0, 1) := by decide +kernel
theorem dL_law_235 : decode cL_law 235 = .ok (.iload_n 3, 1) := by decide +kernel
theorem dL_law_236 : decode cL_law 236 = .ok (.iconst 2, 1) := by decide +kernel
theorem dL_law_237 : decode cL_law 237 = .ok (.iadd, 1) := by decide +kernel
theorem dL_law_238 : decode cL_law 238 = .ok (.iaload, 1) := by decide +kernel
theorem dL_law_239 : decode cL_law 239 = .ok (.aload_n 0, 1) := by decide +kernel
theorem dL_law_240 : decode cL_law 240 = .ok (.iload_n 3, 1) := by decide +kernel
theorem dL_law_241 : decode cL_law 241 = .ok (.iconst 3, 1) := by decide +kernel
theorem dL_law_242 : decode cL_law 242 = .ok (.iadd, 1) := by decide +kernel
theorem dL_law_243 : decode cL_law 243 = .ok (.iaload, 1) := by decide +kernel
theorem dL_law_244 : decode cL_law 244 = .ok (.aload_n 0, 1) := by decide +kernel
theorem dL_law_245 : decode cL_law 245 = .ok (.iload_n 3, 1) := by decide +kernel
theorem dL_law_246 : decode cL_law 246 = .ok (.iconst 4, 1) := by decide +kernel
theorem dL_law_247 : decode cL_law 247 = .ok (.iadd, 1) := by decide +kernel
theorem dL_law_248 : decode cL_law 248 = .ok (.iaload, 1) := by decide +kernel
theorem dL_law_249 : decode cL_law 249 = .ok (.invokevirtual 27, 3) := by decide +kernel
theorem dL_law_252 : decode cL_law 252 = .ok (.if_icmp .eq 526, 3) := by decide +kernel
theorem dL_law_255 : decode cL_law 255 = .ok (.iconst 0, 1) := by decide +kernel
theorem dL_law_256 : decode cL_law 256 = .ok (.ireturn, 1) := by decide +kernel
theorem dL_law_257 : decode cL_law 257 = .ok (.aload_n 1, 1) := by decide +kernel
theorem dL_law_258 : decode cL_law 258 = .ok (.aload_n 0, 1) := by decide +kernel
theorem dL_law_259 : decode cL_law 259 = .ok (.iload_n 3, 1) := by decide +kernel
theorem dL_law_260 : decode cL_law 260 = .ok (.iconst 1, 1) := by decide +kernel
theorem dL_law_261 : decode cL_law 261 = .ok (.iadd, 1) := by decide +kernel
theorem dL_law_262 : decode cL_law 262 = .ok (.iaload, 1) := by decide +kernel
end
section
set_option maxRecDepth 100000
theorem dL_law_263 : decode cL_law 263 = .ok (.aload_n 0, 1) := by decide +kernel
theorem dL_law_264 : decode cL_law 264 = .ok (.iload_n 3, 1) := by decide +kernel
theorem dL_law_265 : decode cL_law 265 = .ok (.iconst 2, 1) := by decide +kernel
theorem dL_law_266 : decode cL_law 266 = .ok (.iadd, 1) := by decide +kernel
theorem dL_law_267 : decode cL_law 267 = .ok (.iaload, 1) := by decide +kernel
theorem dL_law_268 : decode cL_law 268 = .ok (.aload_n 0, 1) := by decide +kernel
theorem dL_law_269 : decode cL_law 269 = .ok (.iload_n 3, 1) := by decide +kernel
theorem dL_law_270 : decode cL_law 270 = .ok (.iconst 3, 1) := by decide +kernel
theorem dL_law_271 : decode cL_law 271 = .ok (.iadd, 1) := by decide +kernel
theorem dL_law_272 : decode cL_law 272 = .ok (.iaload, 1) := by decide +kernel
theorem dL_law_273 : decode cL_law 273 = .ok (.invokevirtual 28, 3) := by decide +kernel
theorem dL_law_276 : decode cL_law 276 = .ok (.aload_n 2, 1) := by decide +kernel
theorem dL_law_277 : decode cL_law 277 = .ok (.aload_n 0, 1) := by decide +kernel
theorem dL_law_278 : decode cL_law 278 = .ok (.iload_n 3, 1) := by decide +kernel
theorem dL_law_279 : decode cL_law 279 = .ok (.iconst 1, 1) := by decide +kernel
theorem dL_law_280 : decode cL_law 280 = .ok (.iadd, 1) := by decide +kernel
theorem dL_law_281 : decode cL_law 281 = .ok (.iaload, 1) := by decide +kernel
theorem dL_law_282 : decode cL_law 282 = .ok (.aload_n 0, 1) := by decide +kernel
theorem dL_law_283 : decode cL_law 283 = .ok (.iload_n 3, 1) := by decide +kernel
theorem dL_law_284 : decode cL_law 284 = .ok (.iconst 2, 1) := by decide +kernel
theorem dL_law_285 : decode cL_law 285 = .ok (.iadd, 1) := by decide +kernel
theorem dL_law_286 : decode cL_law 286 = .ok (.iaload, 1) := by decide +kernel
theorem dL_law_287 : decode cL_law 287 = .ok (.aload_n 0, 1) := by decide +kernel
theorem dL_law_288 : decode cL_law 288 = .ok (.iload_n 3, 1) := by decide +kernel
theorem dL_law_289 : decode cL_law 289 = .ok (.iconst 3, 1) := by decide +kernel
theorem dL_law_290 : decode cL_law 290 = .ok (.iadd, 1) := by decide +kernel
theorem dL_law_291 : decode cL_law 291 = .ok (.iaload, 1) := by decide +kernel
theorem dL_law_292 : decode cL_law 292 = .ok (.invokevirtual 31, 3) := by decide +kernel
theorem dL_law_295 : decode cL_law 295 = .ok (.if_icmp .eq 483, 3) := by decide +kernel
theorem dL_law_298 : decode cL_law 298 = .ok (.iconst 0, 1) := by decide +kernel
theorem dL_law_299 : decode cL_law 299 = .ok (.ireturn, 1) := by decide +kernel
theorem dL_law_300 : decode cL_law 300 = .ok (.aload_n 1, 1) := by decide +kernel
theorem dL_law_301 : decode cL_law 301 = .ok (.aload_n 0, 1) := by decide +kernel
theorem dL_law_302 : decode cL_law 302 = .ok (.iload_n 3, 1) := by decide +kernel
theorem dL_law_303 : decode cL_law 303 = .ok (.iconst 1, 1) := by decide +kernel
theorem dL_law_304 : decode cL_law 304 = .ok (.iadd, 1) := by decide +kernel
theorem dL_law_305 : decode cL_law 305 = .ok (.iaload, 1) := by decide +kernel
theorem dL_law_306 : decode cL_law 306 = .ok (.aload_n 0, 1) := by decide +kernel
theorem dL_law_307 : decode cL_law 307 = .ok (.iload_n 3, 1) := by decide +kernel
theorem dL_law_308 : decode cL_law 308 = .ok (.iconst 2, 1) := by decide +kernel
theorem dL_law_309 : decode cL_law 309 = .ok (.iadd, 1) := by decide +kernel
theorem dL_law_310 : decode cL_law 310 = .ok (.iaload, 1) := by decide +kernel
theorem dL_law_311 : decode cL_law 311 = .ok (.aload_n 0, 1) := by decide +kernel
theorem dL_law_312 : decode cL_law 312 = .ok (.iload_n 3, 1) := by decide +kernel
theorem dL_law_313 : decode cL_law 313 = .ok (.iconst 3, 1) := by decide +kernel
theorem dL_law_314 : decode cL_law 314 = .ok (.iadd, 1) := by decide +kernel
theorem dL_law_315 : decode cL_law 315 = .ok (.iaload, 1) := by decide +kernel
theorem dL_law_316 : decode cL_law 316 = .ok (.invokevirtual 32, 3) := by decide +kernel
theorem dL_law_319 : decode cL_law 319 = .ok (.aload_n 2, 1) := by decide +kernel
theorem dL_law_320 : decode cL_law 320 = .ok (.aload_n 0, 1) := by decide +kernel
theorem dL_law_321 : decode cL_law 321 = .ok (.iload_n 3, 1) := by decide +kernel
theorem dL_law_322 : decode cL_law 322 = .ok (.iconst 1, 1) := by decide +kernel
theorem dL_law_323 : decode cL_law 323 = .ok (.iadd, 1) := by decide +kernel
theorem dL_law_324 : decode cL_law 324 = .ok (.iaload, 1) := by decide +kernel
theorem dL_law_325 : decode cL_law 325 = .ok (.aload_n 0, 1) := by decide +kernel
theorem dL_law_326 : decode cL_law 326 = .ok (.iload_n 3, 1) := by decide +kernel
theorem dL_law_327 : decode cL_law 327 = .ok (.iconst 2, 1) := by decide +kernel
theorem dL_law_328 : decode cL_law 328 = .ok (.iadd, 1) := by decide +kernel
theorem dL_law_329 : decode cL_law 329 = .ok (.iaload, 1) := by decide +kernel
theorem dL_law_330 : decode cL_law 330 = .ok (.aload_n 0, 1) := by decide +kernel
theorem dL_law_331 : decode cL_law 331 = .ok (.iload_n 3, 1) := by decide +kernel
theorem dL_law_332 : decode cL_law 332 = .ok (.iconst 3, 1) := by decide +kernel
theorem dL_law_333 : decode cL_law 333 = .ok (.iadd, 1) := by decide +kernel
theorem dL_law_334 : decode cL_law 334 = .ok (.iaload, 1) := by decide +kernel
theorem dL_law_335 : decode cL_law 335 = .ok (.invokevirtual 35, 3) := by decide +kernel
theorem dL_law_338 : decode cL_law 338 = .ok (.if_icmp .eq 440, 3) := by decide +kernel
theorem dL_law_341 : decode cL_law 341 = .ok (.iconst 0, 1) := by decide +kernel
theorem dL_law_342 : decode cL_law 342 = .ok (.ireturn, 1) := by decide +kernel
theorem dL_law_343 : decode cL_law 343 = .ok (.aload_n 1, 1) := by decide +kernel
theorem dL_law_344 : decode cL_law 344 = .ok (.invokevirtual 36, 3) := by decide +kernel
theorem dL_law_347 : decode cL_law 347 = .ok (.aload_n 2, 1) := by decide +kernel
theorem dL_law_348 : decode cL_law 348 = .ok (.invokevirtual 40, 3) := by decide +kernel
theorem dL_law_351 : decode cL_law 351 = .ok (.if_icmp .eq 427, 3) := by decide +kernel
theorem dL_law_354 : decode cL_law 354 = .ok (.iconst 0, 1) := by decide +kernel
theorem dL_law_355 : decode cL_law 355 = .ok (.ireturn, 1) := by decide +kernel
theorem dL_law_356 : decode cL_law 356 = .ok (.aload_n 1, 1) := by decide +kernel
theorem dL_law_357 : decode cL_law 357 = .ok (.aload_n 0, 1) := by decide +kernel
theorem dL_law_358 : decode cL_law 358 = .ok (.iload_n 3, 1) := by decide +kernel
theorem dL_law_359 : decode cL_law 359 = .ok (.iconst 1, 1) := by decide +kernel
theorem dL_law_360 : decode cL_law 360 = .ok (.iadd, 1) := by decide +kernel
theorem dL_law_361 : decode cL_law 361 = .ok (.iaload, 1) := by decide +kernel
theorem dL_law_362 : decode cL_law 362 = .ok (.invokevirtual 41, 3) := by decide +kernel
theorem dL_law_365 : decode cL_law 365 = .ok (.aload_n 2, 1) := by decide +kernel
theorem dL_law_366 : decode cL_law 366 = .ok (.aload_n 0, 1) := by decide +kernel
theorem dL_law_367 : decode cL_law 367 = .ok (.iload_n 3, 1) := by decide +kernel
theorem dL_law_368 : decode cL_law 368 = .ok (.iconst 1, 1) := by decide +kernel
theorem dL_law_369 : decode cL_law 369 = .ok (.iadd, 1) := by decide +kernel
theorem dL_law_370 : decode cL_law 370 = .ok (.iaload, 1) := by decide +kernel
theorem dL_law_371 : decode cL_law 371 = .ok (.invokevirtual 45, 3) := by decide +kernel
theorem dL_law_374 : decode cL_law 374 = .ok (.if_icmp .eq 404, 3) := by decide +kernel
theorem dL_law_377 : decode cL_law 377 = .ok (.iconst 0, 1) := by decide +kernel
theorem dL_law_378 : decode cL_law 378 = .ok (.ireturn, 1) := by decide +kernel
theorem dL_law_379 : decode cL_law 379 = .ok (.aload_n 1, 1) := by decide +kernel
theorem dL_law_380 : decode cL_law 380 = .ok (.aload_n 0, 1) := by decide +kernel
theorem dL_law_381 : decode cL_law 381 = .ok (.iload_n 3, 1) := by decide +kernel
theorem dL_law_382 : decode cL_law 382 = .ok (.iconst 1, 1) := by decide +kernel
theorem dL_law_383 : decode cL_law 383 = .ok (.iadd, 1) := by decide +kernel
theorem dL_law_384 : decode cL_law 384 = .ok (.iaload, 1) := by decide +kernel
theorem dL_law_385 : decode cL_law 385 = .ok (.aload_n 0, 1) := by decide +kernel
theorem dL_law_386 : decode cL_law 386 = .ok (.iload_n 3, 1) := by decide +kernel
theorem dL_law_387 : decode cL_law 387 = .ok (.iconst 2, 1) := by decide +kernel
theorem dL_law_388 : decode cL_law 388 = .ok (.iadd, 1) := by decide +kernel
theorem dL_law_389 : decode cL_law 389 = .ok (.iaload, 1) := by decide +kernel
theorem dL_law_390 : decode cL_law 390 = .ok (.invokevirtual 46, 3) := by decide +kernel
theorem dL_law_393 : decode cL_law 393 = .ok (.aload_n 2, 1) := by decide +kernel
theorem dL_law_394 : decode cL_law 394 = .ok (.aload_n 0, 1) := by decide +kernel
theorem dL_law_395 : decode cL_law 395 = .ok (.iload_n 3, 1) := by decide +kernel
theorem dL_law_396 : decode cL_law 396 = .ok (.iconst 1, 1) := by decide +kernel
theorem dL_law_397 : decode cL_law 397 = .ok (.iadd, 1) := by decide +kernel
theorem dL_law_398 : decode cL_law 398 = .ok (.iaload, 1) := by decide +kernel
theorem dL_law_399 : decode cL_law 399 = .ok (.aload_n 0, 1) := by decide +kernel
theorem dL_law_400 : decode cL_law 400 = .ok (.iload_n 3, 1) := by decide +kernel
theorem dL_law_401 : decode cL_law 401 = .ok (.iconst 2, 1) := by decide +kernel
theorem dL_law_402 : decode cL_law 402 = .ok (.iadd, 1) := by decide +kernel
theorem dL_law_403 : decode cL_law 403 = .ok (.iaload, 1) := by decide +kernel
theorem dL_law_404 : decode cL_law 404 = .ok (.invokevirtual 49, 3) := by decide +kernel
theorem dL_law_407 : decode cL_law 407 = .ok (.if_icmp .eq 371, 3) := by decide +kernel
theorem dL_law_410 : decode cL_law 410 = .ok (.iconst 0, 1) := by decide +kernel
theorem dL_law_411 : decode cL_law 411 = .ok (.ireturn, 1) := by decide +kernel
theorem dL_law_412 : decode cL_law 412 = .ok (.aload_n 1, 1) := by decide +kernel
theorem dL_law_413 : decode cL_law 413 = .ok (.aload_n 0, 1) := by decide +kernel
theorem dL_law_414 : decode cL_law 414 = .ok (.iload_n 3, 1) := by decide +kernel
theorem dL_law_415 : decode cL_law 415 = .ok (.iconst 1, 1) := by decide +kernel
theorem dL_law_416 : decode cL_law 416 = .ok (.iadd, 1) := by decide +kernel
theorem dL_law_417 : decode cL_law 417 = .ok (.iaload, 1) := by decide +kernel
theorem dL_law_418 : decode cL_law 418 = .ok (.aload_n 0, 1) := by decide +kernel
theorem dL_law_419 : decode cL_law 419 = .ok (.iload_n 3, 1) := by decide +kernel
theorem dL_law_420 : decode cL_law 420 = .ok (.iconst 2, 1) := by decide +kernel
theorem dL_law_421 : decode cL_law 421 = .ok (.iadd, 1) := by decide +kernel
theorem dL_law_422 : decode cL_law 422 = .ok (.iaload, 1) := by decide +kernel
theorem dL_law_423 : decode cL_law 423 = .ok (.invokevirtual 50, 3) := by decide +kernel
theorem dL_law_426 : decode cL_law 426 = .ok (.aload_n 2, 1) := by decide +kernel
theorem dL_law_427 : decode cL_law 427 = .ok (.aload_n 0, 1) := by decide +kernel
theorem dL_law_428 : decode cL_law 428 = .ok (.iload_n 3, 1) := by decide +kernel
theorem dL_law_429 : decode cL_law 429 = .ok (.iconst 1, 1) := by decide +kernel
theorem dL_law_430 : decode cL_law 430 = .ok (.iadd, 1) := by decide +kernel
theorem dL_law_431 : decode cL_law 431 = .ok (.iaload, 1) := by decide +kernel
theorem dL_law_432 : decode cL_law 432 = .ok (.aload_n 0, 1) := by decide +kernel
theorem dL_law_433 : decode cL_law 433 = .ok (.iload_n 3, 1) := by decide +kernel
end
section
set_option maxRecDepth 100000
theorem dL_law_434 : decode cL_law 434 = .ok (.iconst 2, 1) := by decide +kernel
theorem dL_law_435 : decode cL_law 435 = .ok (.iadd, 1) := by decide +kernel
theorem dL_law_436 : decode cL_law 436 = .ok (.iaload, 1) := by decide +kernel
theorem dL_law_437 : decode cL_law 437 = .ok (.invokevirtual 53, 3) := by decide +kernel
theorem dL_law_440 : decode cL_law 440 = .ok (.if_icmp .eq 338, 3) := by decide +kernel
theorem dL_law_443 : decode cL_law 443 = .ok (.iconst 0, 1) := by decide +kernel
theorem dL_law_444 : decode cL_law 444 = .ok (.ireturn, 1) := by decide +kernel
theorem dL_law_445 : decode cL_law 445 = .ok (.aload_n 1, 1) := by decide +kernel
theorem dL_law_446 : decode cL_law 446 = .ok (.aload_n 0, 1) := by decide +kernel
theorem dL_law_447 : decode cL_law 447 = .ok (.iload_n 3, 1) := by decide +kernel
theorem dL_law_448 : decode cL_law 448 = .ok (.iconst 1, 1) := by decide +kernel
theorem dL_law_449 : decode cL_law 449 = .ok (.iadd, 1) := by decide +kernel
theorem dL_law_450 : decode cL_law 450 = .ok (.iaload, 1) := by decide +kernel
theorem dL_law_451 : decode cL_law 451 = .ok (.invokevirtual 54, 3) := by decide +kernel
theorem dL_law_454 : decode cL_law 454 = .ok (.aload_n 2, 1) := by decide +kernel
theorem dL_law_455 : decode cL_law 455 = .ok (.aload_n 0, 1) := by decide +kernel
theorem dL_law_456 : decode cL_law 456 = .ok (.iload_n 3, 1) := by decide +kernel
theorem dL_law_457 : decode cL_law 457 = .ok (.iconst 1, 1) := by decide +kernel
theorem dL_law_458 : decode cL_law 458 = .ok (.iadd, 1) := by decide +kernel
theorem dL_law_459 : decode cL_law 459 = .ok (.iaload, 1) := by decide +kernel
theorem dL_law_460 : decode cL_law 460 = .ok (.invokevirtual 57, 3) := by decide +kernel
theorem dL_law_463 : decode cL_law 463 = .ok (.if_icmp .eq 315, 3) := by decide +kernel
theorem dL_law_466 : decode cL_law 466 = .ok (.iconst 0, 1) := by decide +kernel
theorem dL_law_467 : decode cL_law 467 = .ok (.ireturn, 1) := by decide +kernel
theorem dL_law_468 : decode cL_law 468 = .ok (.aload_n 1, 1) := by decide +kernel
theorem dL_law_469 : decode cL_law 469 = .ok (.aload_n 0, 1) := by decide +kernel
theorem dL_law_470 : decode cL_law 470 = .ok (.iload_n 3, 1) := by decide +kernel
theorem dL_law_471 : decode cL_law 471 = .ok (.iconst 1, 1) := by decide +kernel
theorem dL_law_472 : decode cL_law 472 = .ok (.iadd, 1) := by decide +kernel
theorem dL_law_473 : decode cL_law 473 = .ok (.iaload, 1) := by decide +kernel
theorem dL_law_474 : decode cL_law 474 = .ok (.aload_n 0, 1) := by decide +kernel
theorem dL_law_475 : decode cL_law 475 = .ok (.iload_n 3, 1) := by decide +kernel
theorem dL_law_476 : decode cL_law 476 = .ok (.iconst 2, 1) := by decide +kernel
theorem dL_law_477 : decode cL_law 477 = .ok (.iadd, 1) := by decide +kernel
theorem dL_law_478 : decode cL_law 478 = .ok (.iaload, 1) := by decide +kernel
theorem dL_law_479 : decode cL_law 479 = .ok (.invokevirtual 58, 3) := by decide +kernel
theorem dL_law_482 : decode cL_law 482 = .ok (.aload_n 2, 1) := by decide +kernel
theorem dL_law_483 : decode cL_law 483 = .ok (.aload_n 0, 1) := by decide +kernel
theorem dL_law_484 : decode cL_law 484 = .ok (.iload_n 3, 1) := by decide +kernel
theorem dL_law_485 : decode cL_law 485 = .ok (.iconst 1, 1) := by decide +kernel
theorem dL_law_486 : decode cL_law 486 = .ok (.iadd, 1) := by decide +kernel
theorem dL_law_487 : decode cL_law 487 = .ok (.iaload, 1) := by decide +kernel
theorem dL_law_488 : decode cL_law 488 = .ok (.aload_n 0, 1) := by decide +kernel
theorem dL_law_489 : decode cL_law 489 = .ok (.iload_n 3, 1) := by decide +kernel
theorem dL_law_490 : decode cL_law 490 = .ok (.iconst 2, 1) := by decide +kernel
theorem dL_law_491 : decode cL_law 491 = .ok (.iadd, 1) := by decide +kernel
theorem dL_law_492 : decode cL_law 492 = .ok (.iaload, 1) := by decide +kernel
theorem dL_law_493 : decode cL_law 493 = .ok (.invokevirtual 61, 3) := by decide +kernel
theorem dL_law_496 : decode cL_law 496 = .ok (.if_icmp .eq 282, 3) := by decide +kernel
theorem dL_law_499 : decode cL_law 499 = .ok (.iconst 0, 1) := by decide +kernel
theorem dL_law_500 : decode cL_law 500 = .ok (.ireturn, 1) := by decide +kernel
theorem dL_law_501 : decode cL_law 501 = .ok (.aload_n 1, 1) := by decide +kernel
theorem dL_law_502 : decode cL_law 502 = .ok (.aload_n 0, 1) := by decide +kernel
theorem dL_law_503 : decode cL_law 503 = .ok (.iload_n 3, 1) := by decide +kernel
theorem dL_law_504 : decode cL_law 504 = .ok (.iconst 1, 1) := by decide +kernel
theorem dL_law_505 : decode cL_law 505 = .ok (.iadd, 1) := by decide +kernel
theorem dL_law_506 : decode cL_law 506 = .ok (.iaload, 1) := by decide +kernel
theorem dL_law_507 : decode cL_law 507 = .ok (.aload_n 0, 1) := by decide +kernel
theorem dL_law_508 : decode cL_law 508 = .ok (.iload_n 3, 1) := by decide +kernel
theorem dL_law_509 : decode cL_law 509 = .ok (.iconst 2, 1) := by decide +kernel
theorem dL_law_510 : decode cL_law 510 = .ok (.iadd, 1) := by decide +kernel
theorem dL_law_511 : decode cL_law 511 = .ok (.iaload, 1) := by decide +kernel
theorem dL_law_512 : decode cL_law 512 = .ok (.invokevirtual 62, 3) := by decide +kernel
theorem dL_law_515 : decode cL_law 515 = .ok (.aload_n 2, 1) := by decide +kernel
theorem dL_law_516 : decode cL_law 516 = .ok (.aload_n 0, 1) := by decide +kernel
theorem dL_law_517 : decode cL_law 517 = .ok (.iload_n 3, 1) := by decide +kernel
theorem dL_law_518 : decode cL_law 518 = .ok (.iconst 1, 1) := by decide +kernel
theorem dL_law_519 : decode cL_law 519 = .ok (.iadd, 1) := by decide +kernel
theorem dL_law_520 : decode cL_law 520 = .ok (.iaload, 1) := by decide +kernel
theorem dL_law_521 : decode cL_law 521 = .ok (.aload_n 0, 1) := by decide +kernel
theorem dL_law_522 : decode cL_law 522 = .ok (.iload_n 3, 1) := by decide +kernel
theorem dL_law_523 : decode cL_law 523 = .ok (.iconst 2, 1) := by decide +kernel
theorem dL_law_524 : decode cL_law 524 = .ok (.iadd, 1) := by decide +kernel
theorem dL_law_525 : decode cL_law 525 = .ok (.iaload, 1) := by decide +kernel
theorem dL_law_526 : decode cL_law 526 = .ok (.invokevirtual 65, 3) := by decide +kernel
theorem dL_law_529 : decode cL_law 529 = .ok (.if_icmp .eq 249, 3) := by decide +kernel
theorem dL_law_532 : decode cL_law 532 = .ok (.iconst 0, 1) := by decide +kernel
theorem dL_law_533 : decode cL_law 533 = .ok (.ireturn, 1) := by decide +kernel
theorem dL_law_534 : decode cL_law 534 = .ok (.aload_n 1, 1) := by decide +kernel
theorem dL_law_535 : decode cL_law 535 = .ok (.aload_n 0, 1) := by decide +kernel
theorem dL_law_536 : decode cL_law 536 = .ok (.iload_n 3, 1) := by decide +kernel
theorem dL_law_537 : decode cL_law 537 = .ok (.iconst 1, 1) := by decide +kernel
theorem dL_law_538 : decode cL_law 538 = .ok (.iadd, 1) := by decide +kernel
theorem dL_law_539 : decode cL_law 539 = .ok (.iaload, 1) := by decide +kernel
theorem dL_law_540 : decode cL_law 540 = .ok (.invokevirtual 66, 3) := by decide +kernel
theorem dL_law_543 : decode cL_law 543 = .ok (.aload_n 2, 1) := by decide +kernel
theorem dL_law_544 : decode cL_law 544 = .ok (.aload_n 0, 1) := by decide +kernel
theorem dL_law_545 : decode cL_law 545 = .ok (.iload_n 3, 1) := by decide +kernel
theorem dL_law_546 : decode cL_law 546 = .ok (.iconst 1, 1) := by decide +kernel
theorem dL_law_547 : decode cL_law 547 = .ok (.iadd, 1) := by decide +kernel
theorem dL_law_548 : decode cL_law 548 = .ok (.iaload, 1) := by decide +kernel
theorem dL_law_549 : decode cL_law 549 = .ok (.invokevirtual 69, 3) := by decide +kernel
theorem dL_law_552 : decode cL_law 552 = .ok (.if_icmp .eq 226, 3) := by decide +kernel
theorem dL_law_555 : decode cL_law 555 = .ok (.iconst 0, 1) := by decide +kernel
theorem dL_law_556 : decode cL_law 556 = .ok (.ireturn, 1) := by decide +kernel
theorem dL_law_557 : decode cL_law 557 = .ok (.aload_n 1, 1) := by decide +kernel
theorem dL_law_558 : decode cL_law 558 = .ok (.aload_n 0, 1) := by decide +kernel
theorem dL_law_559 : decode cL_law 559 = .ok (.iload_n 3, 1) := by decide +kernel
theorem dL_law_560 : decode cL_law 560 = .ok (.iconst 1, 1) := by decide +kernel
theorem dL_law_561 : decode cL_law 561 = .ok (.iadd, 1) := by decide +kernel
theorem dL_law_562 : decode cL_law 562 = .ok (.iaload, 1) := by decide +kernel
theorem dL_law_563 : decode cL_law 563 = .ok (.aload_n 0, 1) := by decide +kernel
theorem dL_law_564 : decode cL_law 564 = .ok (.iload_n 3, 1) := by decide +kernel
theorem dL_law_565 : decode cL_law 565 = .ok (.iconst 2, 1) := by decide +kernel
theorem dL_law_566 : decode cL_law 566 = .ok (.iadd, 1) := by decide +kernel
theorem dL_law_567 : decode cL_law 567 = .ok (.iaload, 1) := by decide +kernel
theorem dL_law_568 : decode cL_law 568 = .ok (.invokevirtual 70, 3) := by decide +kernel
theorem dL_law_571 : decode cL_law 571 = .ok (.aload_n 2, 1) := by decide +kernel
theorem dL_law_572 : decode cL_law 572 = .ok (.aload_n 0, 1) := by decide +kernel
theorem dL_law_573 : decode cL_law 573 = .ok (.iload_n 3, 1) := by decide +kernel
theorem dL_law_574 : decode cL_law 574 = .ok (.iconst 1, 1) := by decide +kernel
theorem dL_law_575 : decode cL_law 575 = .ok (.iadd, 1) := by decide +kernel
theorem dL_law_576 : decode cL_law 576 = .ok (.iaload, 1) := by decide +kernel
theorem dL_law_577 : decode cL_law 577 = .ok (.aload_n 0, 1) := by decide +kernel
theorem dL_law_578 : decode cL_law 578 = .ok (.iload_n 3, 1) := by decide +kernel
theorem dL_law_579 : decode cL_law 579 = .ok (.iconst 2, 1) := by decide +kernel
theorem dL_law_580 : decode cL_law 580 = .ok (.iadd, 1) := by decide +kernel
theorem dL_law_581 : decode cL_law 581 = .ok (.iaload, 1) := by decide +kernel
theorem dL_law_582 : decode cL_law 582 = .ok (.invokevirtual 73, 3) := by decide +kernel
theorem dL_law_585 : decode cL_law 585 = .ok (.if_icmp .eq 193, 3) := by decide +kernel
theorem dL_law_588 : decode cL_law 588 = .ok (.iconst 0, 1) := by decide +kernel
theorem dL_law_589 : decode cL_law 589 = .ok (.ireturn, 1) := by decide +kernel
theorem dL_law_590 : decode cL_law 590 = .ok (.aload_n 1, 1) := by decide +kernel
theorem dL_law_591 : decode cL_law 591 = .ok (.aload_n 0, 1) := by decide +kernel
theorem dL_law_592 : decode cL_law 592 = .ok (.iload_n 3, 1) := by decide +kernel
theorem dL_law_593 : decode cL_law 593 = .ok (.iconst 1, 1) := by decide +kernel
theorem dL_law_594 : decode cL_law 594 = .ok (.iadd, 1) := by decide +kernel
theorem dL_law_595 : decode cL_law 595 = .ok (.iaload, 1) := by decide +kernel
theorem dL_law_596 : decode cL_law 596 = .ok (.aload_n 0, 1) := by decide +kernel
theorem dL_law_597 : decode cL_law 597 = .ok (.iload_n 3, 1) := by decide +kernel
theorem dL_law_598 : decode cL_law 598 = .ok (.iconst 2, 1) := by decide +kernel
theorem dL_law_599 : decode cL_law 599 = .ok (.iadd, 1) := by decide +kernel
theorem dL_law_600 : decode cL_law 600 = .ok (.iaload, 1) := by decide +kernel
theorem dL_law_601 : decode cL_law 601 = .ok (.invokevirtual 74, 3) := by decide +kernel
theorem dL_law_604 : decode cL_law 604 = .ok (.aload_n 2, 1) := by decide +kernel
theorem dL_law_605 : decode cL_law 605 = .ok (.aload_n 0, 1) := by decide +kernel
theorem dL_law_606 : decode cL_law 606 = .ok (.iload_n 3, 1) := by decide +kernel
theorem dL_law_607 : decode cL_law 607 = .ok (.iconst 1, 1) := by decide +kernel
theorem dL_law_608 : decode cL_law 608 = .ok (.iadd, 1) := by decide +kernel
end
section
set_option maxRecDepth 100000
theorem dL_law_609 : decode cL_law 609 = .ok (.iaload, 1) := by decide +kernel
theorem dL_law_610 : decode cL_law 610 = .ok (.aload_n 0, 1) := by decide +kernel
theorem dL_law_611 : decode cL_law 611 = .ok (.iload_n 3, 1) := by decide +kernel
theorem dL_law_612 : decode cL_law 612 = .ok (.iconst 2, 1) := by decide +kernel
theorem dL_law_613 : decode cL_law 613 = .ok (.iadd, 1) := by decide +kernel
theorem dL_law_614 : decode cL_law 614 = .ok (.iaload, 1) := by decide +kernel
theorem dL_law_615 : decode cL_law 615 = .ok (.invokevirtual 77, 3) := by decide +kernel
theorem dL_law_618 : decode cL_law 618 = .ok (.if_icmp .eq 160, 3) := by decide +kernel
theorem dL_law_621 : decode cL_law 621 = .ok (.iconst 0, 1) := by decide +kernel
theorem dL_law_622 : decode cL_law 622 = .ok (.ireturn, 1) := by decide +kernel
theorem dL_law_623 : decode cL_law 623 = .ok (.aload_n 1, 1) := by decide +kernel
theorem dL_law_624 : decode cL_law 624 = .ok (.aload_n 0, 1) := by decide +kernel
theorem dL_law_625 : decode cL_law 625 = .ok (.iload_n 3, 1) := by decide +kernel
theorem dL_law_626 : decode cL_law 626 = .ok (.iconst 1, 1) := by decide +kernel
theorem dL_law_627 : decode cL_law 627 = .ok (.iadd, 1) := by decide +kernel
theorem dL_law_628 : decode cL_law 628 = .ok (.iaload, 1) := by decide +kernel
theorem dL_law_629 : decode cL_law 629 = .ok (.aload_n 0, 1) := by decide +kernel
theorem dL_law_630 : decode cL_law 630 = .ok (.iload_n 3, 1) := by decide +kernel
theorem dL_law_631 : decode cL_law 631 = .ok (.iconst 2, 1) := by decide +kernel
theorem dL_law_632 : decode cL_law 632 = .ok (.iadd, 1) := by decide +kernel
theorem dL_law_633 : decode cL_law 633 = .ok (.iaload, 1) := by decide +kernel
theorem dL_law_634 : decode cL_law 634 = .ok (.invokevirtual 78, 3) := by decide +kernel
theorem dL_law_637 : decode cL_law 637 = .ok (.aload_n 2, 1) := by decide +kernel
theorem dL_law_638 : decode cL_law 638 = .ok (.aload_n 0, 1) := by decide +kernel
theorem dL_law_639 : decode cL_law 639 = .ok (.iload_n 3, 1) := by decide +kernel
theorem dL_law_640 : decode cL_law 640 = .ok (.iconst 1, 1) := by decide +kernel
theorem dL_law_641 : decode cL_law 641 = .ok (.iadd, 1) := by decide +kernel
theorem dL_law_642 : decode cL_law 642 = .ok (.iaload, 1) := by decide +kernel
theorem dL_law_643 : decode cL_law 643 = .ok (.aload_n 0, 1) := by decide +kernel
theorem dL_law_644 : decode cL_law 644 = .ok (.iload_n 3, 1) := by decide +kernel
theorem dL_law_645 : decode cL_law 645 = .ok (.iconst 2, 1) := by decide +kernel
theorem dL_law_646 : decode cL_law 646 = .ok (.iadd, 1) := by decide +kernel
theorem dL_law_647 : decode cL_law 647 = .ok (.iaload, 1) := by decide +kernel
theorem dL_law_648 : decode cL_law 648 = .ok (.invokevirtual 81, 3) := by decide +kernel
theorem dL_law_651 : decode cL_law 651 = .ok (.if_icmp .eq 127, 3) := by decide +kernel
theorem dL_law_654 : decode cL_law 654 = .ok (.iconst 0, 1) := by decide +kernel
theorem dL_law_655 : decode cL_law 655 = .ok (.ireturn, 1) := by decide +kernel
theorem dL_law_656 : decode cL_law 656 = .ok (.aload_n 1, 1) := by decide +kernel
theorem dL_law_657 : decode cL_law 657 = .ok (.aload_n 0, 1) := by decide +kernel
theorem dL_law_658 : decode cL_law 658 = .ok (.iload_n 3, 1) := by decide +kernel
theorem dL_law_659 : decode cL_law 659 = .ok (.iconst 1, 1) := by decide +kernel
theorem dL_law_660 : decode cL_law 660 = .ok (.iadd, 1) := by decide +kernel
theorem dL_law_661 : decode cL_law 661 = .ok (.iaload, 1) := by decide +kernel
theorem dL_law_662 : decode cL_law 662 = .ok (.aload_n 0, 1) := by decide +kernel
theorem dL_law_663 : decode cL_law 663 = .ok (.iload_n 3, 1) := by decide +kernel
theorem dL_law_664 : decode cL_law 664 = .ok (.iconst 2, 1) := by decide +kernel
theorem dL_law_665 : decode cL_law 665 = .ok (.iadd, 1) := by decide +kernel
theorem dL_law_666 : decode cL_law 666 = .ok (.iaload, 1) := by decide +kernel
theorem dL_law_667 : decode cL_law 667 = .ok (.aload_n 0, 1) := by decide +kernel
theorem dL_law_668 : decode cL_law 668 = .ok (.iload_n 3, 1) := by decide +kernel
theorem dL_law_669 : decode cL_law 669 = .ok (.iconst 3, 1) := by decide +kernel
theorem dL_law_670 : decode cL_law 670 = .ok (.iadd, 1) := by decide +kernel
theorem dL_law_671 : decode cL_law 671 = .ok (.iaload, 1) := by decide +kernel
theorem dL_law_672 : decode cL_law 672 = .ok (.invokevirtual 82, 3) := by decide +kernel
theorem dL_law_675 : decode cL_law 675 = .ok (.aload_n 2, 1) := by decide +kernel
theorem dL_law_676 : decode cL_law 676 = .ok (.aload_n 0, 1) := by decide +kernel
theorem dL_law_677 : decode cL_law 677 = .ok (.iload_n 3, 1) := by decide +kernel
theorem dL_law_678 : decode cL_law 678 = .ok (.iconst 1, 1) := by decide +kernel
theorem dL_law_679 : decode cL_law 679 = .ok (.iadd, 1) := by decide +kernel
theorem dL_law_680 : decode cL_law 680 = .ok (.iaload, 1) := by decide +kernel
theorem dL_law_681 : decode cL_law 681 = .ok (.aload_n 0, 1) := by decide +kernel
theorem dL_law_682 : decode cL_law 682 = .ok (.iload_n 3, 1) := by decide +kernel
theorem dL_law_683 : decode cL_law 683 = .ok (.iconst 2, 1) := by decide +kernel
theorem dL_law_684 : decode cL_law 684 = .ok (.iadd, 1) := by decide +kernel
theorem dL_law_685 : decode cL_law 685 = .ok (.iaload, 1) := by decide +kernel
theorem dL_law_686 : decode cL_law 686 = .ok (.aload_n 0, 1) := by decide +kernel
theorem dL_law_687 : decode cL_law 687 = .ok (.iload_n 3, 1) := by decide +kernel
theorem dL_law_688 : decode cL_law 688 = .ok (.iconst 3, 1) := by decide +kernel
theorem dL_law_689 : decode cL_law 689 = .ok (.iadd, 1) := by decide +kernel
theorem dL_law_690 : decode cL_law 690 = .ok (.iaload, 1) := by decide +kernel
theorem dL_law_691 : decode cL_law 691 = .ok (.invokevirtual 85, 3) := by decide +kernel
theorem dL_law_694 : decode cL_law 694 = .ok (.if_icmp .eq 84, 3) := by decide +kernel
theorem dL_law_697 : decode cL_law 697 = .ok (.iconst 0, 1) := by decide +kernel
theorem dL_law_698 : decode cL_law 698 = .ok (.ireturn, 1) := by decide +kernel
theorem dL_law_699 : decode cL_law 699 = .ok (.aload_n 1, 1) := by decide +kernel
theorem dL_law_700 : decode cL_law 700 = .ok (.aload_n 0, 1) := by decide +kernel
theorem dL_law_701 : decode cL_law 701 = .ok (.iload_n 3, 1) := by decide +kernel
theorem dL_law_702 : decode cL_law 702 = .ok (.iconst 1, 1) := by decide +kernel
theorem dL_law_703 : decode cL_law 703 = .ok (.iadd, 1) := by decide +kernel
theorem dL_law_704 : decode cL_law 704 = .ok (.iaload, 1) := by decide +kernel
theorem dL_law_705 : decode cL_law 705 = .ok (.aload_n 0, 1) := by decide +kernel
theorem dL_law_706 : decode cL_law 706 = .ok (.iload_n 3, 1) := by decide +kernel
theorem dL_law_707 : decode cL_law 707 = .ok (.iconst 2, 1) := by decide +kernel
theorem dL_law_708 : decode cL_law 708 = .ok (.iadd, 1) := by decide +kernel
theorem dL_law_709 : decode cL_law 709 = .ok (.iaload, 1) := by decide +kernel
theorem dL_law_710 : decode cL_law 710 = .ok (.invokevirtual 86, 3) := by decide +kernel
theorem dL_law_713 : decode cL_law 713 = .ok (.aload_n 2, 1) := by decide +kernel
theorem dL_law_714 : decode cL_law 714 = .ok (.aload_n 0, 1) := by decide +kernel
theorem dL_law_715 : decode cL_law 715 = .ok (.iload_n 3, 1) := by decide +kernel
theorem dL_law_716 : decode cL_law 716 = .ok (.iconst 1, 1) := by decide +kernel
theorem dL_law_717 : decode cL_law 717 = .ok (.iadd, 1) := by decide +kernel
theorem dL_law_718 : decode cL_law 718 = .ok (.iaload, 1) := by decide +kernel
theorem dL_law_719 : decode cL_law 719 = .ok (.aload_n 0, 1) := by decide +kernel
theorem dL_law_720 : decode cL_law 720 = .ok (.iload_n 3, 1) := by decide +kernel
theorem dL_law_721 : decode cL_law 721 = .ok (.iconst 2, 1) := by decide +kernel
theorem dL_law_722 : decode cL_law 722 = .ok (.iadd, 1) := by decide +kernel
theorem dL_law_723 : decode cL_law 723 = .ok (.iaload, 1) := by decide +kernel
theorem dL_law_724 : decode cL_law 724 = .ok (.invokevirtual 89, 3) := by decide +kernel
theorem dL_law_727 : decode cL_law 727 = .ok (.if_icmp .eq 51, 3) := by decide +kernel
theorem dL_law_730 : decode cL_law 730 = .ok (.iconst 0, 1) := by decide +kernel
theorem dL_law_731 : decode cL_law 731 = .ok (.ireturn, 1) := by decide +kernel
theorem dL_law_732 : decode cL_law 732 = .ok (.aload_n 1, 1) := by decide +kernel
theorem dL_law_733 : decode cL_law 733 = .ok (.aload_n 0, 1) := by decide +kernel
theorem dL_law_734 : decode cL_law 734 = .ok (.iload_n 3, 1) := by decide +kernel
theorem dL_law_735 : decode cL_law 735 = .ok (.iconst 1, 1) := by decide +kernel
theorem dL_law_736 : decode cL_law 736 = .ok (.iadd, 1) := by decide +kernel
theorem dL_law_737 : decode cL_law 737 = .ok (.iaload, 1) := by decide +kernel
theorem dL_law_738 : decode cL_law 738 = .ok (.invokevirtual 90, 3) := by decide +kernel
theorem dL_law_741 : decode cL_law 741 = .ok (.aload_n 2, 1) := by decide +kernel
theorem dL_law_742 : decode cL_law 742 = .ok (.aload_n 0, 1) := by decide +kernel
theorem dL_law_743 : decode cL_law 743 = .ok (.iload_n 3, 1) := by decide +kernel
theorem dL_law_744 : decode cL_law 744 = .ok (.iconst 1, 1) := by decide +kernel
theorem dL_law_745 : decode cL_law 745 = .ok (.iadd, 1) := by decide +kernel
theorem dL_law_746 : decode cL_law 746 = .ok (.iaload, 1) := by decide +kernel
theorem dL_law_747 : decode cL_law 747 = .ok (.invokevirtual 93, 3) := by decide +kernel
theorem dL_law_750 : decode cL_law 750 = .ok (.if_icmp .eq 28, 3) := by decide +kernel
theorem dL_law_753 : decode cL_law 753 = .ok (.iconst 0, 1) := by decide +kernel
theorem dL_law_754 : decode cL_law 754 = .ok (.ireturn, 1) := by decide +kernel
theorem dL_law_755 : decode cL_law 755 = .ok (.aload_n 1, 1) := by decide +kernel
theorem dL_law_756 : decode cL_law 756 = .ok (.aload_n 0, 1) := by decide +kernel
theorem dL_law_757 : decode cL_law 757 = .ok (.iload_n 3, 1) := by decide +kernel
theorem dL_law_758 : decode cL_law 758 = .ok (.iconst 1, 1) := by decide +kernel
theorem dL_law_759 : decode cL_law 759 = .ok (.iadd, 1) := by decide +kernel
theorem dL_law_760 : decode cL_law 760 = .ok (.iaload, 1) := by decide +kernel
theorem dL_law_761 : decode cL_law 761 = .ok (.invokevirtual 94, 3) := by decide +kernel
theorem dL_law_764 : decode cL_law 764 = .ok (.aload_n 2, 1) := by decide +kernel
theorem dL_law_765 : decode cL_law 765 = .ok (.aload_n 0, 1) := by decide +kernel
theorem dL_law_766 : decode cL_law 766 = .ok (.iload_n 3, 1) := by decide +kernel
theorem dL_law_767 : decode cL_law 767 = .ok (.iconst 1, 1) := by decide +kernel
theorem dL_law_768 : decode cL_law 768 = .ok (.iadd, 1) := by decide +kernel
theorem dL_law_769 : decode cL_law 769 = .ok (.iaload, 1) := by decide +kernel
theorem dL_law_770 : decode cL_law 770 = .ok (.invokevirtual 97, 3) := by decide +kernel
theorem dL_law_773 : decode cL_law 773 = .ok (.if_icmp .eq 5, 3) := by decide +kernel
theorem dL_law_776 : decode cL_law 776 = .ok (.iconst 0, 1) := by decide +kernel
theorem dL_law_777 : decode cL_law 777 = .ok (.ireturn, 1) := by decide +kernel
theorem dL_law_778 : decode cL_law 778 = .ok (.iinc 3 5, 3) := by decide +kernel
theorem dL_law_781 : decode cL_law 781 = .ok (.goto (-763), 3) := by decide +kernel
theorem dL_law_784 : decode cL_law 784 = .ok (.iconst 1, 1) := by decide +kernel
theorem dL_law_785 : decode cL_law 785 = .ok (.ireturn, 1) := by decide +kernel
end
section
/-! ===== the law's cases: the class and the reference answer alike ===== -/
theorem sp_next_uniq {b : pm_AB} {v f r r' : Int32} (h : sp_next b v f r) (h' : sp_next b v f r') : r = r' := by
  by_cases c : sp_ok b.1 v
  · exact pm_first_uniq (h.2 c) (h'.2 c)
  · rw [h.1 c, h'.1 c]
theorem sp_previous_uniq {b : pm_AB} {v f r r' : Int32} (h : sp_previous b v f r) (h' : sp_previous b v f r') : r = r' := by
  by_cases c : sp_ok b.1 v
  · exact pm_final_uniq (h.2 c) (h'.2 c)
  · rw [h.1 c, h'.1 c]
theorem sp_select_uniq {b : pm_AB} {v f r r' : Int32} (h : sp_select b v f r) (h' : sp_select b v f r') : r = r' := by
  by_cases c : sp_ok b.1 v
  · exact pm_first_uniq (h.2 c) (h'.2 c)
  · rw [h.1 c, h'.1 c]
section PMLA
variable {p : Program} {l : Launch} {e : Env} {s : State} {m : MethodId} {below : List Frame} {meth : Method} {c : Code} {H : Heap} {locs : List Loc} {cells slots : Nat} {Q : State → Prop}
variable {ls : Array Slot} {D : va_G} {q q2 : Nat → Nat} {a a2 : Nat → ClassId} {u : pm_S0} {u2 : pm_S1} {b L i : Nat} {xs : Nat → Int32} {B : pm_AB}
set_option maxHeartbeats 4000000 in
set_option maxRecDepth 100000 in
theorem law_put (F : CallFix p m c cL_law 4 s #[Value.ref b] lw_all R_law) (hX : va_X b L xs s s.heap) (hbl : b < s.heap.size) (hL : L ≤ 320) (hcs : cells ≤ room_1.cells ∧ slots ≤ room_1.slots) (hi : i + 5 ≤ L) (hY : pm_Y D s q q2 a a2 u u2 H locs) (h0 : pm_Rc u.1 B) (h1 : pm_R1 u2 B) (hl : lv_has ls 4 [(0, .ref b), (1, .ref (q 0)), (2, .ref (q2 0)), (3, .int (nI i))])
    (kk : ∀ (u : pm_S0) (u2 : pm_S1) (B : pm_AB) (H : Heap) (locs : List Loc), pm_Y D s q q2 a a2 u u2 H locs → pm_Rc u.1 B → pm_R1 u2 B → W p l e room_1 s m #[Value.ref b] below meth c H locs cells slots Q (F0 m 778 ls [])) :
    W p l e room_1 s m #[Value.ref b] below meth c H locs cells slots Q (F0 m 128 ls []) := by
  have hx := F.1
  have hb := F.2.1
  have hbA : ¬ (fun x : Nat => s.heap.size ≤ x) b := Nat.not_le.mpr hbl
  obtain ⟨ne, hne, hI⟩ := id h0
  refine lv_aload_n hx hb dL_law_128 rfl (lv_at hl 1 rfl) ?_
  refine lv_aload_n hx hb dL_law_129 rfl (lv_at hl 0 rfl) ?_
  refine lv_iload_n hx hb dL_law_130 rfl (lv_at hl 3 rfl) ?_
  refine lv_iconst (v := nI 1) hx hb dL_law_131 (by decide) ?_
  refine lv_iadd hx hb dL_law_132 ?_
  refine pm_top (y := nI (i + 1)) (nI_add _ _) ?_
  refine va_sld hx hb hX hbl hbA hY.2.2.2 (vp_in_nI (by omega) (by omega)) dL_law_133 ?_
  refine lv_aload_n hx hb dL_law_134 rfl (lv_at hl 0 rfl) ?_
  refine lv_iload_n hx hb dL_law_135 rfl (lv_at hl 3 rfl) ?_
  refine lv_iconst (v := nI 2) hx hb dL_law_136 (by decide) ?_
  refine lv_iadd hx hb dL_law_137 ?_
  refine pm_top (y := nI (i + 2)) (nI_add _ _) ?_
  refine va_sld hx hb hX hbl hbA hY.2.2.2 (vp_in_nI (by omega) (by omega)) dL_law_138 ?_
  refine lv_aload_n hx hb dL_law_139 rfl (lv_at hl 0 rfl) ?_
  refine lv_iload_n hx hb dL_law_140 rfl (lv_at hl 3 rfl) ?_
  refine lv_iconst (v := nI 3) hx hb dL_law_141 (by decide) ?_
  refine lv_iadd hx hb dL_law_142 ?_
  refine pm_top (y := nI (i + 3)) (nI_add _ _) ?_
  refine va_sld hx hb hX hbl hbA hY.2.2.2 (vp_in_nI (by omega) (by omega)) dL_law_143 ?_
  refine pm_law0 (rest := []) (As := [.int (xs (nI (i + 1)).toNatClampNeg), .int (xs (nI (i + 2)).toNatClampNeg), .int (xs (nI (i + 3)).toNatClampNeg)]) F hY (c0_put l D q a u hI hne (xs (nI (i + 1)).toNatClampNeg) (xs (nI (i + 2)).toNatClampNeg) (xs (nI (i + 3)).toNatClampNeg)) hL0_put hd0_put ⟨⟨rfl, rfl⟩, Nat.le_of_ble_eq_true rfl, Nat.le_of_ble_eq_true rfl⟩ rfl rfl hl.1 (Nat.le_of_ble_eq_true rfl) dL_law_144 hcs (fun r0 z0 H locs hw0 hY => ?_)
  refine lv_aload_n hx hb dL_law_147 rfl (lv_at hl 2 rfl) ?_
  refine lv_aload_n hx hb dL_law_148 rfl (lv_at hl 0 rfl) ?_
  refine lv_iload_n hx hb dL_law_149 rfl (lv_at hl 3 rfl) ?_
  refine lv_iconst (v := nI 1) hx hb dL_law_150 (by decide) ?_
  refine lv_iadd hx hb dL_law_151 ?_
  refine pm_top (y := nI (i + 1)) (nI_add _ _) ?_
  refine va_sld hx hb hX hbl hbA hY.2.2.2 (vp_in_nI (by omega) (by omega)) dL_law_152 ?_
  refine lv_aload_n hx hb dL_law_153 rfl (lv_at hl 0 rfl) ?_
  refine lv_iload_n hx hb dL_law_154 rfl (lv_at hl 3 rfl) ?_
  refine lv_iconst (v := nI 2) hx hb dL_law_155 (by decide) ?_
  refine lv_iadd hx hb dL_law_156 ?_
  refine pm_top (y := nI (i + 2)) (nI_add _ _) ?_
  refine va_sld hx hb hX hbl hbA hY.2.2.2 (vp_in_nI (by omega) (by omega)) dL_law_157 ?_
  refine lv_aload_n hx hb dL_law_158 rfl (lv_at hl 0 rfl) ?_
  refine lv_iload_n hx hb dL_law_159 rfl (lv_at hl 3 rfl) ?_
  refine lv_iconst (v := nI 3) hx hb dL_law_160 (by decide) ?_
  refine lv_iadd hx hb dL_law_161 ?_
  refine pm_top (y := nI (i + 3)) (nI_add _ _) ?_
  refine va_sld hx hb hX hbl hbA hY.2.2.2 (vp_in_nI (by omega) (by omega)) dL_law_162 ?_
  refine pm_law1 (rest := [.int r0]) (As := [.int (xs (nI (i + 1)).toNatClampNeg), .int (xs (nI (i + 2)).toNatClampNeg), .int (xs (nI (i + 3)).toNatClampNeg)]) F hY (c1_put l D q2 a2 u2 h1 (xs (nI (i + 1)).toNatClampNeg) (xs (nI (i + 2)).toNatClampNeg) (xs (nI (i + 3)).toNatClampNeg)) hL1_put hd1_put ⟨⟨rfl, rfl⟩, Nat.le_of_ble_eq_true rfl, Nat.le_of_ble_eq_true rfl⟩ rfl rfl hl.1 (Nat.le_of_ble_eq_true rfl) dL_law_163 hcs (fun r1 z1 H locs hw1 hY => ?_)
  obtain ⟨B0, hs0, hc0⟩ := hw0
  obtain ⟨B1, hs1, hc1⟩ := hw1
  obtain ⟨hr, hB⟩ := sp_mk_uniq hs0 hs1
  subst hB
  refine lv_icmp_eq (tgt := 778) hx hb dL_law_166 (by decide) (fun hc => ?_) (fun hc => ?_)
  · exact kk _ _ _ _ _ hY hc0 hc1
  · exact absurd hr hc
set_option maxHeartbeats 4000000 in
set_option maxRecDepth 100000 in
theorem law_remove (F : CallFix p m c cL_law 4 s #[Value.ref b] lw_all R_law) (hX : va_X b L xs s s.heap) (hbl : b < s.heap.size) (hL : L ≤ 320) (hcs : cells ≤ room_1.cells ∧ slots ≤ room_1.slots) (hi : i + 5 ≤ L) (hY : pm_Y D s q q2 a a2 u u2 H locs) (h0 : pm_Rc u.1 B) (h1 : pm_R1 u2 B) (hl : lv_has ls 4 [(0, .ref b), (1, .ref (q 0)), (2, .ref (q2 0)), (3, .int (nI i))])
    (kk : ∀ (u : pm_S0) (u2 : pm_S1) (B : pm_AB) (H : Heap) (locs : List Loc), pm_Y D s q q2 a a2 u u2 H locs → pm_Rc u.1 B → pm_R1 u2 B → W p l e room_1 s m #[Value.ref b] below meth c H locs cells slots Q (F0 m 778 ls [])) :
    W p l e room_1 s m #[Value.ref b] below meth c H locs cells slots Q (F0 m 171 ls []) := by
  have hx := F.1
  have hb := F.2.1
  have hbA : ¬ (fun x : Nat => s.heap.size ≤ x) b := Nat.not_le.mpr hbl
  obtain ⟨ne, hne, hI⟩ := id h0
  refine lv_aload_n hx hb dL_law_171 rfl (lv_at hl 1 rfl) ?_
  refine lv_aload_n hx hb dL_law_172 rfl (lv_at hl 0 rfl) ?_
  refine lv_iload_n hx hb dL_law_173 rfl (lv_at hl 3 rfl) ?_
  refine lv_iconst (v := nI 1) hx hb dL_law_174 (by decide) ?_
  refine lv_iadd hx hb dL_law_175 ?_
  refine pm_top (y := nI (i + 1)) (nI_add _ _) ?_
  refine va_sld hx hb hX hbl hbA hY.2.2.2 (vp_in_nI (by omega) (by omega)) dL_law_176 ?_
  refine lv_aload_n hx hb dL_law_177 rfl (lv_at hl 0 rfl) ?_
  refine lv_iload_n hx hb dL_law_178 rfl (lv_at hl 3 rfl) ?_
  refine lv_iconst (v := nI 2) hx hb dL_law_179 (by decide) ?_
  refine lv_iadd hx hb dL_law_180 ?_
  refine pm_top (y := nI (i + 2)) (nI_add _ _) ?_
  refine va_sld hx hb hX hbl hbA hY.2.2.2 (vp_in_nI (by omega) (by omega)) dL_law_181 ?_
  refine pm_law0 (rest := []) (As := [.int (xs (nI (i + 1)).toNatClampNeg), .int (xs (nI (i + 2)).toNatClampNeg)]) F hY (c0_remove l D q a u hI hne (xs (nI (i + 1)).toNatClampNeg) (xs (nI (i + 2)).toNatClampNeg)) hL0_remove hd0_remove ⟨⟨rfl, rfl⟩, Nat.le_of_ble_eq_true rfl, Nat.le_of_ble_eq_true rfl⟩ rfl rfl hl.1 (Nat.le_of_ble_eq_true rfl) dL_law_182 hcs (fun r0 z0 H locs hw0 hY => ?_)
  refine lv_aload_n hx hb dL_law_185 rfl (lv_at hl 2 rfl) ?_
  refine lv_aload_n hx hb dL_law_186 rfl (lv_at hl 0 rfl) ?_
  refine lv_iload_n hx hb dL_law_187 rfl (lv_at hl 3 rfl) ?_
  refine lv_iconst (v := nI 1) hx hb dL_law_188 (by decide) ?_
  refine lv_iadd hx hb dL_law_189 ?_
  refine pm_top (y := nI (i + 1)) (nI_add _ _) ?_
  refine va_sld hx hb hX hbl hbA hY.2.2.2 (vp_in_nI (by omega) (by omega)) dL_law_190 ?_
  refine lv_aload_n hx hb dL_law_191 rfl (lv_at hl 0 rfl) ?_
  refine lv_iload_n hx hb dL_law_192 rfl (lv_at hl 3 rfl) ?_
  refine lv_iconst (v := nI 2) hx hb dL_law_193 (by decide) ?_
  refine lv_iadd hx hb dL_law_194 ?_
  refine pm_top (y := nI (i + 2)) (nI_add _ _) ?_
  refine va_sld hx hb hX hbl hbA hY.2.2.2 (vp_in_nI (by omega) (by omega)) dL_law_195 ?_
  refine pm_law1 (rest := [.int r0]) (As := [.int (xs (nI (i + 1)).toNatClampNeg), .int (xs (nI (i + 2)).toNatClampNeg)]) F hY (c1_remove l D q2 a2 u2 h1 (xs (nI (i + 1)).toNatClampNeg) (xs (nI (i + 2)).toNatClampNeg)) hL1_remove hd1_remove ⟨⟨rfl, rfl⟩, Nat.le_of_ble_eq_true rfl, Nat.le_of_ble_eq_true rfl⟩ rfl rfl hl.1 (Nat.le_of_ble_eq_true rfl) dL_law_196 hcs (fun r1 z1 H locs hw1 hY => ?_)
  obtain ⟨B0, hs0, hc0⟩ := hw0
  obtain ⟨B1, hs1, hc1⟩ := hw1
  obtain ⟨hr, hB⟩ := sp_mk_uniq hs0 hs1
  subst hB
  refine lv_icmp_eq (tgt := 778) hx hb dL_law_199 (by decide) (fun hc => ?_) (fun hc => ?_)
  · exact kk _ _ _ _ _ hY hc0 hc1
  · exact absurd hr hc
set_option maxHeartbeats 4000000 in
set_option maxRecDepth 100000 in
theorem law_fill (F : CallFix p m c cL_law 4 s #[Value.ref b] lw_all R_law) (hX : va_X b L xs s s.heap) (hbl : b < s.heap.size) (hL : L ≤ 320) (hcs : cells ≤ room_1.cells ∧ slots ≤ room_1.slots) (hi : i + 5 ≤ L) (hY : pm_Y D s q q2 a a2 u u2 H locs) (h0 : pm_Rc u.1 B) (h1 : pm_R1 u2 B) (hl : lv_has ls 4 [(0, .ref b), (1, .ref (q 0)), (2, .ref (q2 0)), (3, .int (nI i))])
    (kk : ∀ (u : pm_S0) (u2 : pm_S1) (B : pm_AB) (H : Heap) (locs : List Loc), pm_Y D s q q2 a a2 u u2 H locs → pm_Rc u.1 B → pm_R1 u2 B → W p l e room_1 s m #[Value.ref b] below meth c H locs cells slots Q (F0 m 778 ls [])) :
    W p l e room_1 s m #[Value.ref b] below meth c H locs cells slots Q (F0 m 204 ls []) := by
  have hx := F.1
  have hb := F.2.1
  have hbA : ¬ (fun x : Nat => s.heap.size ≤ x) b := Nat.not_le.mpr hbl
  obtain ⟨ne, hne, hI⟩ := id h0
  refine lv_aload_n hx hb dL_law_204 rfl (lv_at hl 1 rfl) ?_
  refine lv_aload_n hx hb dL_law_205 rfl (lv_at hl 0 rfl) ?_
  refine lv_iload_n hx hb dL_law_206 rfl (lv_at hl 3 rfl) ?_
  refine lv_iconst (v := nI 1) hx hb dL_law_207 (by decide) ?_
  refine lv_iadd hx hb dL_law_208 ?_
  refine pm_top (y := nI (i + 1)) (nI_add _ _) ?_
  refine va_sld hx hb hX hbl hbA hY.2.2.2 (vp_in_nI (by omega) (by omega)) dL_law_209 ?_
  refine lv_aload_n hx hb dL_law_210 rfl (lv_at hl 0 rfl) ?_
  refine lv_iload_n hx hb dL_law_211 rfl (lv_at hl 3 rfl) ?_
  refine lv_iconst (v := nI 2) hx hb dL_law_212 (by decide) ?_
  refine lv_iadd hx hb dL_law_213 ?_
  refine pm_top (y := nI (i + 2)) (nI_add _ _) ?_
  refine va_sld hx hb hX hbl hbA hY.2.2.2 (vp_in_nI (by omega) (by omega)) dL_law_214 ?_
  refine lv_aload_n hx hb dL_law_215 rfl (lv_at hl 0 rfl) ?_
  refine lv_iload_n hx hb dL_law_216 rfl (lv_at hl 3 rfl) ?_
  refine lv_iconst (v := nI 3) hx hb dL_law_217 (by decide) ?_
  refine lv_iadd hx hb dL_law_218 ?_
  refine pm_top (y := nI (i + 3)) (nI_add _ _) ?_
  refine va_sld hx hb hX hbl hbA hY.2.2.2 (vp_in_nI (by omega) (by omega)) dL_law_219 ?_
  refine lv_aload_n hx hb dL_law_220 rfl (lv_at hl 0 rfl) ?_
  refine lv_iload_n hx hb dL_law_221 rfl (lv_at hl 3 rfl) ?_
  refine lv_iconst (v := nI 4) hx hb dL_law_222 (by decide) ?_
  refine lv_iadd hx hb dL_law_223 ?_
  refine pm_top (y := nI (i + 4)) (nI_add _ _) ?_
  refine va_sld hx hb hX hbl hbA hY.2.2.2 (vp_in_nI (by omega) (by omega)) dL_law_224 ?_
  refine pm_law0 (rest := []) (As := [.int (xs (nI (i + 1)).toNatClampNeg), .int (xs (nI (i + 2)).toNatClampNeg), .int (xs (nI (i + 3)).toNatClampNeg), .int (xs (nI (i + 4)).toNatClampNeg)]) F hY (c0_fill l D q a u hI hne (xs (nI (i + 1)).toNatClampNeg) (xs (nI (i + 2)).toNatClampNeg) (xs (nI (i + 3)).toNatClampNeg) (xs (nI (i + 4)).toNatClampNeg)) hL0_fill hd0_fill ⟨⟨rfl, rfl⟩, Nat.le_of_ble_eq_true rfl, Nat.le_of_ble_eq_true rfl⟩ rfl rfl hl.1 (Nat.le_of_ble_eq_true rfl) dL_law_225 hcs (fun r0 z0 H locs hw0 hY => ?_)
  refine lv_aload_n hx hb dL_law_228 rfl (lv_at hl 2 rfl) ?_
  refine lv_aload_n hx hb dL_law_229 rfl (lv_at hl 0 rfl) ?_
  refine lv_iload_n hx hb dL_law_230 rfl (lv_at hl 3 rfl) ?_
  refine lv_iconst (v := nI 1) hx hb dL_law_231 (by decide) ?_
  refine lv_iadd hx hb dL_law_232 ?_
  refine pm_top (y := nI (i + 1)) (nI_add _ _) ?_
  refine va_sld hx hb hX hbl hbA hY.2.2.2 (vp_in_nI (by omega) (by omega)) dL_law_233 ?_
  refine lv_aload_n hx hb dL_law_234 rfl (lv_at hl 0 rfl) ?_
  refine lv_iload_n hx hb dL_law_235 rfl (lv_at hl 3 rfl) ?_
  refine lv_iconst (v := nI 2) hx hb dL_law_236 (by decide) ?_
  refine lv_iadd hx hb dL_law_237 ?_
  refine pm_top (y := nI (i + 2)) (nI_add _ _) ?_
  refine va_sld hx hb hX hbl hbA hY.2.2.2 (vp_in_nI (by omega) (by omega)) dL_law_238 ?_
  refine lv_aload_n hx hb dL_law_239 rfl (lv_at hl 0 rfl) ?_
  refine lv_iload_n hx hb dL_law_240 rfl (lv_at hl 3 rfl) ?_
  refine lv_iconst (v := nI 3) hx hb dL_law_241 (by decide) ?_
  refine lv_iadd hx hb dL_law_242 ?_
  refine pm_top (y := nI (i + 3)) (nI_add _ _) ?_
  refine va_sld hx hb hX hbl hbA hY.2.2.2 (vp_in_nI (by omega) (by omega)) dL_law_243 ?_
  refine lv_aload_n hx hb dL_law_244 rfl (lv_at hl 0 rfl) ?_
  refine lv_iload_n hx hb dL_law_245 rfl (lv_at hl 3 rfl) ?_
  refine lv_iconst (v := nI 4) hx hb dL_law_246 (by decide) ?_
  refine lv_iadd hx hb dL_law_247 ?_
  refine pm_top (y := nI (i + 4)) (nI_add _ _) ?_
  refine va_sld hx hb hX hbl hbA hY.2.2.2 (vp_in_nI (by omega) (by omega)) dL_law_248 ?_
  refine pm_law1 (rest := [.int r0]) (As := [.int (xs (nI (i + 1)).toNatClampNeg), .int (xs (nI (i + 2)).toNatClampNeg), .int (xs (nI (i + 3)).toNatClampNeg), .int (xs (nI (i + 4)).toNatClampNeg)]) F hY (c1_fill l D q2 a2 u2 h1 (xs (nI (i + 1)).toNatClampNeg) (xs (nI (i + 2)).toNatClampNeg) (xs (nI (i + 3)).toNatClampNeg) (xs (nI (i + 4)).toNatClampNeg)) hL1_fill hd1_fill ⟨⟨rfl, rfl⟩, Nat.le_of_ble_eq_true rfl, Nat.le_of_ble_eq_true rfl⟩ rfl rfl hl.1 (Nat.le_of_ble_eq_true rfl) dL_law_249 hcs (fun r1 z1 H locs hw1 hY => ?_)
  obtain ⟨B0, hs0, hc0⟩ := hw0
  obtain ⟨B1, hs1, hc1⟩ := hw1
  obtain ⟨hr, hB⟩ := sp_mk_uniq hs0 hs1
  subst hB
  refine lv_icmp_eq (tgt := 778) hx hb dL_law_252 (by decide) (fun hc => ?_) (fun hc => ?_)
  · exact kk _ _ _ _ _ hY hc0 hc1
  · exact absurd hr hc
set_option maxHeartbeats 4000000 in
set_option maxRecDepth 100000 in
theorem law_graft (F : CallFix p m c cL_law 4 s #[Value.ref b] lw_all R_law) (hX : va_X b L xs s s.heap) (hbl : b < s.heap.size) (hL : L ≤ 320) (hcs : cells ≤ room_1.cells ∧ slots ≤ room_1.slots) (hi : i + 5 ≤ L) (hY : pm_Y D s q q2 a a2 u u2 H locs) (h0 : pm_Rc u.1 B) (h1 : pm_R1 u2 B) (hl : lv_has ls 4 [(0, .ref b), (1, .ref (q 0)), (2, .ref (q2 0)), (3, .int (nI i))])
    (kk : ∀ (u : pm_S0) (u2 : pm_S1) (B : pm_AB) (H : Heap) (locs : List Loc), pm_Y D s q q2 a a2 u u2 H locs → pm_Rc u.1 B → pm_R1 u2 B → W p l e room_1 s m #[Value.ref b] below meth c H locs cells slots Q (F0 m 778 ls [])) :
    W p l e room_1 s m #[Value.ref b] below meth c H locs cells slots Q (F0 m 257 ls []) := by
  have hx := F.1
  have hb := F.2.1
  have hbA : ¬ (fun x : Nat => s.heap.size ≤ x) b := Nat.not_le.mpr hbl
  obtain ⟨ne, hne, hI⟩ := id h0
  refine lv_aload_n hx hb dL_law_257 rfl (lv_at hl 1 rfl) ?_
  refine lv_aload_n hx hb dL_law_258 rfl (lv_at hl 0 rfl) ?_
  refine lv_iload_n hx hb dL_law_259 rfl (lv_at hl 3 rfl) ?_
  refine lv_iconst (v := nI 1) hx hb dL_law_260 (by decide) ?_
  refine lv_iadd hx hb dL_law_261 ?_
  refine pm_top (y := nI (i + 1)) (nI_add _ _) ?_
  refine va_sld hx hb hX hbl hbA hY.2.2.2 (vp_in_nI (by omega) (by omega)) dL_law_262 ?_
  refine lv_aload_n hx hb dL_law_263 rfl (lv_at hl 0 rfl) ?_
  refine lv_iload_n hx hb dL_law_264 rfl (lv_at hl 3 rfl) ?_
  refine lv_iconst (v := nI 2) hx hb dL_law_265 (by decide) ?_
  refine lv_iadd hx hb dL_law_266 ?_
  refine pm_top (y := nI (i + 2)) (nI_add _ _) ?_
  refine va_sld hx hb hX hbl hbA hY.2.2.2 (vp_in_nI (by omega) (by omega)) dL_law_267 ?_
  refine lv_aload_n hx hb dL_law_268 rfl (lv_at hl 0 rfl) ?_
  refine lv_iload_n hx hb dL_law_269 rfl (lv_at hl 3 rfl) ?_
  refine lv_iconst (v := nI 3) hx hb dL_law_270 (by decide) ?_
  refine lv_iadd hx hb dL_law_271 ?_
  refine pm_top (y := nI (i + 3)) (nI_add _ _) ?_
  refine va_sld hx hb hX hbl hbA hY.2.2.2 (vp_in_nI (by omega) (by omega)) dL_law_272 ?_
  refine pm_law0 (rest := []) (As := [.int (xs (nI (i + 1)).toNatClampNeg), .int (xs (nI (i + 2)).toNatClampNeg), .int (xs (nI (i + 3)).toNatClampNeg)]) F hY (c0_graft l D q a u hI hne (xs (nI (i + 1)).toNatClampNeg) (xs (nI (i + 2)).toNatClampNeg) (xs (nI (i + 3)).toNatClampNeg)) hL0_graft hd0_graft ⟨⟨rfl, rfl⟩, Nat.le_of_ble_eq_true rfl, Nat.le_of_ble_eq_true rfl⟩ rfl rfl hl.1 (Nat.le_of_ble_eq_true rfl) dL_law_273 hcs (fun r0 z0 H locs hw0 hY => ?_)
  refine lv_aload_n hx hb dL_law_276 rfl (lv_at hl 2 rfl) ?_
  refine lv_aload_n hx hb dL_law_277 rfl (lv_at hl 0 rfl) ?_
  refine lv_iload_n hx hb dL_law_278 rfl (lv_at hl 3 rfl) ?_
  refine lv_iconst (v := nI 1) hx hb dL_law_279 (by decide) ?_
  refine lv_iadd hx hb dL_law_280 ?_
  refine pm_top (y := nI (i + 1)) (nI_add _ _) ?_
  refine va_sld hx hb hX hbl hbA hY.2.2.2 (vp_in_nI (by omega) (by omega)) dL_law_281 ?_
  refine lv_aload_n hx hb dL_law_282 rfl (lv_at hl 0 rfl) ?_
  refine lv_iload_n hx hb dL_law_283 rfl (lv_at hl 3 rfl) ?_
  refine lv_iconst (v := nI 2) hx hb dL_law_284 (by decide) ?_
  refine lv_iadd hx hb dL_law_285 ?_
  refine pm_top (y := nI (i + 2)) (nI_add _ _) ?_
  refine va_sld hx hb hX hbl hbA hY.2.2.2 (vp_in_nI (by omega) (by omega)) dL_law_286 ?_
  refine lv_aload_n hx hb dL_law_287 rfl (lv_at hl 0 rfl) ?_
  refine lv_iload_n hx hb dL_law_288 rfl (lv_at hl 3 rfl) ?_
  refine lv_iconst (v := nI 3) hx hb dL_law_289 (by decide) ?_
  refine lv_iadd hx hb dL_law_290 ?_
  refine pm_top (y := nI (i + 3)) (nI_add _ _) ?_
  refine va_sld hx hb hX hbl hbA hY.2.2.2 (vp_in_nI (by omega) (by omega)) dL_law_291 ?_
  refine pm_law1 (rest := [.int r0]) (As := [.int (xs (nI (i + 1)).toNatClampNeg), .int (xs (nI (i + 2)).toNatClampNeg), .int (xs (nI (i + 3)).toNatClampNeg)]) F hY (c1_graft l D q2 a2 u2 h1 (xs (nI (i + 1)).toNatClampNeg) (xs (nI (i + 2)).toNatClampNeg) (xs (nI (i + 3)).toNatClampNeg)) hL1_graft hd1_graft ⟨⟨rfl, rfl⟩, Nat.le_of_ble_eq_true rfl, Nat.le_of_ble_eq_true rfl⟩ rfl rfl hl.1 (Nat.le_of_ble_eq_true rfl) dL_law_292 hcs (fun r1 z1 H locs hw1 hY => ?_)
  obtain ⟨B0, hs0, hc0⟩ := hw0
  obtain ⟨B1, hs1, hc1⟩ := hw1
  obtain ⟨hr, hB⟩ := sp_mk_uniq hs0 hs1
  subst hB
  refine lv_icmp_eq (tgt := 778) hx hb dL_law_295 (by decide) (fun hc => ?_) (fun hc => ?_)
  · exact kk _ _ _ _ _ hY hc0 hc1
  · exact absurd hr hc
set_option maxHeartbeats 4000000 in
set_option maxRecDepth 100000 in
theorem law_exchange (F : CallFix p m c cL_law 4 s #[Value.ref b] lw_all R_law) (hX : va_X b L xs s s.heap) (hbl : b < s.heap.size) (hL : L ≤ 320) (hcs : cells ≤ room_1.cells ∧ slots ≤ room_1.slots) (hi : i + 5 ≤ L) (hY : pm_Y D s q q2 a a2 u u2 H locs) (h0 : pm_Rc u.1 B) (h1 : pm_R1 u2 B) (hl : lv_has ls 4 [(0, .ref b), (1, .ref (q 0)), (2, .ref (q2 0)), (3, .int (nI i))])
    (kk : ∀ (u : pm_S0) (u2 : pm_S1) (B : pm_AB) (H : Heap) (locs : List Loc), pm_Y D s q q2 a a2 u u2 H locs → pm_Rc u.1 B → pm_R1 u2 B → W p l e room_1 s m #[Value.ref b] below meth c H locs cells slots Q (F0 m 778 ls [])) :
    W p l e room_1 s m #[Value.ref b] below meth c H locs cells slots Q (F0 m 300 ls []) := by
  have hx := F.1
  have hb := F.2.1
  have hbA : ¬ (fun x : Nat => s.heap.size ≤ x) b := Nat.not_le.mpr hbl
  obtain ⟨ne, hne, hI⟩ := id h0
  refine lv_aload_n hx hb dL_law_300 rfl (lv_at hl 1 rfl) ?_
  refine lv_aload_n hx hb dL_law_301 rfl (lv_at hl 0 rfl) ?_
  refine lv_iload_n hx hb dL_law_302 rfl (lv_at hl 3 rfl) ?_
  refine lv_iconst (v := nI 1) hx hb dL_law_303 (by decide) ?_
  refine lv_iadd hx hb dL_law_304 ?_
  refine pm_top (y := nI (i + 1)) (nI_add _ _) ?_
  refine va_sld hx hb hX hbl hbA hY.2.2.2 (vp_in_nI (by omega) (by omega)) dL_law_305 ?_
  refine lv_aload_n hx hb dL_law_306 rfl (lv_at hl 0 rfl) ?_
  refine lv_iload_n hx hb dL_law_307 rfl (lv_at hl 3 rfl) ?_
  refine lv_iconst (v := nI 2) hx hb dL_law_308 (by decide) ?_
  refine lv_iadd hx hb dL_law_309 ?_
  refine pm_top (y := nI (i + 2)) (nI_add _ _) ?_
  refine va_sld hx hb hX hbl hbA hY.2.2.2 (vp_in_nI (by omega) (by omega)) dL_law_310 ?_
  refine lv_aload_n hx hb dL_law_311 rfl (lv_at hl 0 rfl) ?_
  refine lv_iload_n hx hb dL_law_312 rfl (lv_at hl 3 rfl) ?_
  refine lv_iconst (v := nI 3) hx hb dL_law_313 (by decide) ?_
  refine lv_iadd hx hb dL_law_314 ?_
  refine pm_top (y := nI (i + 3)) (nI_add _ _) ?_
  refine va_sld hx hb hX hbl hbA hY.2.2.2 (vp_in_nI (by omega) (by omega)) dL_law_315 ?_
  refine pm_law0 (rest := []) (As := [.int (xs (nI (i + 1)).toNatClampNeg), .int (xs (nI (i + 2)).toNatClampNeg), .int (xs (nI (i + 3)).toNatClampNeg)]) F hY (c0_exchange l D q a u hI hne (xs (nI (i + 1)).toNatClampNeg) (xs (nI (i + 2)).toNatClampNeg) (xs (nI (i + 3)).toNatClampNeg)) hL0_exchange hd0_exchange ⟨⟨rfl, rfl⟩, Nat.le_of_ble_eq_true rfl, Nat.le_of_ble_eq_true rfl⟩ rfl rfl hl.1 (Nat.le_of_ble_eq_true rfl) dL_law_316 hcs (fun r0 z0 H locs hw0 hY => ?_)
  refine lv_aload_n hx hb dL_law_319 rfl (lv_at hl 2 rfl) ?_
  refine lv_aload_n hx hb dL_law_320 rfl (lv_at hl 0 rfl) ?_
  refine lv_iload_n hx hb dL_law_321 rfl (lv_at hl 3 rfl) ?_
  refine lv_iconst (v := nI 1) hx hb dL_law_322 (by decide) ?_
  refine lv_iadd hx hb dL_law_323 ?_
  refine pm_top (y := nI (i + 1)) (nI_add _ _) ?_
  refine va_sld hx hb hX hbl hbA hY.2.2.2 (vp_in_nI (by omega) (by omega)) dL_law_324 ?_
  refine lv_aload_n hx hb dL_law_325 rfl (lv_at hl 0 rfl) ?_
  refine lv_iload_n hx hb dL_law_326 rfl (lv_at hl 3 rfl) ?_
  refine lv_iconst (v := nI 2) hx hb dL_law_327 (by decide) ?_
  refine lv_iadd hx hb dL_law_328 ?_
  refine pm_top (y := nI (i + 2)) (nI_add _ _) ?_
  refine va_sld hx hb hX hbl hbA hY.2.2.2 (vp_in_nI (by omega) (by omega)) dL_law_329 ?_
  refine lv_aload_n hx hb dL_law_330 rfl (lv_at hl 0 rfl) ?_
  refine lv_iload_n hx hb dL_law_331 rfl (lv_at hl 3 rfl) ?_
  refine lv_iconst (v := nI 3) hx hb dL_law_332 (by decide) ?_
  refine lv_iadd hx hb dL_law_333 ?_
  refine pm_top (y := nI (i + 3)) (nI_add _ _) ?_
  refine va_sld hx hb hX hbl hbA hY.2.2.2 (vp_in_nI (by omega) (by omega)) dL_law_334 ?_
  refine pm_law1 (rest := [.int r0]) (As := [.int (xs (nI (i + 1)).toNatClampNeg), .int (xs (nI (i + 2)).toNatClampNeg), .int (xs (nI (i + 3)).toNatClampNeg)]) F hY (c1_exchange l D q2 a2 u2 h1 (xs (nI (i + 1)).toNatClampNeg) (xs (nI (i + 2)).toNatClampNeg) (xs (nI (i + 3)).toNatClampNeg)) hL1_exchange hd1_exchange ⟨⟨rfl, rfl⟩, Nat.le_of_ble_eq_true rfl, Nat.le_of_ble_eq_true rfl⟩ rfl rfl hl.1 (Nat.le_of_ble_eq_true rfl) dL_law_335 hcs (fun r1 z1 H locs hw1 hY => ?_)
  obtain ⟨B0, hs0, hc0⟩ := hw0
  obtain ⟨B1, hs1, hc1⟩ := hw1
  obtain ⟨hr, hB⟩ := sp_mk_uniq hs0 hs1
  subst hB
  refine lv_icmp_eq (tgt := 778) hx hb dL_law_338 (by decide) (fun hc => ?_) (fun hc => ?_)
  · exact kk _ _ _ _ _ hY hc0 hc1
  · exact absurd hr hc
set_option maxHeartbeats 4000000 in
set_option maxRecDepth 100000 in
theorem law_versions (F : CallFix p m c cL_law 4 s #[Value.ref b] lw_all R_law) (hX : va_X b L xs s s.heap) (hbl : b < s.heap.size) (hL : L ≤ 320) (hcs : cells ≤ room_1.cells ∧ slots ≤ room_1.slots) (hi : i + 5 ≤ L) (hY : pm_Y D s q q2 a a2 u u2 H locs) (h0 : pm_Rc u.1 B) (h1 : pm_R1 u2 B) (hl : lv_has ls 4 [(0, .ref b), (1, .ref (q 0)), (2, .ref (q2 0)), (3, .int (nI i))])
    (kk : ∀ (u : pm_S0) (u2 : pm_S1) (B : pm_AB) (H : Heap) (locs : List Loc), pm_Y D s q q2 a a2 u u2 H locs → pm_Rc u.1 B → pm_R1 u2 B → W p l e room_1 s m #[Value.ref b] below meth c H locs cells slots Q (F0 m 778 ls [])) :
    W p l e room_1 s m #[Value.ref b] below meth c H locs cells slots Q (F0 m 343 ls []) := by
  have hx := F.1
  have hb := F.2.1
  have hbA : ¬ (fun x : Nat => s.heap.size ≤ x) b := Nat.not_le.mpr hbl
  obtain ⟨ne, hne, hI⟩ := id h0
  refine lv_aload_n hx hb dL_law_343 rfl (lv_at hl 1 rfl) ?_
  refine pm_law0 (rest := []) (As := []) F hY (c0_versions l D q a u hI ) hL0_versions hd0_versions ⟨⟨rfl, rfl⟩, Nat.le_of_ble_eq_true rfl, Nat.le_of_ble_eq_true rfl⟩ rfl rfl hl.1 (Nat.le_of_ble_eq_true rfl) dL_law_344 hcs (fun r0 z0 H locs hw0 hY => ?_)
  refine lv_aload_n hx hb dL_law_347 rfl (lv_at hl 2 rfl) ?_
  refine pm_law1 (rest := [.int r0]) (As := []) F hY (c1_versions l D q2 a2 u2 h1 ) hL1_versions hd1_versions ⟨⟨rfl, rfl⟩, Nat.le_of_ble_eq_true rfl, Nat.le_of_ble_eq_true rfl⟩ rfl rfl hl.1 (Nat.le_of_ble_eq_true rfl) dL_law_348 hcs (fun r1 z1 H locs hw1 hY => ?_)
  have hr : r0 = r1 := hw0.1.trans hw1.1.symm
  refine lv_icmp_eq (tgt := 778) hx hb dL_law_351 (by decide) (fun hc => ?_) (fun hc => ?_)
  · exact kk z0 z1 B _ _ hY (by rw [hw0.2]; exact h0) (by rw [hw1.2]; exact h1)
  · exact absurd hr hc
set_option maxHeartbeats 4000000 in
set_option maxRecDepth 100000 in
theorem law_parent (F : CallFix p m c cL_law 4 s #[Value.ref b] lw_all R_law) (hX : va_X b L xs s s.heap) (hbl : b < s.heap.size) (hL : L ≤ 320) (hcs : cells ≤ room_1.cells ∧ slots ≤ room_1.slots) (hi : i + 5 ≤ L) (hY : pm_Y D s q q2 a a2 u u2 H locs) (h0 : pm_Rc u.1 B) (h1 : pm_R1 u2 B) (hl : lv_has ls 4 [(0, .ref b), (1, .ref (q 0)), (2, .ref (q2 0)), (3, .int (nI i))])
    (kk : ∀ (u : pm_S0) (u2 : pm_S1) (B : pm_AB) (H : Heap) (locs : List Loc), pm_Y D s q q2 a a2 u u2 H locs → pm_Rc u.1 B → pm_R1 u2 B → W p l e room_1 s m #[Value.ref b] below meth c H locs cells slots Q (F0 m 778 ls [])) :
    W p l e room_1 s m #[Value.ref b] below meth c H locs cells slots Q (F0 m 356 ls []) := by
  have hx := F.1
  have hb := F.2.1
  have hbA : ¬ (fun x : Nat => s.heap.size ≤ x) b := Nat.not_le.mpr hbl
  obtain ⟨ne, hne, hI⟩ := id h0
  refine lv_aload_n hx hb dL_law_356 rfl (lv_at hl 1 rfl) ?_
  refine lv_aload_n hx hb dL_law_357 rfl (lv_at hl 0 rfl) ?_
  refine lv_iload_n hx hb dL_law_358 rfl (lv_at hl 3 rfl) ?_
  refine lv_iconst (v := nI 1) hx hb dL_law_359 (by decide) ?_
  refine lv_iadd hx hb dL_law_360 ?_
  refine pm_top (y := nI (i + 1)) (nI_add _ _) ?_
  refine va_sld hx hb hX hbl hbA hY.2.2.2 (vp_in_nI (by omega) (by omega)) dL_law_361 ?_
  refine pm_law0 (rest := []) (As := [.int (xs (nI (i + 1)).toNatClampNeg)]) F hY (c0_parent l D q a u hI (xs (nI (i + 1)).toNatClampNeg)) hL0_parent hd0_parent ⟨⟨rfl, rfl⟩, Nat.le_of_ble_eq_true rfl, Nat.le_of_ble_eq_true rfl⟩ rfl rfl hl.1 (Nat.le_of_ble_eq_true rfl) dL_law_362 hcs (fun r0 z0 H locs hw0 hY => ?_)
  refine lv_aload_n hx hb dL_law_365 rfl (lv_at hl 2 rfl) ?_
  refine lv_aload_n hx hb dL_law_366 rfl (lv_at hl 0 rfl) ?_
  refine lv_iload_n hx hb dL_law_367 rfl (lv_at hl 3 rfl) ?_
  refine lv_iconst (v := nI 1) hx hb dL_law_368 (by decide) ?_
  refine lv_iadd hx hb dL_law_369 ?_
  refine pm_top (y := nI (i + 1)) (nI_add _ _) ?_
  refine va_sld hx hb hX hbl hbA hY.2.2.2 (vp_in_nI (by omega) (by omega)) dL_law_370 ?_
  refine pm_law1 (rest := [.int r0]) (As := [.int (xs (nI (i + 1)).toNatClampNeg)]) F hY (c1_parent l D q2 a2 u2 h1 (xs (nI (i + 1)).toNatClampNeg)) hL1_parent hd1_parent ⟨⟨rfl, rfl⟩, Nat.le_of_ble_eq_true rfl, Nat.le_of_ble_eq_true rfl⟩ rfl rfl hl.1 (Nat.le_of_ble_eq_true rfl) dL_law_371 hcs (fun r1 z1 H locs hw1 hY => ?_)
  have hr : r0 = r1 := hw0.1.trans hw1.1.symm
  refine lv_icmp_eq (tgt := 778) hx hb dL_law_374 (by decide) (fun hc => ?_) (fun hc => ?_)
  · exact kk z0 z1 B _ _ hY (by rw [hw0.2]; exact h0) (by rw [hw1.2]; exact h1)
  · exact absurd hr hc
end PMLA
end
section
section PMLB
variable {p : Program} {l : Launch} {e : Env} {s : State} {m : MethodId} {below : List Frame} {meth : Method} {c : Code} {H : Heap} {locs : List Loc} {cells slots : Nat} {Q : State → Prop}
variable {ls : Array Slot} {D : va_G} {q q2 : Nat → Nat} {a a2 : Nat → ClassId} {u : pm_S0} {u2 : pm_S1} {b L i : Nat} {xs : Nat → Int32} {B : pm_AB}
set_option maxHeartbeats 4000000 in
set_option maxRecDepth 100000 in
theorem law_ancestor (F : CallFix p m c cL_law 4 s #[Value.ref b] lw_all R_law) (hX : va_X b L xs s s.heap) (hbl : b < s.heap.size) (hL : L ≤ 320) (hcs : cells ≤ room_1.cells ∧ slots ≤ room_1.slots) (hi : i + 5 ≤ L) (hY : pm_Y D s q q2 a a2 u u2 H locs) (h0 : pm_Rc u.1 B) (h1 : pm_R1 u2 B) (hl : lv_has ls 4 [(0, .ref b), (1, .ref (q 0)), (2, .ref (q2 0)), (3, .int (nI i))])
    (kk : ∀ (u : pm_S0) (u2 : pm_S1) (B : pm_AB) (H : Heap) (locs : List Loc), pm_Y D s q q2 a a2 u u2 H locs → pm_Rc u.1 B → pm_R1 u2 B → W p l e room_1 s m #[Value.ref b] below meth c H locs cells slots Q (F0 m 778 ls [])) :
    W p l e room_1 s m #[Value.ref b] below meth c H locs cells slots Q (F0 m 379 ls []) := by
  have hx := F.1
  have hb := F.2.1
  have hbA : ¬ (fun x : Nat => s.heap.size ≤ x) b := Nat.not_le.mpr hbl
  obtain ⟨ne, hne, hI⟩ := id h0
  refine lv_aload_n hx hb dL_law_379 rfl (lv_at hl 1 rfl) ?_
  refine lv_aload_n hx hb dL_law_380 rfl (lv_at hl 0 rfl) ?_
  refine lv_iload_n hx hb dL_law_381 rfl (lv_at hl 3 rfl) ?_
  refine lv_iconst (v := nI 1) hx hb dL_law_382 (by decide) ?_
  refine lv_iadd hx hb dL_law_383 ?_
  refine pm_top (y := nI (i + 1)) (nI_add _ _) ?_
  refine va_sld hx hb hX hbl hbA hY.2.2.2 (vp_in_nI (by omega) (by omega)) dL_law_384 ?_
  refine lv_aload_n hx hb dL_law_385 rfl (lv_at hl 0 rfl) ?_
  refine lv_iload_n hx hb dL_law_386 rfl (lv_at hl 3 rfl) ?_
  refine lv_iconst (v := nI 2) hx hb dL_law_387 (by decide) ?_
  refine lv_iadd hx hb dL_law_388 ?_
  refine pm_top (y := nI (i + 2)) (nI_add _ _) ?_
  refine va_sld hx hb hX hbl hbA hY.2.2.2 (vp_in_nI (by omega) (by omega)) dL_law_389 ?_
  refine pm_law0 (rest := []) (As := [.int (xs (nI (i + 1)).toNatClampNeg), .int (xs (nI (i + 2)).toNatClampNeg)]) F hY (c0_ancestor l D q a u hI (xs (nI (i + 1)).toNatClampNeg) (xs (nI (i + 2)).toNatClampNeg)) hL0_ancestor hd0_ancestor ⟨⟨rfl, rfl⟩, Nat.le_of_ble_eq_true rfl, Nat.le_of_ble_eq_true rfl⟩ rfl rfl hl.1 (Nat.le_of_ble_eq_true rfl) dL_law_390 hcs (fun r0 z0 H locs hw0 hY => ?_)
  refine lv_aload_n hx hb dL_law_393 rfl (lv_at hl 2 rfl) ?_
  refine lv_aload_n hx hb dL_law_394 rfl (lv_at hl 0 rfl) ?_
  refine lv_iload_n hx hb dL_law_395 rfl (lv_at hl 3 rfl) ?_
  refine lv_iconst (v := nI 1) hx hb dL_law_396 (by decide) ?_
  refine lv_iadd hx hb dL_law_397 ?_
  refine pm_top (y := nI (i + 1)) (nI_add _ _) ?_
  refine va_sld hx hb hX hbl hbA hY.2.2.2 (vp_in_nI (by omega) (by omega)) dL_law_398 ?_
  refine lv_aload_n hx hb dL_law_399 rfl (lv_at hl 0 rfl) ?_
  refine lv_iload_n hx hb dL_law_400 rfl (lv_at hl 3 rfl) ?_
  refine lv_iconst (v := nI 2) hx hb dL_law_401 (by decide) ?_
  refine lv_iadd hx hb dL_law_402 ?_
  refine pm_top (y := nI (i + 2)) (nI_add _ _) ?_
  refine va_sld hx hb hX hbl hbA hY.2.2.2 (vp_in_nI (by omega) (by omega)) dL_law_403 ?_
  refine pm_law1 (rest := [.int r0]) (As := [.int (xs (nI (i + 1)).toNatClampNeg), .int (xs (nI (i + 2)).toNatClampNeg)]) F hY (c1_ancestor l D q2 a2 u2 h1 (xs (nI (i + 1)).toNatClampNeg) (xs (nI (i + 2)).toNatClampNeg)) hL1_ancestor hd1_ancestor ⟨⟨rfl, rfl⟩, Nat.le_of_ble_eq_true rfl, Nat.le_of_ble_eq_true rfl⟩ rfl rfl hl.1 (Nat.le_of_ble_eq_true rfl) dL_law_404 hcs (fun r1 z1 H locs hw1 hY => ?_)
  have hr : r0 = r1 := hw0.1.trans hw1.1.symm
  refine lv_icmp_eq (tgt := 778) hx hb dL_law_407 (by decide) (fun hc => ?_) (fun hc => ?_)
  · exact kk z0 z1 B _ _ hY (by rw [hw0.2]; exact h0) (by rw [hw1.2]; exact h1)
  · exact absurd hr hc
set_option maxHeartbeats 4000000 in
set_option maxRecDepth 100000 in
theorem law_meet (F : CallFix p m c cL_law 4 s #[Value.ref b] lw_all R_law) (hX : va_X b L xs s s.heap) (hbl : b < s.heap.size) (hL : L ≤ 320) (hcs : cells ≤ room_1.cells ∧ slots ≤ room_1.slots) (hi : i + 5 ≤ L) (hY : pm_Y D s q q2 a a2 u u2 H locs) (h0 : pm_Rc u.1 B) (h1 : pm_R1 u2 B) (hl : lv_has ls 4 [(0, .ref b), (1, .ref (q 0)), (2, .ref (q2 0)), (3, .int (nI i))])
    (kk : ∀ (u : pm_S0) (u2 : pm_S1) (B : pm_AB) (H : Heap) (locs : List Loc), pm_Y D s q q2 a a2 u u2 H locs → pm_Rc u.1 B → pm_R1 u2 B → W p l e room_1 s m #[Value.ref b] below meth c H locs cells slots Q (F0 m 778 ls [])) :
    W p l e room_1 s m #[Value.ref b] below meth c H locs cells slots Q (F0 m 412 ls []) := by
  have hx := F.1
  have hb := F.2.1
  have hbA : ¬ (fun x : Nat => s.heap.size ≤ x) b := Nat.not_le.mpr hbl
  obtain ⟨ne, hne, hI⟩ := id h0
  refine lv_aload_n hx hb dL_law_412 rfl (lv_at hl 1 rfl) ?_
  refine lv_aload_n hx hb dL_law_413 rfl (lv_at hl 0 rfl) ?_
  refine lv_iload_n hx hb dL_law_414 rfl (lv_at hl 3 rfl) ?_
  refine lv_iconst (v := nI 1) hx hb dL_law_415 (by decide) ?_
  refine lv_iadd hx hb dL_law_416 ?_
  refine pm_top (y := nI (i + 1)) (nI_add _ _) ?_
  refine va_sld hx hb hX hbl hbA hY.2.2.2 (vp_in_nI (by omega) (by omega)) dL_law_417 ?_
  refine lv_aload_n hx hb dL_law_418 rfl (lv_at hl 0 rfl) ?_
  refine lv_iload_n hx hb dL_law_419 rfl (lv_at hl 3 rfl) ?_
  refine lv_iconst (v := nI 2) hx hb dL_law_420 (by decide) ?_
  refine lv_iadd hx hb dL_law_421 ?_
  refine pm_top (y := nI (i + 2)) (nI_add _ _) ?_
  refine va_sld hx hb hX hbl hbA hY.2.2.2 (vp_in_nI (by omega) (by omega)) dL_law_422 ?_
  refine pm_law0 (rest := []) (As := [.int (xs (nI (i + 1)).toNatClampNeg), .int (xs (nI (i + 2)).toNatClampNeg)]) F hY (c0_meet l D q a u hI (xs (nI (i + 1)).toNatClampNeg) (xs (nI (i + 2)).toNatClampNeg)) hL0_meet hd0_meet ⟨⟨rfl, rfl⟩, Nat.le_of_ble_eq_true rfl, Nat.le_of_ble_eq_true rfl⟩ rfl rfl hl.1 (Nat.le_of_ble_eq_true rfl) dL_law_423 hcs (fun r0 z0 H locs hw0 hY => ?_)
  refine lv_aload_n hx hb dL_law_426 rfl (lv_at hl 2 rfl) ?_
  refine lv_aload_n hx hb dL_law_427 rfl (lv_at hl 0 rfl) ?_
  refine lv_iload_n hx hb dL_law_428 rfl (lv_at hl 3 rfl) ?_
  refine lv_iconst (v := nI 1) hx hb dL_law_429 (by decide) ?_
  refine lv_iadd hx hb dL_law_430 ?_
  refine pm_top (y := nI (i + 1)) (nI_add _ _) ?_
  refine va_sld hx hb hX hbl hbA hY.2.2.2 (vp_in_nI (by omega) (by omega)) dL_law_431 ?_
  refine lv_aload_n hx hb dL_law_432 rfl (lv_at hl 0 rfl) ?_
  refine lv_iload_n hx hb dL_law_433 rfl (lv_at hl 3 rfl) ?_
  refine lv_iconst (v := nI 2) hx hb dL_law_434 (by decide) ?_
  refine lv_iadd hx hb dL_law_435 ?_
  refine pm_top (y := nI (i + 2)) (nI_add _ _) ?_
  refine va_sld hx hb hX hbl hbA hY.2.2.2 (vp_in_nI (by omega) (by omega)) dL_law_436 ?_
  refine pm_law1 (rest := [.int r0]) (As := [.int (xs (nI (i + 1)).toNatClampNeg), .int (xs (nI (i + 2)).toNatClampNeg)]) F hY (c1_meet l D q2 a2 u2 h1 (xs (nI (i + 1)).toNatClampNeg) (xs (nI (i + 2)).toNatClampNeg)) hL1_meet hd1_meet ⟨⟨rfl, rfl⟩, Nat.le_of_ble_eq_true rfl, Nat.le_of_ble_eq_true rfl⟩ rfl rfl hl.1 (Nat.le_of_ble_eq_true rfl) dL_law_437 hcs (fun r1 z1 H locs hw1 hY => ?_)
  have hr : r0 = r1 := sp_meet_uniq hI.n40 hw0.1 hw1.1
  refine lv_icmp_eq (tgt := 778) hx hb dL_law_440 (by decide) (fun hc => ?_) (fun hc => ?_)
  · exact kk z0 z1 B _ _ hY (by rw [hw0.2]; exact h0) (by rw [hw1.2]; exact h1)
  · exact absurd hr hc
set_option maxHeartbeats 4000000 in
set_option maxRecDepth 100000 in
theorem law_family (F : CallFix p m c cL_law 4 s #[Value.ref b] lw_all R_law) (hX : va_X b L xs s s.heap) (hbl : b < s.heap.size) (hL : L ≤ 320) (hcs : cells ≤ room_1.cells ∧ slots ≤ room_1.slots) (hi : i + 5 ≤ L) (hY : pm_Y D s q q2 a a2 u u2 H locs) (h0 : pm_Rc u.1 B) (h1 : pm_R1 u2 B) (hl : lv_has ls 4 [(0, .ref b), (1, .ref (q 0)), (2, .ref (q2 0)), (3, .int (nI i))])
    (kk : ∀ (u : pm_S0) (u2 : pm_S1) (B : pm_AB) (H : Heap) (locs : List Loc), pm_Y D s q q2 a a2 u u2 H locs → pm_Rc u.1 B → pm_R1 u2 B → W p l e room_1 s m #[Value.ref b] below meth c H locs cells slots Q (F0 m 778 ls [])) :
    W p l e room_1 s m #[Value.ref b] below meth c H locs cells slots Q (F0 m 445 ls []) := by
  have hx := F.1
  have hb := F.2.1
  have hbA : ¬ (fun x : Nat => s.heap.size ≤ x) b := Nat.not_le.mpr hbl
  obtain ⟨ne, hne, hI⟩ := id h0
  refine lv_aload_n hx hb dL_law_445 rfl (lv_at hl 1 rfl) ?_
  refine lv_aload_n hx hb dL_law_446 rfl (lv_at hl 0 rfl) ?_
  refine lv_iload_n hx hb dL_law_447 rfl (lv_at hl 3 rfl) ?_
  refine lv_iconst (v := nI 1) hx hb dL_law_448 (by decide) ?_
  refine lv_iadd hx hb dL_law_449 ?_
  refine pm_top (y := nI (i + 1)) (nI_add _ _) ?_
  refine va_sld hx hb hX hbl hbA hY.2.2.2 (vp_in_nI (by omega) (by omega)) dL_law_450 ?_
  refine pm_law0 (rest := []) (As := [.int (xs (nI (i + 1)).toNatClampNeg)]) F hY (c0_family l D q a u hI (xs (nI (i + 1)).toNatClampNeg)) hL0_family hd0_family ⟨⟨rfl, rfl⟩, Nat.le_of_ble_eq_true rfl, Nat.le_of_ble_eq_true rfl⟩ rfl rfl hl.1 (Nat.le_of_ble_eq_true rfl) dL_law_451 hcs (fun r0 z0 H locs hw0 hY => ?_)
  refine lv_aload_n hx hb dL_law_454 rfl (lv_at hl 2 rfl) ?_
  refine lv_aload_n hx hb dL_law_455 rfl (lv_at hl 0 rfl) ?_
  refine lv_iload_n hx hb dL_law_456 rfl (lv_at hl 3 rfl) ?_
  refine lv_iconst (v := nI 1) hx hb dL_law_457 (by decide) ?_
  refine lv_iadd hx hb dL_law_458 ?_
  refine pm_top (y := nI (i + 1)) (nI_add _ _) ?_
  refine va_sld hx hb hX hbl hbA hY.2.2.2 (vp_in_nI (by omega) (by omega)) dL_law_459 ?_
  refine pm_law1 (rest := [.int r0]) (As := [.int (xs (nI (i + 1)).toNatClampNeg)]) F hY (c1_family l D q2 a2 u2 h1 (xs (nI (i + 1)).toNatClampNeg)) hL1_family hd1_family ⟨⟨rfl, rfl⟩, Nat.le_of_ble_eq_true rfl, Nat.le_of_ble_eq_true rfl⟩ rfl rfl hl.1 (Nat.le_of_ble_eq_true rfl) dL_law_460 hcs (fun r1 z1 H locs hw1 hY => ?_)
  have hr : r0 = r1 := hw0.1.trans hw1.1.symm
  refine lv_icmp_eq (tgt := 778) hx hb dL_law_463 (by decide) (fun hc => ?_) (fun hc => ?_)
  · exact kk z0 z1 B _ _ hY (by rw [hw0.2]; exact h0) (by rw [hw1.2]; exact h1)
  · exact absurd hr hc
set_option maxHeartbeats 4000000 in
set_option maxRecDepth 100000 in
theorem law_has (F : CallFix p m c cL_law 4 s #[Value.ref b] lw_all R_law) (hX : va_X b L xs s s.heap) (hbl : b < s.heap.size) (hL : L ≤ 320) (hcs : cells ≤ room_1.cells ∧ slots ≤ room_1.slots) (hi : i + 5 ≤ L) (hY : pm_Y D s q q2 a a2 u u2 H locs) (h0 : pm_Rc u.1 B) (h1 : pm_R1 u2 B) (hl : lv_has ls 4 [(0, .ref b), (1, .ref (q 0)), (2, .ref (q2 0)), (3, .int (nI i))])
    (kk : ∀ (u : pm_S0) (u2 : pm_S1) (B : pm_AB) (H : Heap) (locs : List Loc), pm_Y D s q q2 a a2 u u2 H locs → pm_Rc u.1 B → pm_R1 u2 B → W p l e room_1 s m #[Value.ref b] below meth c H locs cells slots Q (F0 m 778 ls [])) :
    W p l e room_1 s m #[Value.ref b] below meth c H locs cells slots Q (F0 m 468 ls []) := by
  have hx := F.1
  have hb := F.2.1
  have hbA : ¬ (fun x : Nat => s.heap.size ≤ x) b := Nat.not_le.mpr hbl
  obtain ⟨ne, hne, hI⟩ := id h0
  refine lv_aload_n hx hb dL_law_468 rfl (lv_at hl 1 rfl) ?_
  refine lv_aload_n hx hb dL_law_469 rfl (lv_at hl 0 rfl) ?_
  refine lv_iload_n hx hb dL_law_470 rfl (lv_at hl 3 rfl) ?_
  refine lv_iconst (v := nI 1) hx hb dL_law_471 (by decide) ?_
  refine lv_iadd hx hb dL_law_472 ?_
  refine pm_top (y := nI (i + 1)) (nI_add _ _) ?_
  refine va_sld hx hb hX hbl hbA hY.2.2.2 (vp_in_nI (by omega) (by omega)) dL_law_473 ?_
  refine lv_aload_n hx hb dL_law_474 rfl (lv_at hl 0 rfl) ?_
  refine lv_iload_n hx hb dL_law_475 rfl (lv_at hl 3 rfl) ?_
  refine lv_iconst (v := nI 2) hx hb dL_law_476 (by decide) ?_
  refine lv_iadd hx hb dL_law_477 ?_
  refine pm_top (y := nI (i + 2)) (nI_add _ _) ?_
  refine va_sld hx hb hX hbl hbA hY.2.2.2 (vp_in_nI (by omega) (by omega)) dL_law_478 ?_
  refine pm_law0 (rest := []) (As := [.int (xs (nI (i + 1)).toNatClampNeg), .int (xs (nI (i + 2)).toNatClampNeg)]) F hY (c0_has l D q a u hI (xs (nI (i + 1)).toNatClampNeg) (xs (nI (i + 2)).toNatClampNeg)) hL0_has hd0_has ⟨⟨rfl, rfl⟩, Nat.le_of_ble_eq_true rfl, Nat.le_of_ble_eq_true rfl⟩ rfl rfl hl.1 (Nat.le_of_ble_eq_true rfl) dL_law_479 hcs (fun r0 z0 H locs hw0 hY => ?_)
  refine lv_aload_n hx hb dL_law_482 rfl (lv_at hl 2 rfl) ?_
  refine lv_aload_n hx hb dL_law_483 rfl (lv_at hl 0 rfl) ?_
  refine lv_iload_n hx hb dL_law_484 rfl (lv_at hl 3 rfl) ?_
  refine lv_iconst (v := nI 1) hx hb dL_law_485 (by decide) ?_
  refine lv_iadd hx hb dL_law_486 ?_
  refine pm_top (y := nI (i + 1)) (nI_add _ _) ?_
  refine va_sld hx hb hX hbl hbA hY.2.2.2 (vp_in_nI (by omega) (by omega)) dL_law_487 ?_
  refine lv_aload_n hx hb dL_law_488 rfl (lv_at hl 0 rfl) ?_
  refine lv_iload_n hx hb dL_law_489 rfl (lv_at hl 3 rfl) ?_
  refine lv_iconst (v := nI 2) hx hb dL_law_490 (by decide) ?_
  refine lv_iadd hx hb dL_law_491 ?_
  refine pm_top (y := nI (i + 2)) (nI_add _ _) ?_
  refine va_sld hx hb hX hbl hbA hY.2.2.2 (vp_in_nI (by omega) (by omega)) dL_law_492 ?_
  refine pm_law1 (rest := [.int r0]) (As := [.int (xs (nI (i + 1)).toNatClampNeg), .int (xs (nI (i + 2)).toNatClampNeg)]) F hY (c1_has l D q2 a2 u2 h1 (xs (nI (i + 1)).toNatClampNeg) (xs (nI (i + 2)).toNatClampNeg)) hL1_has hd1_has ⟨⟨rfl, rfl⟩, Nat.le_of_ble_eq_true rfl, Nat.le_of_ble_eq_true rfl⟩ rfl rfl hl.1 (Nat.le_of_ble_eq_true rfl) dL_law_493 hcs (fun r1 z1 H locs hw1 hY => ?_)
  have hr : r0 = r1 := hw0.1.trans hw1.1.symm
  refine lv_icmp_eq (tgt := 778) hx hb dL_law_496 (by decide) (fun hc => ?_) (fun hc => ?_)
  · exact kk z0 z1 B _ _ hY (by rw [hw0.2]; exact h0) (by rw [hw1.2]; exact h1)
  · exact absurd hr hc
set_option maxHeartbeats 4000000 in
set_option maxRecDepth 100000 in
theorem law_get (F : CallFix p m c cL_law 4 s #[Value.ref b] lw_all R_law) (hX : va_X b L xs s s.heap) (hbl : b < s.heap.size) (hL : L ≤ 320) (hcs : cells ≤ room_1.cells ∧ slots ≤ room_1.slots) (hi : i + 5 ≤ L) (hY : pm_Y D s q q2 a a2 u u2 H locs) (h0 : pm_Rc u.1 B) (h1 : pm_R1 u2 B) (hl : lv_has ls 4 [(0, .ref b), (1, .ref (q 0)), (2, .ref (q2 0)), (3, .int (nI i))])
    (kk : ∀ (u : pm_S0) (u2 : pm_S1) (B : pm_AB) (H : Heap) (locs : List Loc), pm_Y D s q q2 a a2 u u2 H locs → pm_Rc u.1 B → pm_R1 u2 B → W p l e room_1 s m #[Value.ref b] below meth c H locs cells slots Q (F0 m 778 ls [])) :
    W p l e room_1 s m #[Value.ref b] below meth c H locs cells slots Q (F0 m 501 ls []) := by
  have hx := F.1
  have hb := F.2.1
  have hbA : ¬ (fun x : Nat => s.heap.size ≤ x) b := Nat.not_le.mpr hbl
  obtain ⟨ne, hne, hI⟩ := id h0
  refine lv_aload_n hx hb dL_law_501 rfl (lv_at hl 1 rfl) ?_
  refine lv_aload_n hx hb dL_law_502 rfl (lv_at hl 0 rfl) ?_
  refine lv_iload_n hx hb dL_law_503 rfl (lv_at hl 3 rfl) ?_
  refine lv_iconst (v := nI 1) hx hb dL_law_504 (by decide) ?_
  refine lv_iadd hx hb dL_law_505 ?_
  refine pm_top (y := nI (i + 1)) (nI_add _ _) ?_
  refine va_sld hx hb hX hbl hbA hY.2.2.2 (vp_in_nI (by omega) (by omega)) dL_law_506 ?_
  refine lv_aload_n hx hb dL_law_507 rfl (lv_at hl 0 rfl) ?_
  refine lv_iload_n hx hb dL_law_508 rfl (lv_at hl 3 rfl) ?_
  refine lv_iconst (v := nI 2) hx hb dL_law_509 (by decide) ?_
  refine lv_iadd hx hb dL_law_510 ?_
  refine pm_top (y := nI (i + 2)) (nI_add _ _) ?_
  refine va_sld hx hb hX hbl hbA hY.2.2.2 (vp_in_nI (by omega) (by omega)) dL_law_511 ?_
  refine pm_law0 (rest := []) (As := [.int (xs (nI (i + 1)).toNatClampNeg), .int (xs (nI (i + 2)).toNatClampNeg)]) F hY (c0_get l D q a u hI (xs (nI (i + 1)).toNatClampNeg) (xs (nI (i + 2)).toNatClampNeg)) hL0_get hd0_get ⟨⟨rfl, rfl⟩, Nat.le_of_ble_eq_true rfl, Nat.le_of_ble_eq_true rfl⟩ rfl rfl hl.1 (Nat.le_of_ble_eq_true rfl) dL_law_512 hcs (fun r0 z0 H locs hw0 hY => ?_)
  refine lv_aload_n hx hb dL_law_515 rfl (lv_at hl 2 rfl) ?_
  refine lv_aload_n hx hb dL_law_516 rfl (lv_at hl 0 rfl) ?_
  refine lv_iload_n hx hb dL_law_517 rfl (lv_at hl 3 rfl) ?_
  refine lv_iconst (v := nI 1) hx hb dL_law_518 (by decide) ?_
  refine lv_iadd hx hb dL_law_519 ?_
  refine pm_top (y := nI (i + 1)) (nI_add _ _) ?_
  refine va_sld hx hb hX hbl hbA hY.2.2.2 (vp_in_nI (by omega) (by omega)) dL_law_520 ?_
  refine lv_aload_n hx hb dL_law_521 rfl (lv_at hl 0 rfl) ?_
  refine lv_iload_n hx hb dL_law_522 rfl (lv_at hl 3 rfl) ?_
  refine lv_iconst (v := nI 2) hx hb dL_law_523 (by decide) ?_
  refine lv_iadd hx hb dL_law_524 ?_
  refine pm_top (y := nI (i + 2)) (nI_add _ _) ?_
  refine va_sld hx hb hX hbl hbA hY.2.2.2 (vp_in_nI (by omega) (by omega)) dL_law_525 ?_
  refine pm_law1 (rest := [.int r0]) (As := [.int (xs (nI (i + 1)).toNatClampNeg), .int (xs (nI (i + 2)).toNatClampNeg)]) F hY (c1_get l D q2 a2 u2 h1 (xs (nI (i + 1)).toNatClampNeg) (xs (nI (i + 2)).toNatClampNeg)) hL1_get hd1_get ⟨⟨rfl, rfl⟩, Nat.le_of_ble_eq_true rfl, Nat.le_of_ble_eq_true rfl⟩ rfl rfl hl.1 (Nat.le_of_ble_eq_true rfl) dL_law_526 hcs (fun r1 z1 H locs hw1 hY => ?_)
  have hr : r0 = r1 := hw0.1.trans hw1.1.symm
  refine lv_icmp_eq (tgt := 778) hx hb dL_law_529 (by decide) (fun hc => ?_) (fun hc => ?_)
  · exact kk z0 z1 B _ _ hY (by rw [hw0.2]; exact h0) (by rw [hw1.2]; exact h1)
  · exact absurd hr hc
set_option maxHeartbeats 4000000 in
set_option maxRecDepth 100000 in
theorem law_size (F : CallFix p m c cL_law 4 s #[Value.ref b] lw_all R_law) (hX : va_X b L xs s s.heap) (hbl : b < s.heap.size) (hL : L ≤ 320) (hcs : cells ≤ room_1.cells ∧ slots ≤ room_1.slots) (hi : i + 5 ≤ L) (hY : pm_Y D s q q2 a a2 u u2 H locs) (h0 : pm_Rc u.1 B) (h1 : pm_R1 u2 B) (hl : lv_has ls 4 [(0, .ref b), (1, .ref (q 0)), (2, .ref (q2 0)), (3, .int (nI i))])
    (kk : ∀ (u : pm_S0) (u2 : pm_S1) (B : pm_AB) (H : Heap) (locs : List Loc), pm_Y D s q q2 a a2 u u2 H locs → pm_Rc u.1 B → pm_R1 u2 B → W p l e room_1 s m #[Value.ref b] below meth c H locs cells slots Q (F0 m 778 ls [])) :
    W p l e room_1 s m #[Value.ref b] below meth c H locs cells slots Q (F0 m 534 ls []) := by
  have hx := F.1
  have hb := F.2.1
  have hbA : ¬ (fun x : Nat => s.heap.size ≤ x) b := Nat.not_le.mpr hbl
  obtain ⟨ne, hne, hI⟩ := id h0
  refine lv_aload_n hx hb dL_law_534 rfl (lv_at hl 1 rfl) ?_
  refine lv_aload_n hx hb dL_law_535 rfl (lv_at hl 0 rfl) ?_
  refine lv_iload_n hx hb dL_law_536 rfl (lv_at hl 3 rfl) ?_
  refine lv_iconst (v := nI 1) hx hb dL_law_537 (by decide) ?_
  refine lv_iadd hx hb dL_law_538 ?_
  refine pm_top (y := nI (i + 1)) (nI_add _ _) ?_
  refine va_sld hx hb hX hbl hbA hY.2.2.2 (vp_in_nI (by omega) (by omega)) dL_law_539 ?_
  refine pm_law0 (rest := []) (As := [.int (xs (nI (i + 1)).toNatClampNeg)]) F hY (c0_size l D q a u hI (xs (nI (i + 1)).toNatClampNeg)) hL0_size hd0_size ⟨⟨rfl, rfl⟩, Nat.le_of_ble_eq_true rfl, Nat.le_of_ble_eq_true rfl⟩ rfl rfl hl.1 (Nat.le_of_ble_eq_true rfl) dL_law_540 hcs (fun r0 z0 H locs hw0 hY => ?_)
  refine lv_aload_n hx hb dL_law_543 rfl (lv_at hl 2 rfl) ?_
  refine lv_aload_n hx hb dL_law_544 rfl (lv_at hl 0 rfl) ?_
  refine lv_iload_n hx hb dL_law_545 rfl (lv_at hl 3 rfl) ?_
  refine lv_iconst (v := nI 1) hx hb dL_law_546 (by decide) ?_
  refine lv_iadd hx hb dL_law_547 ?_
  refine pm_top (y := nI (i + 1)) (nI_add _ _) ?_
  refine va_sld hx hb hX hbl hbA hY.2.2.2 (vp_in_nI (by omega) (by omega)) dL_law_548 ?_
  refine pm_law1 (rest := [.int r0]) (As := [.int (xs (nI (i + 1)).toNatClampNeg)]) F hY (c1_size l D q2 a2 u2 h1 (xs (nI (i + 1)).toNatClampNeg)) hL1_size hd1_size ⟨⟨rfl, rfl⟩, Nat.le_of_ble_eq_true rfl, Nat.le_of_ble_eq_true rfl⟩ rfl rfl hl.1 (Nat.le_of_ble_eq_true rfl) dL_law_549 hcs (fun r1 z1 H locs hw1 hY => ?_)
  have hr : r0 = r1 := hw0.1.trans hw1.1.symm
  refine lv_icmp_eq (tgt := 778) hx hb dL_law_552 (by decide) (fun hc => ?_) (fun hc => ?_)
  · exact kk z0 z1 B _ _ hY (by rw [hw0.2]; exact h0) (by rw [hw1.2]; exact h1)
  · exact absurd hr hc
set_option maxHeartbeats 4000000 in
set_option maxRecDepth 100000 in
theorem law_next (F : CallFix p m c cL_law 4 s #[Value.ref b] lw_all R_law) (hX : va_X b L xs s s.heap) (hbl : b < s.heap.size) (hL : L ≤ 320) (hcs : cells ≤ room_1.cells ∧ slots ≤ room_1.slots) (hi : i + 5 ≤ L) (hY : pm_Y D s q q2 a a2 u u2 H locs) (h0 : pm_Rc u.1 B) (h1 : pm_R1 u2 B) (hl : lv_has ls 4 [(0, .ref b), (1, .ref (q 0)), (2, .ref (q2 0)), (3, .int (nI i))])
    (kk : ∀ (u : pm_S0) (u2 : pm_S1) (B : pm_AB) (H : Heap) (locs : List Loc), pm_Y D s q q2 a a2 u u2 H locs → pm_Rc u.1 B → pm_R1 u2 B → W p l e room_1 s m #[Value.ref b] below meth c H locs cells slots Q (F0 m 778 ls [])) :
    W p l e room_1 s m #[Value.ref b] below meth c H locs cells slots Q (F0 m 557 ls []) := by
  have hx := F.1
  have hb := F.2.1
  have hbA : ¬ (fun x : Nat => s.heap.size ≤ x) b := Nat.not_le.mpr hbl
  obtain ⟨ne, hne, hI⟩ := id h0
  refine lv_aload_n hx hb dL_law_557 rfl (lv_at hl 1 rfl) ?_
  refine lv_aload_n hx hb dL_law_558 rfl (lv_at hl 0 rfl) ?_
  refine lv_iload_n hx hb dL_law_559 rfl (lv_at hl 3 rfl) ?_
  refine lv_iconst (v := nI 1) hx hb dL_law_560 (by decide) ?_
  refine lv_iadd hx hb dL_law_561 ?_
  refine pm_top (y := nI (i + 1)) (nI_add _ _) ?_
  refine va_sld hx hb hX hbl hbA hY.2.2.2 (vp_in_nI (by omega) (by omega)) dL_law_562 ?_
  refine lv_aload_n hx hb dL_law_563 rfl (lv_at hl 0 rfl) ?_
  refine lv_iload_n hx hb dL_law_564 rfl (lv_at hl 3 rfl) ?_
  refine lv_iconst (v := nI 2) hx hb dL_law_565 (by decide) ?_
  refine lv_iadd hx hb dL_law_566 ?_
  refine pm_top (y := nI (i + 2)) (nI_add _ _) ?_
  refine va_sld hx hb hX hbl hbA hY.2.2.2 (vp_in_nI (by omega) (by omega)) dL_law_567 ?_
  refine pm_law0 (rest := []) (As := [.int (xs (nI (i + 1)).toNatClampNeg), .int (xs (nI (i + 2)).toNatClampNeg)]) F hY (c0_next l D q a u hI (xs (nI (i + 1)).toNatClampNeg) (xs (nI (i + 2)).toNatClampNeg)) hL0_next hd0_next ⟨⟨rfl, rfl⟩, Nat.le_of_ble_eq_true rfl, Nat.le_of_ble_eq_true rfl⟩ rfl rfl hl.1 (Nat.le_of_ble_eq_true rfl) dL_law_568 hcs (fun r0 z0 H locs hw0 hY => ?_)
  refine lv_aload_n hx hb dL_law_571 rfl (lv_at hl 2 rfl) ?_
  refine lv_aload_n hx hb dL_law_572 rfl (lv_at hl 0 rfl) ?_
  refine lv_iload_n hx hb dL_law_573 rfl (lv_at hl 3 rfl) ?_
  refine lv_iconst (v := nI 1) hx hb dL_law_574 (by decide) ?_
  refine lv_iadd hx hb dL_law_575 ?_
  refine pm_top (y := nI (i + 1)) (nI_add _ _) ?_
  refine va_sld hx hb hX hbl hbA hY.2.2.2 (vp_in_nI (by omega) (by omega)) dL_law_576 ?_
  refine lv_aload_n hx hb dL_law_577 rfl (lv_at hl 0 rfl) ?_
  refine lv_iload_n hx hb dL_law_578 rfl (lv_at hl 3 rfl) ?_
  refine lv_iconst (v := nI 2) hx hb dL_law_579 (by decide) ?_
  refine lv_iadd hx hb dL_law_580 ?_
  refine pm_top (y := nI (i + 2)) (nI_add _ _) ?_
  refine va_sld hx hb hX hbl hbA hY.2.2.2 (vp_in_nI (by omega) (by omega)) dL_law_581 ?_
  refine pm_law1 (rest := [.int r0]) (As := [.int (xs (nI (i + 1)).toNatClampNeg), .int (xs (nI (i + 2)).toNatClampNeg)]) F hY (c1_next l D q2 a2 u2 h1 (xs (nI (i + 1)).toNatClampNeg) (xs (nI (i + 2)).toNatClampNeg)) hL1_next hd1_next ⟨⟨rfl, rfl⟩, Nat.le_of_ble_eq_true rfl, Nat.le_of_ble_eq_true rfl⟩ rfl rfl hl.1 (Nat.le_of_ble_eq_true rfl) dL_law_582 hcs (fun r1 z1 H locs hw1 hY => ?_)
  have hr : r0 = r1 := sp_next_uniq hw0.1 hw1.1
  refine lv_icmp_eq (tgt := 778) hx hb dL_law_585 (by decide) (fun hc => ?_) (fun hc => ?_)
  · exact kk z0 z1 B _ _ hY (by rw [hw0.2]; exact h0) (by rw [hw1.2]; exact h1)
  · exact absurd hr hc
end PMLB
end
section
section PMLC
variable {p : Program} {l : Launch} {e : Env} {s : State} {m : MethodId} {below : List Frame} {meth : Method} {c : Code} {H : Heap} {locs : List Loc} {cells slots : Nat} {Q : State → Prop}
variable {ls : Array Slot} {D : va_G} {q q2 : Nat → Nat} {a a2 : Nat → ClassId} {u : pm_S0} {u2 : pm_S1} {b L i : Nat} {xs : Nat → Int32} {B : pm_AB}
set_option maxHeartbeats 4000000 in
set_option maxRecDepth 100000 in
theorem law_previous (F : CallFix p m c cL_law 4 s #[Value.ref b] lw_all R_law) (hX : va_X b L xs s s.heap) (hbl : b < s.heap.size) (hL : L ≤ 320) (hcs : cells ≤ room_1.cells ∧ slots ≤ room_1.slots) (hi : i + 5 ≤ L) (hY : pm_Y D s q q2 a a2 u u2 H locs) (h0 : pm_Rc u.1 B) (h1 : pm_R1 u2 B) (hl : lv_has ls 4 [(0, .ref b), (1, .ref (q 0)), (2, .ref (q2 0)), (3, .int (nI i))])
    (kk : ∀ (u : pm_S0) (u2 : pm_S1) (B : pm_AB) (H : Heap) (locs : List Loc), pm_Y D s q q2 a a2 u u2 H locs → pm_Rc u.1 B → pm_R1 u2 B → W p l e room_1 s m #[Value.ref b] below meth c H locs cells slots Q (F0 m 778 ls [])) :
    W p l e room_1 s m #[Value.ref b] below meth c H locs cells slots Q (F0 m 590 ls []) := by
  have hx := F.1
  have hb := F.2.1
  have hbA : ¬ (fun x : Nat => s.heap.size ≤ x) b := Nat.not_le.mpr hbl
  obtain ⟨ne, hne, hI⟩ := id h0
  refine lv_aload_n hx hb dL_law_590 rfl (lv_at hl 1 rfl) ?_
  refine lv_aload_n hx hb dL_law_591 rfl (lv_at hl 0 rfl) ?_
  refine lv_iload_n hx hb dL_law_592 rfl (lv_at hl 3 rfl) ?_
  refine lv_iconst (v := nI 1) hx hb dL_law_593 (by decide) ?_
  refine lv_iadd hx hb dL_law_594 ?_
  refine pm_top (y := nI (i + 1)) (nI_add _ _) ?_
  refine va_sld hx hb hX hbl hbA hY.2.2.2 (vp_in_nI (by omega) (by omega)) dL_law_595 ?_
  refine lv_aload_n hx hb dL_law_596 rfl (lv_at hl 0 rfl) ?_
  refine lv_iload_n hx hb dL_law_597 rfl (lv_at hl 3 rfl) ?_
  refine lv_iconst (v := nI 2) hx hb dL_law_598 (by decide) ?_
  refine lv_iadd hx hb dL_law_599 ?_
  refine pm_top (y := nI (i + 2)) (nI_add _ _) ?_
  refine va_sld hx hb hX hbl hbA hY.2.2.2 (vp_in_nI (by omega) (by omega)) dL_law_600 ?_
  refine pm_law0 (rest := []) (As := [.int (xs (nI (i + 1)).toNatClampNeg), .int (xs (nI (i + 2)).toNatClampNeg)]) F hY (c0_previous l D q a u hI (xs (nI (i + 1)).toNatClampNeg) (xs (nI (i + 2)).toNatClampNeg)) hL0_previous hd0_previous ⟨⟨rfl, rfl⟩, Nat.le_of_ble_eq_true rfl, Nat.le_of_ble_eq_true rfl⟩ rfl rfl hl.1 (Nat.le_of_ble_eq_true rfl) dL_law_601 hcs (fun r0 z0 H locs hw0 hY => ?_)
  refine lv_aload_n hx hb dL_law_604 rfl (lv_at hl 2 rfl) ?_
  refine lv_aload_n hx hb dL_law_605 rfl (lv_at hl 0 rfl) ?_
  refine lv_iload_n hx hb dL_law_606 rfl (lv_at hl 3 rfl) ?_
  refine lv_iconst (v := nI 1) hx hb dL_law_607 (by decide) ?_
  refine lv_iadd hx hb dL_law_608 ?_
  refine pm_top (y := nI (i + 1)) (nI_add _ _) ?_
  refine va_sld hx hb hX hbl hbA hY.2.2.2 (vp_in_nI (by omega) (by omega)) dL_law_609 ?_
  refine lv_aload_n hx hb dL_law_610 rfl (lv_at hl 0 rfl) ?_
  refine lv_iload_n hx hb dL_law_611 rfl (lv_at hl 3 rfl) ?_
  refine lv_iconst (v := nI 2) hx hb dL_law_612 (by decide) ?_
  refine lv_iadd hx hb dL_law_613 ?_
  refine pm_top (y := nI (i + 2)) (nI_add _ _) ?_
  refine va_sld hx hb hX hbl hbA hY.2.2.2 (vp_in_nI (by omega) (by omega)) dL_law_614 ?_
  refine pm_law1 (rest := [.int r0]) (As := [.int (xs (nI (i + 1)).toNatClampNeg), .int (xs (nI (i + 2)).toNatClampNeg)]) F hY (c1_previous l D q2 a2 u2 h1 (xs (nI (i + 1)).toNatClampNeg) (xs (nI (i + 2)).toNatClampNeg)) hL1_previous hd1_previous ⟨⟨rfl, rfl⟩, Nat.le_of_ble_eq_true rfl, Nat.le_of_ble_eq_true rfl⟩ rfl rfl hl.1 (Nat.le_of_ble_eq_true rfl) dL_law_615 hcs (fun r1 z1 H locs hw1 hY => ?_)
  have hr : r0 = r1 := sp_previous_uniq hw0.1 hw1.1
  refine lv_icmp_eq (tgt := 778) hx hb dL_law_618 (by decide) (fun hc => ?_) (fun hc => ?_)
  · exact kk z0 z1 B _ _ hY (by rw [hw0.2]; exact h0) (by rw [hw1.2]; exact h1)
  · exact absurd hr hc
set_option maxHeartbeats 4000000 in
set_option maxRecDepth 100000 in
theorem law_select (F : CallFix p m c cL_law 4 s #[Value.ref b] lw_all R_law) (hX : va_X b L xs s s.heap) (hbl : b < s.heap.size) (hL : L ≤ 320) (hcs : cells ≤ room_1.cells ∧ slots ≤ room_1.slots) (hi : i + 5 ≤ L) (hY : pm_Y D s q q2 a a2 u u2 H locs) (h0 : pm_Rc u.1 B) (h1 : pm_R1 u2 B) (hl : lv_has ls 4 [(0, .ref b), (1, .ref (q 0)), (2, .ref (q2 0)), (3, .int (nI i))])
    (kk : ∀ (u : pm_S0) (u2 : pm_S1) (B : pm_AB) (H : Heap) (locs : List Loc), pm_Y D s q q2 a a2 u u2 H locs → pm_Rc u.1 B → pm_R1 u2 B → W p l e room_1 s m #[Value.ref b] below meth c H locs cells slots Q (F0 m 778 ls [])) :
    W p l e room_1 s m #[Value.ref b] below meth c H locs cells slots Q (F0 m 623 ls []) := by
  have hx := F.1
  have hb := F.2.1
  have hbA : ¬ (fun x : Nat => s.heap.size ≤ x) b := Nat.not_le.mpr hbl
  obtain ⟨ne, hne, hI⟩ := id h0
  refine lv_aload_n hx hb dL_law_623 rfl (lv_at hl 1 rfl) ?_
  refine lv_aload_n hx hb dL_law_624 rfl (lv_at hl 0 rfl) ?_
  refine lv_iload_n hx hb dL_law_625 rfl (lv_at hl 3 rfl) ?_
  refine lv_iconst (v := nI 1) hx hb dL_law_626 (by decide) ?_
  refine lv_iadd hx hb dL_law_627 ?_
  refine pm_top (y := nI (i + 1)) (nI_add _ _) ?_
  refine va_sld hx hb hX hbl hbA hY.2.2.2 (vp_in_nI (by omega) (by omega)) dL_law_628 ?_
  refine lv_aload_n hx hb dL_law_629 rfl (lv_at hl 0 rfl) ?_
  refine lv_iload_n hx hb dL_law_630 rfl (lv_at hl 3 rfl) ?_
  refine lv_iconst (v := nI 2) hx hb dL_law_631 (by decide) ?_
  refine lv_iadd hx hb dL_law_632 ?_
  refine pm_top (y := nI (i + 2)) (nI_add _ _) ?_
  refine va_sld hx hb hX hbl hbA hY.2.2.2 (vp_in_nI (by omega) (by omega)) dL_law_633 ?_
  refine pm_law0 (rest := []) (As := [.int (xs (nI (i + 1)).toNatClampNeg), .int (xs (nI (i + 2)).toNatClampNeg)]) F hY (c0_select l D q a u hI (xs (nI (i + 1)).toNatClampNeg) (xs (nI (i + 2)).toNatClampNeg)) hL0_select hd0_select ⟨⟨rfl, rfl⟩, Nat.le_of_ble_eq_true rfl, Nat.le_of_ble_eq_true rfl⟩ rfl rfl hl.1 (Nat.le_of_ble_eq_true rfl) dL_law_634 hcs (fun r0 z0 H locs hw0 hY => ?_)
  refine lv_aload_n hx hb dL_law_637 rfl (lv_at hl 2 rfl) ?_
  refine lv_aload_n hx hb dL_law_638 rfl (lv_at hl 0 rfl) ?_
  refine lv_iload_n hx hb dL_law_639 rfl (lv_at hl 3 rfl) ?_
  refine lv_iconst (v := nI 1) hx hb dL_law_640 (by decide) ?_
  refine lv_iadd hx hb dL_law_641 ?_
  refine pm_top (y := nI (i + 1)) (nI_add _ _) ?_
  refine va_sld hx hb hX hbl hbA hY.2.2.2 (vp_in_nI (by omega) (by omega)) dL_law_642 ?_
  refine lv_aload_n hx hb dL_law_643 rfl (lv_at hl 0 rfl) ?_
  refine lv_iload_n hx hb dL_law_644 rfl (lv_at hl 3 rfl) ?_
  refine lv_iconst (v := nI 2) hx hb dL_law_645 (by decide) ?_
  refine lv_iadd hx hb dL_law_646 ?_
  refine pm_top (y := nI (i + 2)) (nI_add _ _) ?_
  refine va_sld hx hb hX hbl hbA hY.2.2.2 (vp_in_nI (by omega) (by omega)) dL_law_647 ?_
  refine pm_law1 (rest := [.int r0]) (As := [.int (xs (nI (i + 1)).toNatClampNeg), .int (xs (nI (i + 2)).toNatClampNeg)]) F hY (c1_select l D q2 a2 u2 h1 (xs (nI (i + 1)).toNatClampNeg) (xs (nI (i + 2)).toNatClampNeg)) hL1_select hd1_select ⟨⟨rfl, rfl⟩, Nat.le_of_ble_eq_true rfl, Nat.le_of_ble_eq_true rfl⟩ rfl rfl hl.1 (Nat.le_of_ble_eq_true rfl) dL_law_648 hcs (fun r1 z1 H locs hw1 hY => ?_)
  have hr : r0 = r1 := sp_select_uniq hw0.1 hw1.1
  refine lv_icmp_eq (tgt := 778) hx hb dL_law_651 (by decide) (fun hc => ?_) (fun hc => ?_)
  · exact kk z0 z1 B _ _ hY (by rw [hw0.2]; exact h0) (by rw [hw1.2]; exact h1)
  · exact absurd hr hc
set_option maxHeartbeats 4000000 in
set_option maxRecDepth 100000 in
theorem law_sum (F : CallFix p m c cL_law 4 s #[Value.ref b] lw_all R_law) (hX : va_X b L xs s s.heap) (hbl : b < s.heap.size) (hL : L ≤ 320) (hcs : cells ≤ room_1.cells ∧ slots ≤ room_1.slots) (hi : i + 5 ≤ L) (hY : pm_Y D s q q2 a a2 u u2 H locs) (h0 : pm_Rc u.1 B) (h1 : pm_R1 u2 B) (hl : lv_has ls 4 [(0, .ref b), (1, .ref (q 0)), (2, .ref (q2 0)), (3, .int (nI i))])
    (kk : ∀ (u : pm_S0) (u2 : pm_S1) (B : pm_AB) (H : Heap) (locs : List Loc), pm_Y D s q q2 a a2 u u2 H locs → pm_Rc u.1 B → pm_R1 u2 B → W p l e room_1 s m #[Value.ref b] below meth c H locs cells slots Q (F0 m 778 ls [])) :
    W p l e room_1 s m #[Value.ref b] below meth c H locs cells slots Q (F0 m 656 ls []) := by
  have hx := F.1
  have hb := F.2.1
  have hbA : ¬ (fun x : Nat => s.heap.size ≤ x) b := Nat.not_le.mpr hbl
  obtain ⟨ne, hne, hI⟩ := id h0
  refine lv_aload_n hx hb dL_law_656 rfl (lv_at hl 1 rfl) ?_
  refine lv_aload_n hx hb dL_law_657 rfl (lv_at hl 0 rfl) ?_
  refine lv_iload_n hx hb dL_law_658 rfl (lv_at hl 3 rfl) ?_
  refine lv_iconst (v := nI 1) hx hb dL_law_659 (by decide) ?_
  refine lv_iadd hx hb dL_law_660 ?_
  refine pm_top (y := nI (i + 1)) (nI_add _ _) ?_
  refine va_sld hx hb hX hbl hbA hY.2.2.2 (vp_in_nI (by omega) (by omega)) dL_law_661 ?_
  refine lv_aload_n hx hb dL_law_662 rfl (lv_at hl 0 rfl) ?_
  refine lv_iload_n hx hb dL_law_663 rfl (lv_at hl 3 rfl) ?_
  refine lv_iconst (v := nI 2) hx hb dL_law_664 (by decide) ?_
  refine lv_iadd hx hb dL_law_665 ?_
  refine pm_top (y := nI (i + 2)) (nI_add _ _) ?_
  refine va_sld hx hb hX hbl hbA hY.2.2.2 (vp_in_nI (by omega) (by omega)) dL_law_666 ?_
  refine lv_aload_n hx hb dL_law_667 rfl (lv_at hl 0 rfl) ?_
  refine lv_iload_n hx hb dL_law_668 rfl (lv_at hl 3 rfl) ?_
  refine lv_iconst (v := nI 3) hx hb dL_law_669 (by decide) ?_
  refine lv_iadd hx hb dL_law_670 ?_
  refine pm_top (y := nI (i + 3)) (nI_add _ _) ?_
  refine va_sld hx hb hX hbl hbA hY.2.2.2 (vp_in_nI (by omega) (by omega)) dL_law_671 ?_
  refine pm_law0 (rest := []) (As := [.int (xs (nI (i + 1)).toNatClampNeg), .int (xs (nI (i + 2)).toNatClampNeg), .int (xs (nI (i + 3)).toNatClampNeg)]) F hY (c0_sum l D q a u hI (xs (nI (i + 1)).toNatClampNeg) (xs (nI (i + 2)).toNatClampNeg) (xs (nI (i + 3)).toNatClampNeg)) hL0_sum hd0_sum ⟨⟨rfl, rfl⟩, Nat.le_of_ble_eq_true rfl, Nat.le_of_ble_eq_true rfl⟩ rfl rfl hl.1 (Nat.le_of_ble_eq_true rfl) dL_law_672 hcs (fun r0 z0 H locs hw0 hY => ?_)
  refine lv_aload_n hx hb dL_law_675 rfl (lv_at hl 2 rfl) ?_
  refine lv_aload_n hx hb dL_law_676 rfl (lv_at hl 0 rfl) ?_
  refine lv_iload_n hx hb dL_law_677 rfl (lv_at hl 3 rfl) ?_
  refine lv_iconst (v := nI 1) hx hb dL_law_678 (by decide) ?_
  refine lv_iadd hx hb dL_law_679 ?_
  refine pm_top (y := nI (i + 1)) (nI_add _ _) ?_
  refine va_sld hx hb hX hbl hbA hY.2.2.2 (vp_in_nI (by omega) (by omega)) dL_law_680 ?_
  refine lv_aload_n hx hb dL_law_681 rfl (lv_at hl 0 rfl) ?_
  refine lv_iload_n hx hb dL_law_682 rfl (lv_at hl 3 rfl) ?_
  refine lv_iconst (v := nI 2) hx hb dL_law_683 (by decide) ?_
  refine lv_iadd hx hb dL_law_684 ?_
  refine pm_top (y := nI (i + 2)) (nI_add _ _) ?_
  refine va_sld hx hb hX hbl hbA hY.2.2.2 (vp_in_nI (by omega) (by omega)) dL_law_685 ?_
  refine lv_aload_n hx hb dL_law_686 rfl (lv_at hl 0 rfl) ?_
  refine lv_iload_n hx hb dL_law_687 rfl (lv_at hl 3 rfl) ?_
  refine lv_iconst (v := nI 3) hx hb dL_law_688 (by decide) ?_
  refine lv_iadd hx hb dL_law_689 ?_
  refine pm_top (y := nI (i + 3)) (nI_add _ _) ?_
  refine va_sld hx hb hX hbl hbA hY.2.2.2 (vp_in_nI (by omega) (by omega)) dL_law_690 ?_
  refine pm_law1 (rest := [.int r0]) (As := [.int (xs (nI (i + 1)).toNatClampNeg), .int (xs (nI (i + 2)).toNatClampNeg), .int (xs (nI (i + 3)).toNatClampNeg)]) F hY (c1_sum l D q2 a2 u2 h1 (xs (nI (i + 1)).toNatClampNeg) (xs (nI (i + 2)).toNatClampNeg) (xs (nI (i + 3)).toNatClampNeg)) hL1_sum hd1_sum ⟨⟨rfl, rfl⟩, Nat.le_of_ble_eq_true rfl, Nat.le_of_ble_eq_true rfl⟩ rfl rfl hl.1 (Nat.le_of_ble_eq_true rfl) dL_law_691 hcs (fun r1 z1 H locs hw1 hY => ?_)
  have hr : r0 = r1 := hw0.1.trans hw1.1.symm
  refine lv_icmp_eq (tgt := 778) hx hb dL_law_694 (by decide) (fun hc => ?_) (fun hc => ?_)
  · exact kk z0 z1 B _ _ hY (by rw [hw0.2]; exact h0) (by rw [hw1.2]; exact h1)
  · exact absurd hr hc
set_option maxHeartbeats 4000000 in
set_option maxRecDepth 100000 in
theorem law_differing (F : CallFix p m c cL_law 4 s #[Value.ref b] lw_all R_law) (hX : va_X b L xs s s.heap) (hbl : b < s.heap.size) (hL : L ≤ 320) (hcs : cells ≤ room_1.cells ∧ slots ≤ room_1.slots) (hi : i + 5 ≤ L) (hY : pm_Y D s q q2 a a2 u u2 H locs) (h0 : pm_Rc u.1 B) (h1 : pm_R1 u2 B) (hl : lv_has ls 4 [(0, .ref b), (1, .ref (q 0)), (2, .ref (q2 0)), (3, .int (nI i))])
    (kk : ∀ (u : pm_S0) (u2 : pm_S1) (B : pm_AB) (H : Heap) (locs : List Loc), pm_Y D s q q2 a a2 u u2 H locs → pm_Rc u.1 B → pm_R1 u2 B → W p l e room_1 s m #[Value.ref b] below meth c H locs cells slots Q (F0 m 778 ls [])) :
    W p l e room_1 s m #[Value.ref b] below meth c H locs cells slots Q (F0 m 699 ls []) := by
  have hx := F.1
  have hb := F.2.1
  have hbA : ¬ (fun x : Nat => s.heap.size ≤ x) b := Nat.not_le.mpr hbl
  obtain ⟨ne, hne, hI⟩ := id h0
  refine lv_aload_n hx hb dL_law_699 rfl (lv_at hl 1 rfl) ?_
  refine lv_aload_n hx hb dL_law_700 rfl (lv_at hl 0 rfl) ?_
  refine lv_iload_n hx hb dL_law_701 rfl (lv_at hl 3 rfl) ?_
  refine lv_iconst (v := nI 1) hx hb dL_law_702 (by decide) ?_
  refine lv_iadd hx hb dL_law_703 ?_
  refine pm_top (y := nI (i + 1)) (nI_add _ _) ?_
  refine va_sld hx hb hX hbl hbA hY.2.2.2 (vp_in_nI (by omega) (by omega)) dL_law_704 ?_
  refine lv_aload_n hx hb dL_law_705 rfl (lv_at hl 0 rfl) ?_
  refine lv_iload_n hx hb dL_law_706 rfl (lv_at hl 3 rfl) ?_
  refine lv_iconst (v := nI 2) hx hb dL_law_707 (by decide) ?_
  refine lv_iadd hx hb dL_law_708 ?_
  refine pm_top (y := nI (i + 2)) (nI_add _ _) ?_
  refine va_sld hx hb hX hbl hbA hY.2.2.2 (vp_in_nI (by omega) (by omega)) dL_law_709 ?_
  refine pm_law0 (rest := []) (As := [.int (xs (nI (i + 1)).toNatClampNeg), .int (xs (nI (i + 2)).toNatClampNeg)]) F hY (c0_differing l D q a u hI (xs (nI (i + 1)).toNatClampNeg) (xs (nI (i + 2)).toNatClampNeg)) hL0_differing hd0_differing ⟨⟨rfl, rfl⟩, Nat.le_of_ble_eq_true rfl, Nat.le_of_ble_eq_true rfl⟩ rfl rfl hl.1 (Nat.le_of_ble_eq_true rfl) dL_law_710 hcs (fun r0 z0 H locs hw0 hY => ?_)
  refine lv_aload_n hx hb dL_law_713 rfl (lv_at hl 2 rfl) ?_
  refine lv_aload_n hx hb dL_law_714 rfl (lv_at hl 0 rfl) ?_
  refine lv_iload_n hx hb dL_law_715 rfl (lv_at hl 3 rfl) ?_
  refine lv_iconst (v := nI 1) hx hb dL_law_716 (by decide) ?_
  refine lv_iadd hx hb dL_law_717 ?_
  refine pm_top (y := nI (i + 1)) (nI_add _ _) ?_
  refine va_sld hx hb hX hbl hbA hY.2.2.2 (vp_in_nI (by omega) (by omega)) dL_law_718 ?_
  refine lv_aload_n hx hb dL_law_719 rfl (lv_at hl 0 rfl) ?_
  refine lv_iload_n hx hb dL_law_720 rfl (lv_at hl 3 rfl) ?_
  refine lv_iconst (v := nI 2) hx hb dL_law_721 (by decide) ?_
  refine lv_iadd hx hb dL_law_722 ?_
  refine pm_top (y := nI (i + 2)) (nI_add _ _) ?_
  refine va_sld hx hb hX hbl hbA hY.2.2.2 (vp_in_nI (by omega) (by omega)) dL_law_723 ?_
  refine pm_law1 (rest := [.int r0]) (As := [.int (xs (nI (i + 1)).toNatClampNeg), .int (xs (nI (i + 2)).toNatClampNeg)]) F hY (c1_differing l D q2 a2 u2 h1 (xs (nI (i + 1)).toNatClampNeg) (xs (nI (i + 2)).toNatClampNeg)) hL1_differing hd1_differing ⟨⟨rfl, rfl⟩, Nat.le_of_ble_eq_true rfl, Nat.le_of_ble_eq_true rfl⟩ rfl rfl hl.1 (Nat.le_of_ble_eq_true rfl) dL_law_724 hcs (fun r1 z1 H locs hw1 hY => ?_)
  have hr : r0 = r1 := hw0.1.trans hw1.1.symm
  refine lv_icmp_eq (tgt := 778) hx hb dL_law_727 (by decide) (fun hc => ?_) (fun hc => ?_)
  · exact kk z0 z1 B _ _ hY (by rw [hw0.2]; exact h0) (by rw [hw1.2]; exact h1)
  · exact absurd hr hc
set_option maxHeartbeats 4000000 in
set_option maxRecDepth 100000 in
theorem law_spread (F : CallFix p m c cL_law 4 s #[Value.ref b] lw_all R_law) (hX : va_X b L xs s s.heap) (hbl : b < s.heap.size) (hL : L ≤ 320) (hcs : cells ≤ room_1.cells ∧ slots ≤ room_1.slots) (hi : i + 5 ≤ L) (hY : pm_Y D s q q2 a a2 u u2 H locs) (h0 : pm_Rc u.1 B) (h1 : pm_R1 u2 B) (hl : lv_has ls 4 [(0, .ref b), (1, .ref (q 0)), (2, .ref (q2 0)), (3, .int (nI i))])
    (kk : ∀ (u : pm_S0) (u2 : pm_S1) (B : pm_AB) (H : Heap) (locs : List Loc), pm_Y D s q q2 a a2 u u2 H locs → pm_Rc u.1 B → pm_R1 u2 B → W p l e room_1 s m #[Value.ref b] below meth c H locs cells slots Q (F0 m 778 ls [])) :
    W p l e room_1 s m #[Value.ref b] below meth c H locs cells slots Q (F0 m 732 ls []) := by
  have hx := F.1
  have hb := F.2.1
  have hbA : ¬ (fun x : Nat => s.heap.size ≤ x) b := Nat.not_le.mpr hbl
  obtain ⟨ne, hne, hI⟩ := id h0
  refine lv_aload_n hx hb dL_law_732 rfl (lv_at hl 1 rfl) ?_
  refine lv_aload_n hx hb dL_law_733 rfl (lv_at hl 0 rfl) ?_
  refine lv_iload_n hx hb dL_law_734 rfl (lv_at hl 3 rfl) ?_
  refine lv_iconst (v := nI 1) hx hb dL_law_735 (by decide) ?_
  refine lv_iadd hx hb dL_law_736 ?_
  refine pm_top (y := nI (i + 1)) (nI_add _ _) ?_
  refine va_sld hx hb hX hbl hbA hY.2.2.2 (vp_in_nI (by omega) (by omega)) dL_law_737 ?_
  refine pm_law0 (rest := []) (As := [.int (xs (nI (i + 1)).toNatClampNeg)]) F hY (c0_spread l D q a u hI (xs (nI (i + 1)).toNatClampNeg)) hL0_spread hd0_spread ⟨⟨rfl, rfl⟩, Nat.le_of_ble_eq_true rfl, Nat.le_of_ble_eq_true rfl⟩ rfl rfl hl.1 (Nat.le_of_ble_eq_true rfl) dL_law_738 hcs (fun r0 z0 H locs hw0 hY => ?_)
  refine lv_aload_n hx hb dL_law_741 rfl (lv_at hl 2 rfl) ?_
  refine lv_aload_n hx hb dL_law_742 rfl (lv_at hl 0 rfl) ?_
  refine lv_iload_n hx hb dL_law_743 rfl (lv_at hl 3 rfl) ?_
  refine lv_iconst (v := nI 1) hx hb dL_law_744 (by decide) ?_
  refine lv_iadd hx hb dL_law_745 ?_
  refine pm_top (y := nI (i + 1)) (nI_add _ _) ?_
  refine va_sld hx hb hX hbl hbA hY.2.2.2 (vp_in_nI (by omega) (by omega)) dL_law_746 ?_
  refine pm_law1 (rest := [.int r0]) (As := [.int (xs (nI (i + 1)).toNatClampNeg)]) F hY (c1_spread l D q2 a2 u2 h1 (xs (nI (i + 1)).toNatClampNeg)) hL1_spread hd1_spread ⟨⟨rfl, rfl⟩, Nat.le_of_ble_eq_true rfl, Nat.le_of_ble_eq_true rfl⟩ rfl rfl hl.1 (Nat.le_of_ble_eq_true rfl) dL_law_747 hcs (fun r1 z1 H locs hw1 hY => ?_)
  have hr : r0 = r1 := hw0.1.trans hw1.1.symm
  refine lv_icmp_eq (tgt := 778) hx hb dL_law_750 (by decide) (fun hc => ?_) (fun hc => ?_)
  · exact kk z0 z1 B _ _ hY (by rw [hw0.2]; exact h0) (by rw [hw1.2]; exact h1)
  · exact absurd hr hc
set_option maxHeartbeats 4000000 in
set_option maxRecDepth 100000 in
theorem law_changes (F : CallFix p m c cL_law 4 s #[Value.ref b] lw_all R_law) (hX : va_X b L xs s s.heap) (hbl : b < s.heap.size) (hL : L ≤ 320) (hcs : cells ≤ room_1.cells ∧ slots ≤ room_1.slots) (hi : i + 5 ≤ L) (hY : pm_Y D s q q2 a a2 u u2 H locs) (h0 : pm_Rc u.1 B) (h1 : pm_R1 u2 B) (hl : lv_has ls 4 [(0, .ref b), (1, .ref (q 0)), (2, .ref (q2 0)), (3, .int (nI i))])
    (kk : ∀ (u : pm_S0) (u2 : pm_S1) (B : pm_AB) (H : Heap) (locs : List Loc), pm_Y D s q q2 a a2 u u2 H locs → pm_Rc u.1 B → pm_R1 u2 B → W p l e room_1 s m #[Value.ref b] below meth c H locs cells slots Q (F0 m 778 ls [])) :
    W p l e room_1 s m #[Value.ref b] below meth c H locs cells slots Q (F0 m 755 ls []) := by
  have hx := F.1
  have hb := F.2.1
  have hbA : ¬ (fun x : Nat => s.heap.size ≤ x) b := Nat.not_le.mpr hbl
  obtain ⟨ne, hne, hI⟩ := id h0
  refine lv_aload_n hx hb dL_law_755 rfl (lv_at hl 1 rfl) ?_
  refine lv_aload_n hx hb dL_law_756 rfl (lv_at hl 0 rfl) ?_
  refine lv_iload_n hx hb dL_law_757 rfl (lv_at hl 3 rfl) ?_
  refine lv_iconst (v := nI 1) hx hb dL_law_758 (by decide) ?_
  refine lv_iadd hx hb dL_law_759 ?_
  refine pm_top (y := nI (i + 1)) (nI_add _ _) ?_
  refine va_sld hx hb hX hbl hbA hY.2.2.2 (vp_in_nI (by omega) (by omega)) dL_law_760 ?_
  refine pm_law0 (rest := []) (As := [.int (xs (nI (i + 1)).toNatClampNeg)]) F hY (c0_changes l D q a u hI (xs (nI (i + 1)).toNatClampNeg)) hL0_changes hd0_changes ⟨⟨rfl, rfl⟩, Nat.le_of_ble_eq_true rfl, Nat.le_of_ble_eq_true rfl⟩ rfl rfl hl.1 (Nat.le_of_ble_eq_true rfl) dL_law_761 hcs (fun r0 z0 H locs hw0 hY => ?_)
  refine lv_aload_n hx hb dL_law_764 rfl (lv_at hl 2 rfl) ?_
  refine lv_aload_n hx hb dL_law_765 rfl (lv_at hl 0 rfl) ?_
  refine lv_iload_n hx hb dL_law_766 rfl (lv_at hl 3 rfl) ?_
  refine lv_iconst (v := nI 1) hx hb dL_law_767 (by decide) ?_
  refine lv_iadd hx hb dL_law_768 ?_
  refine pm_top (y := nI (i + 1)) (nI_add _ _) ?_
  refine va_sld hx hb hX hbl hbA hY.2.2.2 (vp_in_nI (by omega) (by omega)) dL_law_769 ?_
  refine pm_law1 (rest := [.int r0]) (As := [.int (xs (nI (i + 1)).toNatClampNeg)]) F hY (c1_changes l D q2 a2 u2 h1 (xs (nI (i + 1)).toNatClampNeg)) hL1_changes hd1_changes ⟨⟨rfl, rfl⟩, Nat.le_of_ble_eq_true rfl, Nat.le_of_ble_eq_true rfl⟩ rfl rfl hl.1 (Nat.le_of_ble_eq_true rfl) dL_law_770 hcs (fun r1 z1 H locs hw1 hY => ?_)
  have hr : r0 = r1 := hw0.1.trans hw1.1.symm
  refine lv_icmp_eq (tgt := 778) hx hb dL_law_773 (by decide) (fun hc => ?_) (fun hc => ?_)
  · exact kk z0 z1 B _ _ hY (by rw [hw0.2]; exact h0) (by rw [hw1.2]; exact h1)
  · exact absurd hr hc
end PMLC
end
section
section PMLD
variable {p : Program} {l : Launch} {e : Env} {s : State} {m : MethodId} {below : List Frame} {meth : Method} {c : Code} {H : Heap} {locs : List Loc} {cells slots : Nat} {Q : State → Prop}
variable {ls : Array Slot} {D : va_G} {q q2 : Nat → Nat} {a a2 : Nat → ClassId} {u : pm_S0} {u2 : pm_S1} {b L i : Nat} {xs : Nat → Int32} {B : pm_AB}
set_option maxHeartbeats 4000000 in
set_option maxRecDepth 100000 in
/-- the switch: whatever the number, on to the loop's step -/
theorem law_switch (F : CallFix p m c cL_law 4 s #[Value.ref b] lw_all R_law) (hX : va_X b L xs s s.heap) (hbl : b < s.heap.size) (hL : L ≤ 320) (hcs : cells ≤ room_1.cells ∧ slots ≤ room_1.slots) (hi : i + 5 ≤ L) (hY : pm_Y D s q q2 a a2 u u2 H locs) (h0 : pm_Rc u.1 B) (h1 : pm_R1 u2 B) (hl : lv_has ls 4 [(0, .ref b), (1, .ref (q 0)), (2, .ref (q2 0)), (3, .int (nI i))])
    (kk : ∀ (u : pm_S0) (u2 : pm_S1) (B : pm_AB) (H : Heap) (locs : List Loc), pm_Y D s q q2 a a2 u u2 H locs → pm_Rc u.1 B → pm_R1 u2 B → W p l e room_1 s m #[Value.ref b] below meth c H locs cells slots Q (F0 m 778 ls [])) :
    W p l e room_1 s m #[Value.ref b] below meth c H locs cells slots Q (F0 m 26 ls []) := by
  have hx := F.1
  have hb := F.2.1
  have hbA : ¬ (fun x : Nat => s.heap.size ≤ x) b := Nat.not_le.mpr hbl
  refine lv_aload_n hx hb dL_law_26 rfl (lv_at hl 0 rfl) ?_
  refine lv_iload_n hx hb dL_law_27 rfl (lv_at hl 3 rfl) ?_
  refine va_sld hx hb hX hbl hbA hY.2.2.2 (vp_in_nI (by omega) (by omega)) dL_law_28 ?_
  refine lv_bipush (v := 31) hx hb dL_law_29 (by decide) ?_
  refine lv_iand hx hb dL_law_31 ?_
  obtain ⟨j, hj, he⟩ := pk_andE (xs (nI i).toNatClampNeg) (m := 31) 5 (by decide)
  refine pm_top he ?_
  rcases Nat.lt_or_ge j 20 with hj2 | hj2
  · rcases (show j = 0 ∨ j = 1 ∨ j = 2 ∨ j = 3 ∨ j = 4 ∨ j = 5 ∨ j = 6 ∨ j = 7 ∨ j = 8 ∨ j = 9 ∨ j = 10 ∨ j = 11 ∨ j = 12 ∨ j = 13 ∨ j = 14 ∨ j = 15 ∨ j = 16 ∨ j = 17 ∨ j = 18 ∨ j = 19 by omega) with rfl | rfl | rfl | rfl | rfl | rfl | rfl | rfl | rfl | rfl | rfl | rfl | rfl | rfl | rfl | rfl | rfl | rfl | rfl | rfl
    · refine lv_tableIn (off := 96) (tgt := 128) hx hb dL_law_32 (by decide +kernel) (by decide +kernel) (by decide +kernel) (by decide) ?_
      exact law_put F hX hbl hL hcs hi hY h0 h1 hl kk
    · refine lv_tableIn (off := 139) (tgt := 171) hx hb dL_law_32 (by decide +kernel) (by decide +kernel) (by decide +kernel) (by decide) ?_
      exact law_remove F hX hbl hL hcs hi hY h0 h1 hl kk
    · refine lv_tableIn (off := 172) (tgt := 204) hx hb dL_law_32 (by decide +kernel) (by decide +kernel) (by decide +kernel) (by decide) ?_
      exact law_fill F hX hbl hL hcs hi hY h0 h1 hl kk
    · refine lv_tableIn (off := 225) (tgt := 257) hx hb dL_law_32 (by decide +kernel) (by decide +kernel) (by decide +kernel) (by decide) ?_
      exact law_graft F hX hbl hL hcs hi hY h0 h1 hl kk
    · refine lv_tableIn (off := 268) (tgt := 300) hx hb dL_law_32 (by decide +kernel) (by decide +kernel) (by decide +kernel) (by decide) ?_
      exact law_exchange F hX hbl hL hcs hi hY h0 h1 hl kk
    · refine lv_tableIn (off := 311) (tgt := 343) hx hb dL_law_32 (by decide +kernel) (by decide +kernel) (by decide +kernel) (by decide) ?_
      exact law_versions F hX hbl hL hcs hi hY h0 h1 hl kk
    · refine lv_tableIn (off := 324) (tgt := 356) hx hb dL_law_32 (by decide +kernel) (by decide +kernel) (by decide +kernel) (by decide) ?_
      exact law_parent F hX hbl hL hcs hi hY h0 h1 hl kk
    · refine lv_tableIn (off := 347) (tgt := 379) hx hb dL_law_32 (by decide +kernel) (by decide +kernel) (by decide +kernel) (by decide) ?_
      exact law_ancestor F hX hbl hL hcs hi hY h0 h1 hl kk
    · refine lv_tableIn (off := 380) (tgt := 412) hx hb dL_law_32 (by decide +kernel) (by decide +kernel) (by decide +kernel) (by decide) ?_
      exact law_meet F hX hbl hL hcs hi hY h0 h1 hl kk
    · refine lv_tableIn (off := 413) (tgt := 445) hx hb dL_law_32 (by decide +kernel) (by decide +kernel) (by decide +kernel) (by decide) ?_
      exact law_family F hX hbl hL hcs hi hY h0 h1 hl kk
    · refine lv_tableIn (off := 436) (tgt := 468) hx hb dL_law_32 (by decide +kernel) (by decide +kernel) (by decide +kernel) (by decide) ?_
      exact law_has F hX hbl hL hcs hi hY h0 h1 hl kk
    · refine lv_tableIn (off := 469) (tgt := 501) hx hb dL_law_32 (by decide +kernel) (by decide +kernel) (by decide +kernel) (by decide) ?_
      exact law_get F hX hbl hL hcs hi hY h0 h1 hl kk
    · refine lv_tableIn (off := 502) (tgt := 534) hx hb dL_law_32 (by decide +kernel) (by decide +kernel) (by decide +kernel) (by decide) ?_
      exact law_size F hX hbl hL hcs hi hY h0 h1 hl kk
    · refine lv_tableIn (off := 525) (tgt := 557) hx hb dL_law_32 (by decide +kernel) (by decide +kernel) (by decide +kernel) (by decide) ?_
      exact law_next F hX hbl hL hcs hi hY h0 h1 hl kk
    · refine lv_tableIn (off := 558) (tgt := 590) hx hb dL_law_32 (by decide +kernel) (by decide +kernel) (by decide +kernel) (by decide) ?_
      exact law_previous F hX hbl hL hcs hi hY h0 h1 hl kk
    · refine lv_tableIn (off := 591) (tgt := 623) hx hb dL_law_32 (by decide +kernel) (by decide +kernel) (by decide +kernel) (by decide) ?_
      exact law_select F hX hbl hL hcs hi hY h0 h1 hl kk
    · refine lv_tableIn (off := 624) (tgt := 656) hx hb dL_law_32 (by decide +kernel) (by decide +kernel) (by decide +kernel) (by decide) ?_
      exact law_sum F hX hbl hL hcs hi hY h0 h1 hl kk
    · refine lv_tableIn (off := 667) (tgt := 699) hx hb dL_law_32 (by decide +kernel) (by decide +kernel) (by decide +kernel) (by decide) ?_
      exact law_differing F hX hbl hL hcs hi hY h0 h1 hl kk
    · refine lv_tableIn (off := 700) (tgt := 732) hx hb dL_law_32 (by decide +kernel) (by decide +kernel) (by decide +kernel) (by decide) ?_
      exact law_spread F hX hbl hL hcs hi hY h0 h1 hl kk
    · refine lv_tableIn (off := 723) (tgt := 755) hx hb dL_law_32 (by decide +kernel) (by decide +kernel) (by decide +kernel) (by decide) ?_
      exact law_changes F hX hbl hL hcs hi hY h0 h1 hl kk
  · refine lv_tableOut (tgt := 778) hx hb dL_law_32 (Or.inr (by rw [nI_toInt (by omega)]; omega)) (by decide) ?_
    exact kk u u2 B _ _ hY h0 h1
end PMLD
set_option maxHeartbeats 4000000 in
set_option maxRecDepth 100000 in
/-- the law's loop -/
theorem law_loop {p : Program} {l : Launch} {e : Env} {s : State} {m : MethodId} {below : List Frame} {meth : Method} {c : Code} {cells slots : Nat} {D : va_G} {q q2 : Nat → Nat} {a a2 : Nat → ClassId} {b L : Nat} {xs : Nat → Int32}
    (F : CallFix p m c cL_law 4 s #[Value.ref b] lw_all R_law) (hX : va_X b L xs s s.heap) (hbl : b < s.heap.size) (hL : L ≤ 320) (hcs : cells ≤ room_1.cells ∧ slots ≤ room_1.slots) (hr : meth.sig.returnType = ret) (hlocks : meth.locks = false) :
    ∀ (N i : Nat) (u : pm_S0) (u2 : pm_S1) (B : pm_AB) (H : Heap) (locs : List Loc) (ls : Array Slot), i ≤ L → L + 1 ≤ i + N → pm_Y D s q q2 a a2 u u2 H locs → pm_Rc u.1 B → pm_R1 u2 B → lv_has ls 4 [(0, .ref b), (1, .ref (q 0)), (2, .ref (q2 0)), (3, .int (nI i))] → W p l e room_1 s m #[Value.ref b] below meth c H locs cells slots (lw_Z below #[Value.ref b] s) (F0 m 18 ls []) := by
  have hx := F.1
  have hb := F.2.1
  have hbA : ¬ (fun x : Nat => s.heap.size ≤ x) b := Nat.not_le.mpr hbl
  intro N
  induction N with
  | zero =>
    intro i u u2 B H locs ls hi hN
    exact absurd hN (by omega)
  | succ N ih =>
    intro i u u2 B H locs ls hi hN hY h0 h1 hl
    refine lv_iload_n hx hb dL_law_18 rfl (lv_at hl 3 rfl) ?_
    refine lv_aload_n hx hb dL_law_19 rfl (lv_at hl 0 rfl) ?_
    refine va_slen hx hb hX hbl hbA hY.2.2.2 dL_law_20 ?_
    refine pm_top (y := nI L) rfl ?_
    refine lv_iconst (v := nI 5) hx hb dL_law_21 (by decide) ?_
    refine lv_isub hx hb dL_law_22 ?_
    refine lv_icmp_gt (tgt := 784) hx hb dL_law_23 (by decide) (fun hc => ?_) (fun hc => ?_)
    · refine lv_iconst (v := 1) hx hb dL_law_784 (by decide) ?_
      refine va_forget (fun q hq => hY.2.2.2.2.2 q hq) ?_
      refine W.widen (k := 600000) (n := 7290000) hcs.1 hcs.2 ?_
      exact lw_ret hx hb hr hlocks dL_law_785
    · have hi5 : i + 5 ≤ L := by
        rw [Int32.lt_iff_toInt_lt, pk_sub_toInt (by omega) (by omega), nI_toInt (by omega)] at hc
        omega
      refine law_switch F hX hbl hL hcs hi5 hY h0 h1 hl (fun u u2 B H locs hY h0 h1 => ?_)
      refine lv_iinc (v := nI (i + 5)) (lv' := [(3, .int (nI (i + 5))), (0, .ref b), (1, .ref (q 0)), (2, .ref (q2 0))]) hx hb dL_law_778 hl (k := 3) rfl (nI_add i 5) (by decide) rfl (fun ls hl => ?_)
      refine lv_goto (tgt := 18) hx hb dL_law_781 (by decide) ?_
      exact ih (i + 5) u u2 B _ _ ls hi5 (by omega) hY h0 h1 (lv_sub hl [1, 2, 3, 0] rfl)
end
section
set_option maxHeartbeats 4000000 in
set_option maxRecDepth 100000 in
/-- from the entry, for every script of at most 320 ints, the law comes to its end with true -/
theorem whole_start {p : Program} {e : Env} {s : State} {m : MethodId} {below : List Frame} {meth : Method} {c : Code} (l : Launch) {b L : Nat} {xs : Nat → Int32} (hL : L ≤ 320) (C0 : lw_At p s m meth c b L xs) : W p l e room_1 s m #[Value.ref b] below meth c s.heap [] 0 0 (lw_Z below #[Value.ref b] s) (entryFrame m ([Value.ref b] : List Value).toArray 4) := by
  obtain ⟨hx, hb, hr, hml, hown, hts0, hX, hbl, hlocks, hgv⟩ := C0
  have hts : ∀ w ∈ lw_all, w.before #[Value.ref b] s = true := fun w h => hts0 w (lw_all_tbl h)
  have F : CallFix p m c cL_law 4 s #[Value.ref b] lw_all R_law := ⟨hx, hb, hml, hown, hts⟩
  have hA : ∀ q : Nat, s.heap.size ≤ q → (fun x : Nat => s.heap.size ≤ x) q := fun _ h => h
  obtain ⟨c0, iS0, hKn0⟩ := u_known (C := RX0) (T := TX0) (N := 12) (n := 12) hts in_X0 (hts _ q21)
  obtain ⟨c1, iS1, hKn1⟩ := u_known (C := RX1) (T := TX1) (N := 4) (n := 4) hts in_X1 (hts _ q195)
  obtain ⟨dC, dI, hKc⟩ : ∃ (dC : Nat → ClassId) (dI : Nat → Nat → Nat), ∀ (k : Nat) (q : vw_C), pm_cl[k]? = some q → u_Kn s q.1 q.2.1 q.2.2 (dC k) (dI k) := by
    refine ⟨fun k => if k = 0 then c0 else c1, fun k => if k = 0 then iS0 else iS1, ?_⟩
    intro k q hq
    match k, hq with
    | 0, hq => cases hq; exact hKn0
    | 1, hq => cases hq; exact hKn1
    | k + 2, hq => simp [pm_cl] at hq
  obtain ⟨D, hD0⟩ : ∃ D : va_G, D = (dC, dI) := ⟨_, rfl⟩
  have hS : va_S (fun x : Nat => s.heap.size ≤ x) s.heap s.heap [] := va_S.rf
  have hK : va_K D pm_cl [] s := by rw [hD0]; exact ⟨hKc, fun k q h => by simp at h⟩
  have hP : va_P D pm_cl [] s.heap := fun k q h => by simp at h
  have hD : va_D (fun x : Nat => s.heap.size ≤ x) [] := ⟨fun i j p q h => by simp at h, fun k q h => by simp at h⟩
  have hl := lv_entry ([.ref b]) (n := 4) (Nat.le_of_ble_eq_true rfl)
  rw [lg_entry_eq]
  generalize (lg_sl ([.ref b]) ++ List.replicate (4 - (lg_sl ([.ref b])).length) Slot.unset).toArray = ls at hl ⊢
  have hl : lv_has ls 4 [(0, .ref b)] := hl
  refine va_new (D := D) (ci := 0) (fs := [.null, .null, .null, .null, .null, .null, .null, .null, .int 0, .int 0, .int 0, .int 0]) (C := RX0) (T := TX0) (N := 12) hx hb hts in_X0 tyX0 tyX0_ok hown (hts _ q20) (hts _ q21) (hts _ q18) hK hP hD hS hA rfl (fun j hj => by rcases (show j = 0 ∨ j = 1 ∨ j = 2 ∨ j = 3 ∨ j = 4 ∨ j = 5 ∨ j = 6 ∨ j = 7 ∨ j = 8 ∨ j = 9 ∨ j = 10 ∨ j = 11 by omega) with rfl | rfl | rfl | rfl | rfl | rfl | rfl | rfl | rfl | rfl | rfl | rfl <;> rfl) (Nat.le_of_ble_eq_true rfl) (Nat.le_of_ble_eq_true rfl) dL_law_0 (fun h0 H hP hD hS => ?_)
  have hPc : va_P D pm_cl (pm_o0 h0) H := hP
  have hDc : va_D (fun x : Nat => s.heap.size ≤ x) (pm_o0 h0) := hD
  have hKc := hK
  have hFc := va_free (wc := pm_o0 h0) hDc hS hA [0] rfl
  refine W.widen (k := 1) (n := 12) (Nat.le_of_ble_eq_true rfl) (Nat.le_of_ble_eq_true rfl) ?_
  refine lv_dup hx hb dL_law_3 rfl ?_
  refine va_callv (va_runI (As := []) (rest := [.ref h0]) F (c0_init l D h0 H.size) (cwI 0 hts (lw_meth q24) rfl rfl rfl (hts _ q18) (hts _ q22) (hts _ q23) rfl hd0_init ⟨Nat.le_of_ble_eq_true rfl, Nat.le_of_ble_eq_true rfl⟩) ⟨fun a U g mk q => by obtain ⟨q0, q1, qP, qK, qD⟩ := q; exact ⟨q0, q1, qP, va_K.moved (u := U) (U := U.calling g mk a) (Vm.Alike.refl U.vm) qK, qD⟩, fun U hU hW => ⟨rfl, by rw [hU], by rw [hU]; exact hPc, va_K.moved hW.alike hKc, hDc.weaken (fun _ _ _ _ => trivial)⟩⟩ rfl rfl hl.1 rfl (lv_room (Nat.le_of_ble_eq_true rfl)) dL_law_4 ⟨Nat.le_of_ble_eq_true rfl, Nat.le_of_ble_eq_true rfl⟩) hS (fun q _ h => hFc q h) hFc (fun x t H1 locs ht hvm hw hB hz1 hk1 hS => ?_)
  obtain ⟨q, a, u⟩ := x
  have hq0 : q 0 = h0 := hw.1
  subst hq0
  obtain ⟨hP1, hK1, hD1⟩ := hB
  rw [ht] at hP1
  have hK : va_K D pm_cl (pm_t0 a) s := va_K.moved hvm.symm hK1
  have hR0 : pm_Rc u.1 pm_ab0 := hw.2
  obtain ⟨hP, hD⟩ := va_join (wr := []) (w1 := pm_w0 q a u) hPc hDc [0] [] rfl rfl (by decide) (by decide) hk1 hFc hP1 hD1
  have hP : va_P D pm_cl (pm_w0 q a u) H1 := hP
  have hD : va_D (fun x : Nat => s.heap.size ≤ x) (pm_w0 q a u) := hD
  refine W.widen (k := 9) (n := 2724) (Nat.le_of_ble_eq_true rfl) (Nat.le_of_ble_eq_true rfl) ?_
  refine lv_astore_n (lv' := [(1, .ref (q 0)), (0, .ref b)]) hx hb dL_law_7 rfl hl (by decide) rfl (fun ls hl => ?_)
  refine va_new (D := D) (ci := 1) (fs := [.int 0, .null, .null, .null]) (C := RX1) (T := TX1) (N := 4) hx hb hts in_X1 tyX1 tyX1_ok hown (hts _ q194) (hts _ q195) (hts _ q19) hK hP hD hS hA rfl (fun j hj => by rcases (show j = 0 ∨ j = 1 ∨ j = 2 ∨ j = 3 by omega) with rfl | rfl | rfl | rfl <;> rfl) (Nat.le_of_ble_eq_true rfl) (Nat.le_of_ble_eq_true rfl) dL_law_8 (fun h1 H hP hD hS => ?_)
  have hP : va_P D pm_cl (pm_w0 q a u ++ pm_o1 h1) H := hP
  have hD : va_D (fun x : Nat => s.heap.size ≤ x) (pm_w0 q a u ++ pm_o1 h1) := hD
  have hPc := hP.sub (ws' := pm_o1 h1) [9] rfl
  have hDc := hD.sub (ws' := pm_o1 h1) [9] (by decide) rfl
  have hKc := hK.sub (tys' := []) [] rfl
  have hFc := va_free (wc := pm_o1 h1) hD hS hA [9] rfl
  refine W.widen (k := 10) (n := 2728) (Nat.le_of_ble_eq_true rfl) (Nat.le_of_ble_eq_true rfl) ?_
  refine lv_dup hx hb dL_law_11 rfl ?_
  refine va_callv (va_runI (As := []) (rest := [.ref h1]) F (c1_init l D h1 H.size) (cwI 0 hts (lw_meth q198) rfl rfl rfl (hts _ q19) (hts _ q196) (hts _ q197) rfl hd1_init ⟨Nat.le_of_ble_eq_true rfl, Nat.le_of_ble_eq_true rfl⟩) ⟨fun a U g mk q => by obtain ⟨q0, q1, qP, qK, qD⟩ := q; exact ⟨q0, q1, qP, va_K.moved (u := U) (U := U.calling g mk a) (Vm.Alike.refl U.vm) qK, qD⟩, fun U hU hW => ⟨rfl, by rw [hU], by rw [hU]; exact hPc, va_K.moved hW.alike hKc, hDc.weaken (fun _ _ _ _ => trivial)⟩⟩ rfl rfl hl.1 rfl (lv_room (Nat.le_of_ble_eq_true rfl)) dL_law_12 ⟨Nat.le_of_ble_eq_true rfl, Nat.le_of_ble_eq_true rfl⟩) hS (fun q _ h => hFc q h) hFc (fun x t H1 locs ht hvm hw hB hz1 hk1 hS => ?_)
  obtain ⟨q2, a2, u2⟩ := x
  have hq0 : q2 0 = h1 := hw.1
  subst hq0
  obtain ⟨hP1, hK1, hD1⟩ := hB
  rw [ht] at hP1
  have hK1 : va_K D pm_cl (pm_t1 a2) s := va_K.moved hvm.symm hK1
  have hR1 : pm_R1 u2 pm_ab0 := hw.2
  obtain ⟨hP, hD⟩ := va_join (wr := pm_w0 q a u) (w1 := pm_w1 q2 a2 u2) hP hD [9] [0, 1, 2, 3, 4, 5, 6, 7, 8] rfl rfl (by decide) (by decide) hk1 hFc hP1 hD1
  refine W.widen (k := 13) (n := 5328) (Nat.le_of_ble_eq_true rfl) (Nat.le_of_ble_eq_true rfl) ?_
  refine lv_astore_n (lv' := [(2, .ref (q2 0)), (1, .ref (q 0)), (0, .ref b)]) hx hb dL_law_15 rfl hl (by decide) rfl (fun ls hl => ?_)
  refine lv_iconst (v := nI 0) hx hb dL_law_16 (by decide) ?_
  refine lv_istore_n (lv' := [(3, .int (nI 0)), (2, .ref (q2 0)), (1, .ref (q 0)), (0, .ref b)]) hx hb dL_law_17 rfl hl (by decide) rfl (fun ls hl => ?_)
  exact law_loop F hX hbl hL ⟨Nat.le_of_ble_eq_true rfl, Nat.le_of_ble_eq_true rfl⟩ hr hlocks (L + 1) 0 u u2 pm_ab0 _ _ ls (Nat.zero_le L) (by omega) ⟨hK.app hK1, hP, hD, hS⟩ hR0 hR1 (lv_sub hl [3, 2, 1, 0] rfl)
end
section
-- ===== YOUR PART ENDS =====
set_option maxHeartbeats 4000000 in
theorem lw_walk (l : Launch) (b : Addr) (xs : List Int32) : MetFree l x (headSpec (Jvm.Cond.code x code maxLocals ret :: tables_1) room_1) (lw_P b xs) (fun _ _ _ _ _ => True) lw_Q := by
  refine MetFree.of_bodyS (code := code) (maxLocals := maxLocals) (ret := ret) (by decide) ?_ ?_
  · intro args s m h hn
    obtain ⟨meth, c, h1, h2, h3, h4, h5, h6, -, -⟩ := Cond.code_spec hn (atoms_spec (ws := Jvm.Cond.code x code maxLocals ret :: tables_1) h _ List.mem_cons_self)
    exact ⟨meth, c, h1, h2, h3, h4, h5, h6⟩
  · intro p e s m args below meth c s₁ B hml0 hP _
    obtain ⟨rfl, hx, hbd, hgv⟩ := hP
    obtain ⟨scr, harrAt, hlist, hof, hsmall⟩ := hx
    obtain ⟨hcb, hkn, -, -⟩ := State.arrayAt?_spec harrAt
    have hown : s.vm.findClass R_law = some m.cls := findClass_of_methodNamed B.named
    have hts0 : ∀ c ∈ (Jvm.Cond.code x code maxLocals ret :: tables_1), c.before #[Value.ref b] s = true := atoms_spec (ws := Jvm.Cond.code x code maxLocals ret :: tables_1) B.pre
    have hts : ∀ w ∈ lw_tbl, w.before #[Value.ref b] s = true := k2_hts_sels lw_privs (fun w hw => hts0 w (List.mem_cons_of_mem _ hw)) lw_privs_ok
    have hml : c.maxLocals = 4 := B.maxLocals_eq (hts0 _ List.mem_cons_self)
    have X₀ : Stand p l e room_1 s m #[Value.ref b] below meth c s₁ [] 0 0 := Stand.of_body B
    have hh0 : s₁.heap = s.heap := by rw [B.state]; rfl
    have hsz : scr.slots.size = xs.length := by rw [← Array.length_toList, hlist, List.length_map]
    have hval : ∀ j : Nat, j < xs.length → scr.slots[j]? = some (.int (xs.getD j 0)) := fun j hj => by
      rw [← Array.getElem?_toList, hlist]
      simp [hj]
    have hbl : b < s.heap.size := (Array.getElem?_eq_some_iff.mp hcb).1
    have hX : va_X b xs.length (fun j => xs.getD j 0) s s.heap := ⟨scr, hcb, hof, hkn, hsz, hval⟩
    have K : W p l e room_1 s m #[Value.ref b] below meth c s₁.heap [] 0 0 (lw_Z below #[Value.ref b] s) (entryFrame m ([Value.ref b] : List Value).toArray 4) := by
      rw [hh0]
      exact whole_start l hbd ⟨B.exec, B.bytes, B.returns, hml, hown, hts, hX, hbl, B.notSynchronized, hgv⟩
    obtain ⟨t, a1, o, b1, b2, b3⟩ := K s₁ rfl X₀
    exact ⟨t, o, a1, b1, b2, b3⟩
theorem lw_pre_spec {args : Array Value} {s : State} (h : (Jvm.Cond.and given_1 narrow_1).before args s = true) (hr : rest_1_c.before args s = true) : ∃ (b : Addr) (xs : List Int32), lw_P b xs args s := by
  have hs := flat_of_before _ h
  have hq := flat_of_before _ hr
  have hc : (Cond.count 1).before args s = true := hs _ (by decide +kernel)
  have harr : (Cond.arrayOf (.arg 0) .int).before args s = true := hs _ (by decide +kernel)
  have hle : (Cond.le (.length (.arg 0)) (.int 320)).before args s = true := hs _ (by decide +kernel)
  have hlen : (Cond.isInt (.length (.arg 0))).before args s = true := hq _ (by decide +kernel)
  have hall : (Cond.all (.arg 0) (.isInt (.elem (.arg 0) (.index 0)))).before args s = true := hq _ (by decide +kernel)
  obtain ⟨b, xs, hb, hx⟩ := State.ints_of_pre rfl harr hlen hall
  have hsm : xs.length < 2 ^ 31 := hx.choose_spec.2.2.2
  have hev : (Term.length (.arg 0)).eval args s none [] s = some (.int xs.length.toInt32) := hx.length_eval hb
  have hv := Cond.le_ints hev (show (Term.int 320).eval args s none [] s = some (.int 320) from rfl)
  have hd : xs.length.toInt32 ≤ 320 := by
    simpa [Cond.before, Cond.holds, hv] using hle
  have hN : xs.length ≤ 320 := (Int32.ofNat_le_ofNat hsm (by decide)).mp (show Int32.ofNat xs.length ≤ Int32.ofNat 320 from hd)
  exact ⟨b, xs, Cond.one_arg hc (show args[0]? = some (.ref b) from hb), hx, hN, h⟩
theorem lw_comes (l : Launch) : Comes l x (Jvm.Cond.code x code maxLocals ret :: tables_1) room_1 (fun tb e args s => Calls_1 tb e args s ∧ rest_1 tb e args s ∧ Pre_1 tb e args s)
    (fun _ _ args s o t => lw_Q args s o t) := by
  intro p e ha hc hk s m args below hf hfit hheap happ hpre
  obtain ⟨b, xs, hP⟩ := lw_pre_spec hpre.2.2 hpre.2.1
  obtain ⟨k, o, h1, h2, h3, hQ⟩ := lw_walk l b xs p e ha hc hk s m args below hf ((Spec.applies_iff_loose hf).mp happ).1 hP trivial
  exact ⟨k, o, h1, h2, h3, hQ⟩
theorem lw_frame {s t : State} {o : Outcome} {args : Array Value} (h : Framed s o t [] 600000 7290000) :
    Framed s o t (fieldLocs frame_1_writes args s ++ arrayLocs frame_1_arrays args s ++ staticLocs frame_1_statics s) 600000 7290000 := h
theorem lw_limb (L : Cond) (hL : ∀ (args : Array Value) (s t : State), L.after args s (.returned (some (.int 1))) t = true) :
    ArmFor flags0 classFile x code maxLocals ret World_1 tables_1 room_1 Calls_1 rest_1 Pre_1
      (fun tb e a s o t => postC L tb e a s o t ∧ Framed s o t (fieldLocs frame_1_writes a s ++ arrayLocs frame_1_arrays a s ++ staticLocs frame_1_statics s) 600000 7290000) := by
  intro l _ _ _ p e ha hc hk s m args below hf hfit hheap happ hpre
  obtain ⟨k, o, h1, h2, h3, rfl, hF⟩ := lw_comes l p e ha hc hk s m args below hf hfit hheap happ hpre
  exact ⟨k, _, h1, h2, h3, hL args s _, lw_frame hF⟩
theorem i_vc : Claimed_1_1 ∧ Claimed_1_2 := ⟨lw_limb limb_1_1 (fun args s t => by simp [limb_1_1, Cond.after, Cond.holds, Cond.value]), lw_limb limb_1_2 (fun args s t => Cond.after_iff.mpr (by
  first | (rw [show limb_1_2 = Cond.eq .result (.int 1) from rfl, Cond.eq_ints (x := 1) (y := 1) rfl rfl]; simp; done) | (simp [limb_1_2, Cond.value, Term.eval]; done)))⟩
end
