section
-- ===== PART A: goes FIRST, ahead of the names: the tables' words, and 'selects' of the private methods out of them =====
/-- a private method of a class that the tables say can be made, by its rows of tables_1 -/
def lw_okq (q : MethodName × Nat) : Prop := (q.1.cls ≠ "java/lang/invoke/MethodHandle" ∧ q.1.cls ≠ "java/lang/invoke/VarHandle") ∧ Cond.instantiable q.1.cls q.2 ∈ tables_1 ∧ Cond.privateMethod q.1 ∈ tables_1 ∧ Cond.instanceMethod q.1 ∈ tables_1
set_option maxRecDepth 100000
theorem lw_t1 {w : Cond} (h : w ∈ tables_1_1) : w ∈ tables_1 := List.mem_append_left _ h
theorem lw_t2 {w : Cond} (h : w ∈ tables_1_2) : w ∈ tables_1 := List.mem_append_right _ h
theorem lw_p0 : lw_okq (⟨"PebbleFrame", "isJoint", "(I)Z"⟩, 11) := ⟨⟨by decide +kernel, by decide +kernel⟩, lw_t1 (List.mem_of_getElem? (i := 4) rfl), lw_t1 (List.mem_of_getElem? (i := 51) rfl), lw_t1 (List.mem_of_getElem? (i := 52) rfl)⟩
theorem lw_p1 : lw_okq (⟨"PebbleFrame", "has", "(I)Z"⟩, 11) := ⟨⟨by decide +kernel, by decide +kernel⟩, lw_t1 (List.mem_of_getElem? (i := 4) rfl), lw_t1 (List.mem_of_getElem? (i := 55) rfl), lw_t1 (List.mem_of_getElem? (i := 56) rfl)⟩
theorem lw_p2 : lw_okq (⟨"PebbleFrame", "isFree", "(I)Z"⟩, 11) := ⟨⟨by decide +kernel, by decide +kernel⟩, lw_t1 (List.mem_of_getElem? (i := 4) rfl), lw_t1 (List.mem_of_getElem? (i := 71) rfl), lw_t1 (List.mem_of_getElem? (i := 72) rfl)⟩
theorem lw_p3 : lw_okq (⟨"PebbleFrame", "play", "(I)I"⟩, 11) := ⟨⟨by decide +kernel, by decide +kernel⟩, lw_t1 (List.mem_of_getElem? (i := 4) rfl), lw_t1 (List.mem_of_getElem? (i := 75) rfl), lw_t1 (List.mem_of_getElem? (i := 76) rfl)⟩
theorem lw_p4 : lw_okq (⟨"PebbleFrame", "begin", "()V"⟩, 11) := ⟨⟨by decide +kernel, by decide +kernel⟩, lw_t1 (List.mem_of_getElem? (i := 4) rfl), lw_t1 (List.mem_of_getElem? (i := 79) rfl), lw_t1 (List.mem_of_getElem? (i := 80) rfl)⟩
theorem lw_p5 : lw_okq (⟨"PebbleFrame", "offer", "(I)V"⟩, 11) := ⟨⟨by decide +kernel, by decide +kernel⟩, lw_t1 (List.mem_of_getElem? (i := 4) rfl), lw_t1 (List.mem_of_getElem? (i := 83) rfl), lw_t1 (List.mem_of_getElem? (i := 84) rfl)⟩
theorem lw_p6 : lw_okq (⟨"PebbleFrame", "gather", "(II)Z"⟩, 11) := ⟨⟨by decide +kernel, by decide +kernel⟩, lw_t1 (List.mem_of_getElem? (i := 4) rfl), lw_t1 (List.mem_of_getElem? (i := 87) rfl), lw_t1 (List.mem_of_getElem? (i := 88) rfl)⟩
theorem lw_p7 : lw_okq (⟨"PebbleFrame", "bring", "(II)Z"⟩, 11) := ⟨⟨by decide +kernel, by decide +kernel⟩, lw_t1 (List.mem_of_getElem? (i := 4) rfl), lw_t1 (List.mem_of_getElem? (i := 91) rfl), lw_t1 (List.mem_of_getElem? (i := 92) rfl)⟩
theorem lw_p8 : lw_okq (⟨"PebbleFrame", "turnBack", "(II)V"⟩, 11) := ⟨⟨by decide +kernel, by decide +kernel⟩, lw_t1 (List.mem_of_getElem? (i := 4) rfl), lw_t1 (List.mem_of_getElem? (i := 95) rfl), lw_t1 (List.mem_of_getElem? (i := 96) rfl)⟩
theorem lw_p9 : lw_okq (⟨"PebbleFrame", "rankOf", "(I)I"⟩, 11) := ⟨⟨by decide +kernel, by decide +kernel⟩, lw_t1 (List.mem_of_getElem? (i := 4) rfl), lw_t1 (List.mem_of_getElem? (i := 103) rfl), lw_t1 (List.mem_of_getElem? (i := 104) rfl)⟩
theorem lw_p10 : lw_okq (⟨"PebbleFrameModel", "joint", "(I)Z"⟩, 4) := ⟨⟨by decide +kernel, by decide +kernel⟩, lw_t1 (List.mem_of_getElem? (i := 158) rfl), lw_t1 (List.mem_of_getElem? (i := 183) rfl), lw_t1 (List.mem_of_getElem? (i := 184) rfl)⟩
theorem lw_p11 : lw_okq (⟨"PebbleFrameModel", "loose", "(I)Z"⟩, 4) := ⟨⟨by decide +kernel, by decide +kernel⟩, lw_t1 (List.mem_of_getElem? (i := 158) rfl), lw_t1 (List.mem_of_getElem? (i := 200) rfl), lw_t1 (List.mem_of_getElem? (i := 201) rfl)⟩
theorem lw_p12 : lw_okq (⟨"PebbleFrameModel", "count", "(I)I"⟩, 4) := ⟨⟨by decide +kernel, by decide +kernel⟩, lw_t1 (List.mem_of_getElem? (i := 158) rfl), lw_t1 (List.mem_of_getElem? (i := 204) rfl), lw_t1 (List.mem_of_getElem? (i := 205) rfl)⟩
theorem lw_p13 : lw_okq (⟨"PebbleFrameModel", "inside", "(II)I"⟩, 4) := ⟨⟨by decide +kernel, by decide +kernel⟩, lw_t1 (List.mem_of_getElem? (i := 158) rfl), lw_t1 (List.mem_of_getElem? (i := 208) rfl), lw_t1 (List.mem_of_getElem? (i := 209) rfl)⟩
theorem lw_p14 : lw_okq (⟨"PebbleFrameModel", "rankOf", "(I)I"⟩, 4) := ⟨⟨by decide +kernel, by decide +kernel⟩, lw_t1 (List.mem_of_getElem? (i := 158) rfl), lw_t1 (List.mem_of_getElem? (i := 216) rfl), lw_t1 (List.mem_of_getElem? (i := 217) rfl)⟩
theorem lw_p15 : lw_okq (⟨"PebbleFrameModel", "taken", "(I)I"⟩, 4) := ⟨⟨by decide +kernel, by decide +kernel⟩, lw_t1 (List.mem_of_getElem? (i := 158) rfl), lw_t1 (List.mem_of_getElem? (i := 220) rfl), lw_t1 (List.mem_of_getElem? (i := 221) rfl)⟩
def lw_privs_1 : List (MethodName × Nat) := [(⟨"PebbleFrame", "isJoint", "(I)Z"⟩, 11), (⟨"PebbleFrame", "has", "(I)Z"⟩, 11), (⟨"PebbleFrame", "isFree", "(I)Z"⟩, 11), (⟨"PebbleFrame", "play", "(I)I"⟩, 11), (⟨"PebbleFrame", "begin", "()V"⟩, 11), (⟨"PebbleFrame", "offer", "(I)V"⟩, 11), (⟨"PebbleFrame", "gather", "(II)Z"⟩, 11), (⟨"PebbleFrame", "bring", "(II)Z"⟩, 11), (⟨"PebbleFrame", "turnBack", "(II)V"⟩, 11), (⟨"PebbleFrame", "rankOf", "(I)I"⟩, 11), (⟨"PebbleFrameModel", "joint", "(I)Z"⟩, 4), (⟨"PebbleFrameModel", "loose", "(I)Z"⟩, 4), (⟨"PebbleFrameModel", "count", "(I)I"⟩, 4), (⟨"PebbleFrameModel", "inside", "(II)I"⟩, 4), (⟨"PebbleFrameModel", "rankOf", "(I)I"⟩, 4), (⟨"PebbleFrameModel", "taken", "(I)I"⟩, 4)]
theorem lw_r1 : ∀ q ∈ lw_privs_1, lw_okq q := List.forall_mem_cons.mpr ⟨lw_p0, List.forall_mem_cons.mpr ⟨lw_p1, List.forall_mem_cons.mpr ⟨lw_p2, List.forall_mem_cons.mpr ⟨lw_p3, List.forall_mem_cons.mpr ⟨lw_p4, List.forall_mem_cons.mpr ⟨lw_p5, List.forall_mem_cons.mpr ⟨lw_p6, List.forall_mem_cons.mpr ⟨lw_p7, List.forall_mem_cons.mpr ⟨lw_p8, List.forall_mem_cons.mpr ⟨lw_p9, List.forall_mem_cons.mpr ⟨lw_p10, List.forall_mem_cons.mpr ⟨lw_p11, List.forall_mem_cons.mpr ⟨lw_p12, List.forall_mem_cons.mpr ⟨lw_p13, List.forall_mem_cons.mpr ⟨lw_p14, List.forall_mem_cons.mpr ⟨lw_p15, fun _ h => absurd h List.not_mem_nil⟩⟩⟩⟩⟩⟩⟩⟩⟩⟩⟩⟩⟩⟩⟩⟩
theorem lw_p16 : lw_okq (⟨"PebbleFrameModel", "body", "(I)Z"⟩, 4) := ⟨⟨by decide +kernel, by decide +kernel⟩, lw_t1 (List.mem_of_getElem? (i := 158) rfl), lw_t2 (List.mem_of_getElem? (i := 19) rfl), lw_t2 (List.mem_of_getElem? (i := 20) rfl)⟩
def lw_privs_2 : List (MethodName × Nat) := [(⟨"PebbleFrameModel", "body", "(I)Z"⟩, 4)]
theorem lw_r2 : ∀ q ∈ lw_privs_2, lw_okq q := List.forall_mem_cons.mpr ⟨lw_p16, fun _ h => absurd h List.not_mem_nil⟩
def lw_privs : List (MethodName × Nat) := lw_privs_1 ++ (lw_privs_2)
def lw_tbl : List Cond := k2_sels lw_privs ++ tables_1
theorem lw_privs_ok : ∀ q ∈ lw_privs, lw_okq q := by
  show ∀ q ∈ lw_privs_1 ++ (lw_privs_2), lw_okq q
  exact List.forall_mem_append.mpr ⟨lw_r1, lw_r2⟩
-- ===== ONE list of words for every method: the tables' words that hold all through a run =====
def lw_all : List Cond := lw_tbl.filter goodWord
/-- a word of the tables by its place: claim/WORDS.tsv -/
theorem lw_w {w : Cond} (i : Nat) (h : lw_tbl[i]? = some w) (g : goodWord w = true) : w ∈ lw_all := List.mem_filter.mpr ⟨List.mem_of_getElem? h, g⟩
theorem lw_all_tbl {w : Cond} (h : w ∈ lw_all) : w ∈ lw_tbl := (List.mem_filter.mp h).1
theorem lw_self : GoodIn lw_all lw_all := fun w h => ⟨h, good_of_word (List.mem_filter.mp h).2⟩
/-- a class's field words, by their places -/
theorem lw_in (ws : List Cond) (ps : List Nat) (hp : ws = ps.filterMap (fun i => lw_tbl[i]?)) (hg : ws.all goodWord = true) : ∀ w ∈ ws, w ∈ lw_all := by
  intro w h
  have h1 := List.all_eq_true.mp hg w h
  rw [hp] at h
  obtain ⟨i, -, hi⟩ := List.mem_filterMap.mp h
  exact lw_w i hi h1
/-- the words of a contract for the method y with code b, L locals, answer r -/
abbrev ws_ (y : MethodName) (b : ByteArray) (L : Nat) (r : Option FieldType) : List Cond := Cond.code y b L r :: lw_all
theorem lw_meth {y : MethodName} {b : ByteArray} {L : Nat} {r : Option FieldType} (h : Cond.code y b L r ∈ lw_all) : GoodIn lw_all (ws_ y b L r) := by
  intro w hw
  rcases List.mem_cons.mp hw with e | e
  · rw [e]
    exact lw_self _ h
  · exact lw_self _ e
theorem lw_app {a c : List Cond} (ha : ∀ w ∈ a, w ∈ lw_all) (hc : GoodIn lw_all c) : GoodIn lw_all (a ++ c) := by
  intro w hw
  rcases List.mem_append.mp hw with e | e
  · exact lw_self w (ha w e)
  · exact hc w e
/-- what a call through an object asks: cwV n hts (lw_V ..) -/
theorem lw_V {own : String} {idx : Nat} {C : String} {y : MethodName} {b : ByteArray} {L : Nat} {r : Option FieldType} (h1 : Cond.methodLink own idx y ∈ lw_all) (h2 : Cond.instanceMethod y ∈ lw_all) (h3 : Cond.selects C y y ∈ lw_all) (h4 : Cond.initialized C ∈ lw_all) (h5 : Cond.code y b L r ∈ lw_all) : GoodIn lw_all (wsV own idx C y (ws_ y b L r)) := by
  refine lw_app ?_ (lw_meth h5)
  intro w hw
  simp only [List.mem_cons, List.not_mem_nil, or_false] at hw
  rcases hw with e | e | e | e
  · rw [e]; exact h1
  · rw [e]; exact h2
  · rw [e]; exact h3
  · rw [e]; exact h4
/-- what a static call asks: va_cwS n hts (lw_S ..) -/
theorem lw_S {own : String} {idx : Nat} {y : MethodName} {b : ByteArray} {L : Nat} {r : Option FieldType} (h1 : Cond.methodLink own idx y ∈ lw_all) (h2 : Cond.static y ∈ lw_all) (h3 : Cond.initialized y.cls ∈ lw_all) (h4 : Cond.code y b L r ∈ lw_all) : GoodIn lw_all (va_wsS own idx y (ws_ y b L r)) := by
  refine lw_app ?_ (lw_meth h4)
  intro w hw
  simp only [List.mem_cons, List.not_mem_nil, or_false] at hw
  rcases hw with e | e | e
  · rw [e]; exact h1
  · rw [e]; exact h2
  · rw [e]; exact h3
/-- the words of a contract for a method WITH HANDLERS (hh: its table) -/
abbrev wsW_ (y : MethodName) (b : ByteArray) (L : Nat) (r : Option FieldType) (hh : List (Nat × Nat × Nat × Nat)) : List Cond := Cond.codeWith y b L r hh :: lw_all
theorem lw_methW {y : MethodName} {b : ByteArray} {L : Nat} {r : Option FieldType} {hh : List (Nat × Nat × Nat × Nat)} (h : Cond.codeWith y b L r hh ∈ lw_all) : GoodIn lw_all (wsW_ y b L r hh) := by
  intro w hw
  rcases List.mem_cons.mp hw with e | e
  · rw [e]
    exact lw_self _ h
  · exact lw_self _ e
/-- any list of words by their places (lw_in), good -/
theorem lw_good {ws : List Cond} (h : ∀ w ∈ ws, w ∈ lw_all) : GoodIn lw_all ws := fun w hw => lw_self w (h w hw)
/-- what a call of a method with handlers asks: vx_cwVW n hts (lw_VW ..), vx_cwSW n hts (lw_SW ..) -/
theorem lw_VW {own : String} {idx : Nat} {C : String} {y : MethodName} {b : ByteArray} {L : Nat} {r : Option FieldType} {hh : List (Nat × Nat × Nat × Nat)} (h1 : Cond.methodLink own idx y ∈ lw_all) (h2 : Cond.instanceMethod y ∈ lw_all) (h3 : Cond.selects C y y ∈ lw_all) (h4 : Cond.initialized C ∈ lw_all) (h5 : Cond.codeWith y b L r hh ∈ lw_all) : GoodIn lw_all (wsV own idx C y (wsW_ y b L r hh)) := by
  refine lw_app ?_ (lw_methW h5)
  intro w hw
  simp only [List.mem_cons, List.not_mem_nil, or_false] at hw
  rcases hw with e | e | e | e
  · rw [e]; exact h1
  · rw [e]; exact h2
  · rw [e]; exact h3
  · rw [e]; exact h4
theorem lw_SW {own : String} {idx : Nat} {y : MethodName} {b : ByteArray} {L : Nat} {r : Option FieldType} {hh : List (Nat × Nat × Nat × Nat)} (h1 : Cond.methodLink own idx y ∈ lw_all) (h2 : Cond.static y ∈ lw_all) (h3 : Cond.initialized y.cls ∈ lw_all) (h4 : Cond.codeWith y b L r hh ∈ lw_all) : GoodIn lw_all (va_wsS own idx y (wsW_ y b L r hh)) := by
  refine lw_app ?_ (lw_methW h4)
  intro w hw
  simp only [List.mem_cons, List.not_mem_nil, or_false] at hw
  rcases hw with e | e | e
  · rw [e]; exact h1
  · rw [e]; exact h2
  · rw [e]; exact h3
/-- a word by its place in its run of the tables -/
theorem lw_at {r : List Cond} (hr : ∀ w ∈ r, w ∈ lw_tbl) {w : Cond} (i : Nat) (h : r[i]? = some w) : w ∈ lw_tbl := hr w (List.mem_of_getElem? h)
theorem lw_g {w : Cond} (h : w ∈ lw_tbl) (g : goodWord w = true) : w ∈ lw_all := List.mem_filter.mpr ⟨h, g⟩
theorem lw_ms : ∀ w ∈ k2_sels lw_privs, w ∈ lw_tbl := fun w h => show w ∈ k2_sels lw_privs ++ tables_1 from List.mem_append_left _ h
theorem lw_m1 : ∀ w ∈ tables_1_1, w ∈ lw_tbl := fun w h => show w ∈ k2_sels lw_privs ++ tables_1 from List.mem_append_right (k2_sels lw_privs) (show w ∈ tables_1 from List.mem_append_left _ h)
theorem lw_m2 : ∀ w ∈ tables_1_2, w ∈ lw_tbl := fun w h => show w ∈ k2_sels lw_privs ++ tables_1 from List.mem_append_right (k2_sels lw_privs) (show w ∈ tables_1 from List.mem_append_right _ h)
theorem qs0 : (Cond.selects "PebbleFrame" ⟨"PebbleFrame", "isJoint", "(I)Z"⟩ ⟨"PebbleFrame", "isJoint", "(I)Z"⟩) ∈ lw_all := lw_g (lw_at lw_ms 0 rfl) rfl
theorem qs1 : (Cond.selects "PebbleFrame" ⟨"PebbleFrame", "has", "(I)Z"⟩ ⟨"PebbleFrame", "has", "(I)Z"⟩) ∈ lw_all := lw_g (lw_at lw_ms 1 rfl) rfl
theorem qs2 : (Cond.selects "PebbleFrame" ⟨"PebbleFrame", "isFree", "(I)Z"⟩ ⟨"PebbleFrame", "isFree", "(I)Z"⟩) ∈ lw_all := lw_g (lw_at lw_ms 2 rfl) rfl
theorem qs3 : (Cond.selects "PebbleFrame" ⟨"PebbleFrame", "play", "(I)I"⟩ ⟨"PebbleFrame", "play", "(I)I"⟩) ∈ lw_all := lw_g (lw_at lw_ms 3 rfl) rfl
theorem qs4 : (Cond.selects "PebbleFrame" ⟨"PebbleFrame", "begin", "()V"⟩ ⟨"PebbleFrame", "begin", "()V"⟩) ∈ lw_all := lw_g (lw_at lw_ms 4 rfl) rfl
theorem qs5 : (Cond.selects "PebbleFrame" ⟨"PebbleFrame", "offer", "(I)V"⟩ ⟨"PebbleFrame", "offer", "(I)V"⟩) ∈ lw_all := lw_g (lw_at lw_ms 5 rfl) rfl
theorem qs6 : (Cond.selects "PebbleFrame" ⟨"PebbleFrame", "gather", "(II)Z"⟩ ⟨"PebbleFrame", "gather", "(II)Z"⟩) ∈ lw_all := lw_g (lw_at lw_ms 6 rfl) rfl
theorem qs7 : (Cond.selects "PebbleFrame" ⟨"PebbleFrame", "bring", "(II)Z"⟩ ⟨"PebbleFrame", "bring", "(II)Z"⟩) ∈ lw_all := lw_g (lw_at lw_ms 7 rfl) rfl
theorem qs8 : (Cond.selects "PebbleFrame" ⟨"PebbleFrame", "turnBack", "(II)V"⟩ ⟨"PebbleFrame", "turnBack", "(II)V"⟩) ∈ lw_all := lw_g (lw_at lw_ms 8 rfl) rfl
theorem qs9 : (Cond.selects "PebbleFrame" ⟨"PebbleFrame", "rankOf", "(I)I"⟩ ⟨"PebbleFrame", "rankOf", "(I)I"⟩) ∈ lw_all := lw_g (lw_at lw_ms 9 rfl) rfl
theorem qs10 : (Cond.selects "PebbleFrameModel" ⟨"PebbleFrameModel", "joint", "(I)Z"⟩ ⟨"PebbleFrameModel", "joint", "(I)Z"⟩) ∈ lw_all := lw_g (lw_at lw_ms 10 rfl) rfl
theorem qs11 : (Cond.selects "PebbleFrameModel" ⟨"PebbleFrameModel", "loose", "(I)Z"⟩ ⟨"PebbleFrameModel", "loose", "(I)Z"⟩) ∈ lw_all := lw_g (lw_at lw_ms 11 rfl) rfl
theorem qs12 : (Cond.selects "PebbleFrameModel" ⟨"PebbleFrameModel", "count", "(I)I"⟩ ⟨"PebbleFrameModel", "count", "(I)I"⟩) ∈ lw_all := lw_g (lw_at lw_ms 12 rfl) rfl
theorem qs13 : (Cond.selects "PebbleFrameModel" ⟨"PebbleFrameModel", "inside", "(II)I"⟩ ⟨"PebbleFrameModel", "inside", "(II)I"⟩) ∈ lw_all := lw_g (lw_at lw_ms 13 rfl) rfl
theorem qs14 : (Cond.selects "PebbleFrameModel" ⟨"PebbleFrameModel", "rankOf", "(I)I"⟩ ⟨"PebbleFrameModel", "rankOf", "(I)I"⟩) ∈ lw_all := lw_g (lw_at lw_ms 14 rfl) rfl
theorem qs15 : (Cond.selects "PebbleFrameModel" ⟨"PebbleFrameModel", "taken", "(I)I"⟩ ⟨"PebbleFrameModel", "taken", "(I)I"⟩) ∈ lw_all := lw_g (lw_at lw_ms 15 rfl) rfl
theorem qs16 : (Cond.selects "PebbleFrameModel" ⟨"PebbleFrameModel", "body", "(I)Z"⟩ ⟨"PebbleFrameModel", "body", "(I)Z"⟩) ∈ lw_all := lw_g (lw_at lw_ms 16 rfl) rfl
end
section
set_option maxRecDepth 100000
/-! PebbleFrame -/
def RX1 : String := "PebbleFrame"
def TX1 : u_T := fun k => match k with
  | 0 => ("PebbleFrame", "joints", "I", true)
  | 1 => ("PebbleFrame", "present", "I", false)
  | 2 => ("PebbleFrame", "endA", "[B", true)
  | 3 => ("PebbleFrame", "endB", "[B", true)
  | 4 => ("PebbleFrame", "taken", "I", false)
  | 5 => ("PebbleFrame", "from", "[B", true)
  | 6 => ("PebbleFrame", "to", "[B", true)
  | 7 => ("PebbleFrame", "pebbles", "[B", true)
  | 8 => ("PebbleFrame", "reached", "I", false)
  | 9 => ("PebbleFrame", "by", "[B", true)
  | _ => ("PebbleFrame", "line", "[B", true)
def tyX1 : Nat → FieldType := fun k => match k with
  | 0 => .int
  | 1 => .int
  | 2 => .array .byte
  | 3 => .array .byte
  | 4 => .int
  | 5 => .array .byte
  | 6 => .array .byte
  | 7 => .array .byte
  | 8 => .int
  | 9 => .array .byte
  | _ => .array .byte
abbrev wsX10 : List Cond := u_ws RX1 TX1 11
theorem nmX1 : ∀ a, a < 11 → ∀ b, b < 11 → a ≠ b → (TX1 a).2.1 ≠ (TX1 b).2.1 := by decide +kernel
theorem tyX1_ok : ∀ k, k < 11 → parseFieldDescriptor (TX1 k).2.2.1 = some (tyX1 k) := by decide +kernel
abbrev cX1_init : ByteArray := prog_1_method_1_code
def yX1_init : MethodName := ⟨RX1, "<init>", "(I)V"⟩
abbrev cX1_add : ByteArray := prog_1_method_4_code
def yX1_add : MethodName := ⟨RX1, "add", "(II)I"⟩
abbrev cX1_isJoint : ByteArray := prog_1_method_2_code
def yX1_isJoint : MethodName := ⟨RX1, "isJoint", "(I)Z"⟩
abbrev cX1_has : ByteArray := prog_1_method_3_code
def yX1_has : MethodName := ⟨RX1, "has", "(I)Z"⟩
abbrev cX1_remove : ByteArray := prog_1_method_5_code
def yX1_remove : MethodName := ⟨RX1, "remove", "(I)Z"⟩
abbrev cX1_bars : ByteArray := prog_1_method_6_code
def yX1_bars : MethodName := ⟨RX1, "bars", "()I"⟩
abbrev cX1_free : ByteArray := prog_1_method_16_code
def yX1_free : MethodName := ⟨RX1, "free", "(I)Z"⟩
abbrev cX1_isFree : ByteArray := prog_1_method_14_code
def yX1_isFree : MethodName := ⟨RX1, "isFree", "(I)Z"⟩
abbrev cX1_play : ByteArray := prog_1_method_12_code
def yX1_play : MethodName := ⟨RX1, "play", "(I)I"⟩
abbrev cX1_begin : ByteArray := prog_1_method_7_code
def yX1_begin : MethodName := ⟨RX1, "begin", "()V"⟩
abbrev cX1_offer : ByteArray := prog_1_method_11_code
def yX1_offer : MethodName := ⟨RX1, "offer", "(I)V"⟩
abbrev cX1_gather : ByteArray := prog_1_method_10_code
def yX1_gather : MethodName := ⟨RX1, "gather", "(II)Z"⟩
abbrev cX1_bring : ByteArray := prog_1_method_8_code
def yX1_bring : MethodName := ⟨RX1, "bring", "(II)Z"⟩
abbrev cX1_turnBack : ByteArray := prog_1_method_9_code
def yX1_turnBack : MethodName := ⟨RX1, "turnBack", "(II)V"⟩
abbrev cX1_rank : ByteArray := prog_1_method_17_code
def yX1_rank : MethodName := ⟨RX1, "rank", "(I)I"⟩
abbrev cX1_rankOf : ByteArray := prog_1_method_15_code
def yX1_rankOf : MethodName := ⟨RX1, "rankOf", "(I)I"⟩
abbrev cX1_ones : ByteArray := prog_1_method_13_code
def yX1_ones : MethodName := ⟨RX1, "ones", "(I)I"⟩
abbrev cX1_frame : ByteArray := prog_1_method_18_code
def yX1_frame : MethodName := ⟨RX1, "frame", "()I"⟩
abbrev cX1_rigid : ByteArray := prog_1_method_19_code
def yX1_rigid : MethodName := ⟨RX1, "rigid", "()Z"⟩
abbrev cX1_freedom : ByteArray := prog_1_method_20_code
def yX1_freedom : MethodName := ⟨RX1, "freedom", "()I"⟩
abbrev cX1_held : ByteArray := prog_1_method_21_code
def yX1_held : MethodName := ⟨RX1, "held", "(II)Z"⟩
abbrev cX1_redundant : ByteArray := prog_1_method_22_code
def yX1_redundant : MethodName := ⟨RX1, "redundant", "(I)Z"⟩
abbrev cX1_ring : ByteArray := prog_1_method_23_code
def yX1_ring : MethodName := ⟨RX1, "ring", "(I)I"⟩
abbrev cX1_heldTo : ByteArray := prog_1_method_24_code
def yX1_heldTo : MethodName := ⟨RX1, "heldTo", "(I)I"⟩
abbrev cX1_bodies : ByteArray := prog_1_method_25_code
def yX1_bodies : MethodName := ⟨RX1, "bodies", "()I"⟩
abbrev cX1_leads : ByteArray := prog_1_method_26_code
def yX1_leads : MethodName := ⟨RX1, "leads", "(III)Z"⟩
abbrev cX1_doublyHeld : ByteArray := prog_1_method_27_code
def yX1_doublyHeld : MethodName := ⟨RX1, "doublyHeld", "()Z"⟩
theorem q18 : (Jvm.Cond.initialized "PebbleFrame") ∈ lw_all := lw_g (lw_at lw_m1 1 rfl) rfl
theorem q21 : (Jvm.Cond.instantiable "PebbleFrame" (11 : Nat)) ∈ lw_all := lw_g (lw_at lw_m1 4 rfl) rfl
theorem q23 : (Jvm.Cond.instanceMethod ({ cls := "PebbleFrame", name := "<init>", desc := "(I)V" } : Jvm.MethodName)) ∈ lw_all := lw_g (lw_at lw_m1 6 rfl) rfl
theorem q24 : (Jvm.Cond.code ({ cls := "PebbleFrame", name := "<init>", desc := "(I)V" } : Jvm.MethodName) prog_1_method_1_code (2 : Nat) (Option.none : Option Jvm.ClassFile.FieldType)) ∈ lw_all := lw_g (lw_at lw_m1 7 rfl) rfl
theorem q25 : (Jvm.Cond.methodLink "PebbleFrame" (1 : Nat) ({ cls := "java/lang/Object", name := "<init>", desc := "()V" } : Jvm.MethodName)) ∈ lw_all := lw_g (lw_at lw_m1 8 rfl) rfl
theorem q28 : (Jvm.Cond.fieldLink "PebbleFrame" (31 : Nat) "PebbleFrame" "joints" "I") ∈ lw_all := lw_g (lw_at lw_m1 11 rfl) rfl
theorem q29 : (Jvm.Cond.fieldLink "PebbleFrame" (35 : Nat) "PebbleFrame" "present" "I") ∈ lw_all := lw_g (lw_at lw_m1 12 rfl) rfl
theorem q30 : (Jvm.Cond.fieldLink "PebbleFrame" (7 : Nat) "PebbleFrame" "endA" "[B") ∈ lw_all := lw_g (lw_at lw_m1 13 rfl) rfl
theorem q31 : (Jvm.Cond.fieldLink "PebbleFrame" (13 : Nat) "PebbleFrame" "endB" "[B") ∈ lw_all := lw_g (lw_at lw_m1 14 rfl) rfl
theorem q32 : (Jvm.Cond.fieldLink "PebbleFrame" (45 : Nat) "PebbleFrame" "taken" "I") ∈ lw_all := lw_g (lw_at lw_m1 15 rfl) rfl
theorem q33 : (Jvm.Cond.fieldLink "PebbleFrame" (16 : Nat) "PebbleFrame" "from" "[B") ∈ lw_all := lw_g (lw_at lw_m1 16 rfl) rfl
theorem q34 : (Jvm.Cond.fieldLink "PebbleFrame" (19 : Nat) "PebbleFrame" "to" "[B") ∈ lw_all := lw_g (lw_at lw_m1 17 rfl) rfl
theorem q35 : (Jvm.Cond.fieldLink "PebbleFrame" (22 : Nat) "PebbleFrame" "pebbles" "[B") ∈ lw_all := lw_g (lw_at lw_m1 18 rfl) rfl
theorem q36 : (Jvm.Cond.fieldLink "PebbleFrame" (48 : Nat) "PebbleFrame" "reached" "I") ∈ lw_all := lw_g (lw_at lw_m1 19 rfl) rfl
theorem q37 : (Jvm.Cond.fieldLink "PebbleFrame" (25 : Nat) "PebbleFrame" "by" "[B") ∈ lw_all := lw_g (lw_at lw_m1 20 rfl) rfl
theorem q38 : (Jvm.Cond.fieldLink "PebbleFrame" (28 : Nat) "PebbleFrame" "line" "[B") ∈ lw_all := lw_g (lw_at lw_m1 21 rfl) rfl
theorem q39 : (Jvm.Cond.laysFinal "PebbleFrame" "PebbleFrame" "joints" "I") ∈ lw_all := lw_g (lw_at lw_m1 22 rfl) rfl
theorem q40 : (Jvm.Cond.soleField "PebbleFrame" "joints") ∈ lw_all := lw_g (lw_at lw_m1 23 rfl) rfl
theorem q41 : (Jvm.Cond.lays "PebbleFrame" "PebbleFrame" "present" "I") ∈ lw_all := lw_g (lw_at lw_m1 24 rfl) rfl
theorem q42 : (Jvm.Cond.soleField "PebbleFrame" "present") ∈ lw_all := lw_g (lw_at lw_m1 25 rfl) rfl
theorem q43 : (Jvm.Cond.laysFinal "PebbleFrame" "PebbleFrame" "endA" "[B") ∈ lw_all := lw_g (lw_at lw_m1 26 rfl) rfl
theorem q44 : (Jvm.Cond.soleField "PebbleFrame" "endA") ∈ lw_all := lw_g (lw_at lw_m1 27 rfl) rfl
theorem q45 : (Jvm.Cond.laysFinal "PebbleFrame" "PebbleFrame" "endB" "[B") ∈ lw_all := lw_g (lw_at lw_m1 28 rfl) rfl
theorem q46 : (Jvm.Cond.soleField "PebbleFrame" "endB") ∈ lw_all := lw_g (lw_at lw_m1 29 rfl) rfl
theorem q47 : (Jvm.Cond.lays "PebbleFrame" "PebbleFrame" "taken" "I") ∈ lw_all := lw_g (lw_at lw_m1 30 rfl) rfl
theorem q48 : (Jvm.Cond.soleField "PebbleFrame" "taken") ∈ lw_all := lw_g (lw_at lw_m1 31 rfl) rfl
theorem q49 : (Jvm.Cond.laysFinal "PebbleFrame" "PebbleFrame" "from" "[B") ∈ lw_all := lw_g (lw_at lw_m1 32 rfl) rfl
theorem q50 : (Jvm.Cond.soleField "PebbleFrame" "from") ∈ lw_all := lw_g (lw_at lw_m1 33 rfl) rfl
theorem q51 : (Jvm.Cond.laysFinal "PebbleFrame" "PebbleFrame" "to" "[B") ∈ lw_all := lw_g (lw_at lw_m1 34 rfl) rfl
theorem q52 : (Jvm.Cond.soleField "PebbleFrame" "to") ∈ lw_all := lw_g (lw_at lw_m1 35 rfl) rfl
theorem q53 : (Jvm.Cond.laysFinal "PebbleFrame" "PebbleFrame" "pebbles" "[B") ∈ lw_all := lw_g (lw_at lw_m1 36 rfl) rfl
theorem q54 : (Jvm.Cond.soleField "PebbleFrame" "pebbles") ∈ lw_all := lw_g (lw_at lw_m1 37 rfl) rfl
theorem q55 : (Jvm.Cond.lays "PebbleFrame" "PebbleFrame" "reached" "I") ∈ lw_all := lw_g (lw_at lw_m1 38 rfl) rfl
theorem q56 : (Jvm.Cond.soleField "PebbleFrame" "reached") ∈ lw_all := lw_g (lw_at lw_m1 39 rfl) rfl
theorem q57 : (Jvm.Cond.laysFinal "PebbleFrame" "PebbleFrame" "by" "[B") ∈ lw_all := lw_g (lw_at lw_m1 40 rfl) rfl
theorem q58 : (Jvm.Cond.soleField "PebbleFrame" "by") ∈ lw_all := lw_g (lw_at lw_m1 41 rfl) rfl
theorem q59 : (Jvm.Cond.laysFinal "PebbleFrame" "PebbleFrame" "line" "[B") ∈ lw_all := lw_g (lw_at lw_m1 42 rfl) rfl
theorem q60 : (Jvm.Cond.soleField "PebbleFrame" "line") ∈ lw_all := lw_g (lw_at lw_m1 43 rfl) rfl
theorem q61 : (Jvm.Cond.superclass "PebbleFrame" "java/lang/Object") ∈ lw_all := lw_g (lw_at lw_m1 44 rfl) rfl
theorem q64 : (Jvm.Cond.instanceMethod ({ cls := "PebbleFrame", name := "add", desc := "(II)I" } : Jvm.MethodName)) ∈ lw_all := lw_g (lw_at lw_m1 47 rfl) rfl
theorem q65 : (Jvm.Cond.selects "PebbleFrame" ({ cls := "PebbleFrame", name := "add", desc := "(II)I" } : Jvm.MethodName) ({ cls := "PebbleFrame", name := "add", desc := "(II)I" } : Jvm.MethodName)) ∈ lw_all := lw_g (lw_at lw_m1 48 rfl) rfl
theorem q66 : (Jvm.Cond.code ({ cls := "PebbleFrame", name := "add", desc := "(II)I" } : Jvm.MethodName) prog_1_method_4_code (4 : Nat) (Option.some Jvm.ClassFile.FieldType.int)) ∈ lw_all := lw_g (lw_at lw_m1 49 rfl) rfl
theorem q67 : (Jvm.Cond.methodLink "PebbleFrame" (38 : Nat) ({ cls := "PebbleFrame", name := "isJoint", desc := "(I)Z" } : Jvm.MethodName)) ∈ lw_all := lw_g (lw_at lw_m1 50 rfl) rfl
theorem q68 : (Jvm.Cond.privateMethod ({ cls := "PebbleFrame", name := "isJoint", desc := "(I)Z" } : Jvm.MethodName)) ∈ lw_tbl := lw_at lw_m1 51 rfl
theorem q69 : (Jvm.Cond.instanceMethod ({ cls := "PebbleFrame", name := "isJoint", desc := "(I)Z" } : Jvm.MethodName)) ∈ lw_all := lw_g (lw_at lw_m1 52 rfl) rfl
theorem q70 : (Jvm.Cond.code ({ cls := "PebbleFrame", name := "isJoint", desc := "(I)Z" } : Jvm.MethodName) prog_1_method_2_code (2 : Nat) (Option.some Jvm.ClassFile.FieldType.boolean)) ∈ lw_all := lw_g (lw_at lw_m1 53 rfl) rfl
theorem q71 : (Jvm.Cond.methodLink "PebbleFrame" (42 : Nat) ({ cls := "PebbleFrame", name := "has", desc := "(I)Z" } : Jvm.MethodName)) ∈ lw_all := lw_g (lw_at lw_m1 54 rfl) rfl
theorem q72 : (Jvm.Cond.privateMethod ({ cls := "PebbleFrame", name := "has", desc := "(I)Z" } : Jvm.MethodName)) ∈ lw_tbl := lw_at lw_m1 55 rfl
theorem q73 : (Jvm.Cond.instanceMethod ({ cls := "PebbleFrame", name := "has", desc := "(I)Z" } : Jvm.MethodName)) ∈ lw_all := lw_g (lw_at lw_m1 56 rfl) rfl
theorem q74 : (Jvm.Cond.code ({ cls := "PebbleFrame", name := "has", desc := "(I)Z" } : Jvm.MethodName) prog_1_method_3_code (2 : Nat) (Option.some Jvm.ClassFile.FieldType.boolean)) ∈ lw_all := lw_g (lw_at lw_m1 57 rfl) rfl
theorem q76 : (Jvm.Cond.instanceMethod ({ cls := "PebbleFrame", name := "remove", desc := "(I)Z" } : Jvm.MethodName)) ∈ lw_all := lw_g (lw_at lw_m1 59 rfl) rfl
theorem q77 : (Jvm.Cond.selects "PebbleFrame" ({ cls := "PebbleFrame", name := "remove", desc := "(I)Z" } : Jvm.MethodName) ({ cls := "PebbleFrame", name := "remove", desc := "(I)Z" } : Jvm.MethodName)) ∈ lw_all := lw_g (lw_at lw_m1 60 rfl) rfl
theorem q78 : (Jvm.Cond.code ({ cls := "PebbleFrame", name := "remove", desc := "(I)Z" } : Jvm.MethodName) prog_1_method_5_code (2 : Nat) (Option.some Jvm.ClassFile.FieldType.boolean)) ∈ lw_all := lw_g (lw_at lw_m1 61 rfl) rfl
theorem q80 : (Jvm.Cond.instanceMethod ({ cls := "PebbleFrame", name := "bars", desc := "()I" } : Jvm.MethodName)) ∈ lw_all := lw_g (lw_at lw_m1 63 rfl) rfl
theorem q81 : (Jvm.Cond.selects "PebbleFrame" ({ cls := "PebbleFrame", name := "bars", desc := "()I" } : Jvm.MethodName) ({ cls := "PebbleFrame", name := "bars", desc := "()I" } : Jvm.MethodName)) ∈ lw_all := lw_g (lw_at lw_m1 64 rfl) rfl
theorem q82 : (Jvm.Cond.code ({ cls := "PebbleFrame", name := "bars", desc := "()I" } : Jvm.MethodName) prog_1_method_6_code (1 : Nat) (Option.some Jvm.ClassFile.FieldType.int)) ∈ lw_all := lw_g (lw_at lw_m1 65 rfl) rfl
theorem q84 : (Jvm.Cond.instanceMethod ({ cls := "PebbleFrame", name := "free", desc := "(I)Z" } : Jvm.MethodName)) ∈ lw_all := lw_g (lw_at lw_m1 67 rfl) rfl
theorem q85 : (Jvm.Cond.selects "PebbleFrame" ({ cls := "PebbleFrame", name := "free", desc := "(I)Z" } : Jvm.MethodName) ({ cls := "PebbleFrame", name := "free", desc := "(I)Z" } : Jvm.MethodName)) ∈ lw_all := lw_g (lw_at lw_m1 68 rfl) rfl
theorem q86 : (Jvm.Cond.code ({ cls := "PebbleFrame", name := "free", desc := "(I)Z" } : Jvm.MethodName) prog_1_method_16_code (2 : Nat) (Option.some Jvm.ClassFile.FieldType.boolean)) ∈ lw_all := lw_g (lw_at lw_m1 69 rfl) rfl
theorem q87 : (Jvm.Cond.methodLink "PebbleFrame" (76 : Nat) ({ cls := "PebbleFrame", name := "isFree", desc := "(I)Z" } : Jvm.MethodName)) ∈ lw_all := lw_g (lw_at lw_m1 70 rfl) rfl
theorem q88 : (Jvm.Cond.privateMethod ({ cls := "PebbleFrame", name := "isFree", desc := "(I)Z" } : Jvm.MethodName)) ∈ lw_tbl := lw_at lw_m1 71 rfl
theorem q89 : (Jvm.Cond.instanceMethod ({ cls := "PebbleFrame", name := "isFree", desc := "(I)Z" } : Jvm.MethodName)) ∈ lw_all := lw_g (lw_at lw_m1 72 rfl) rfl
theorem q90 : (Jvm.Cond.code ({ cls := "PebbleFrame", name := "isFree", desc := "(I)Z" } : Jvm.MethodName) prog_1_method_14_code (2 : Nat) (Option.some Jvm.ClassFile.FieldType.boolean)) ∈ lw_all := lw_g (lw_at lw_m1 73 rfl) rfl
theorem q91 : (Jvm.Cond.methodLink "PebbleFrame" (69 : Nat) ({ cls := "PebbleFrame", name := "play", desc := "(I)I" } : Jvm.MethodName)) ∈ lw_all := lw_g (lw_at lw_m1 74 rfl) rfl
theorem q92 : (Jvm.Cond.privateMethod ({ cls := "PebbleFrame", name := "play", desc := "(I)I" } : Jvm.MethodName)) ∈ lw_tbl := lw_at lw_m1 75 rfl
theorem q93 : (Jvm.Cond.instanceMethod ({ cls := "PebbleFrame", name := "play", desc := "(I)I" } : Jvm.MethodName)) ∈ lw_all := lw_g (lw_at lw_m1 76 rfl) rfl
theorem q94 : (Jvm.Cond.code ({ cls := "PebbleFrame", name := "play", desc := "(I)I" } : Jvm.MethodName) prog_1_method_12_code (3 : Nat) (Option.some Jvm.ClassFile.FieldType.int)) ∈ lw_all := lw_g (lw_at lw_m1 77 rfl) rfl
theorem q95 : (Jvm.Cond.methodLink "PebbleFrame" (62 : Nat) ({ cls := "PebbleFrame", name := "begin", desc := "()V" } : Jvm.MethodName)) ∈ lw_all := lw_g (lw_at lw_m1 78 rfl) rfl
theorem q96 : (Jvm.Cond.privateMethod ({ cls := "PebbleFrame", name := "begin", desc := "()V" } : Jvm.MethodName)) ∈ lw_tbl := lw_at lw_m1 79 rfl
theorem q97 : (Jvm.Cond.instanceMethod ({ cls := "PebbleFrame", name := "begin", desc := "()V" } : Jvm.MethodName)) ∈ lw_all := lw_g (lw_at lw_m1 80 rfl) rfl
theorem q98 : (Jvm.Cond.code ({ cls := "PebbleFrame", name := "begin", desc := "()V" } : Jvm.MethodName) prog_1_method_7_code (2 : Nat) (Option.none : Option Jvm.ClassFile.FieldType)) ∈ lw_all := lw_g (lw_at lw_m1 81 rfl) rfl
theorem q99 : (Jvm.Cond.methodLink "PebbleFrame" (65 : Nat) ({ cls := "PebbleFrame", name := "offer", desc := "(I)V" } : Jvm.MethodName)) ∈ lw_all := lw_g (lw_at lw_m1 82 rfl) rfl
theorem q100 : (Jvm.Cond.privateMethod ({ cls := "PebbleFrame", name := "offer", desc := "(I)V" } : Jvm.MethodName)) ∈ lw_tbl := lw_at lw_m1 83 rfl
theorem q101 : (Jvm.Cond.instanceMethod ({ cls := "PebbleFrame", name := "offer", desc := "(I)V" } : Jvm.MethodName)) ∈ lw_all := lw_g (lw_at lw_m1 84 rfl) rfl
theorem q102 : (Jvm.Cond.code ({ cls := "PebbleFrame", name := "offer", desc := "(I)V" } : Jvm.MethodName) prog_1_method_11_code (2 : Nat) (Option.none : Option Jvm.ClassFile.FieldType)) ∈ lw_all := lw_g (lw_at lw_m1 85 rfl) rfl
theorem q103 : (Jvm.Cond.methodLink "PebbleFrame" (59 : Nat) ({ cls := "PebbleFrame", name := "gather", desc := "(II)Z" } : Jvm.MethodName)) ∈ lw_all := lw_g (lw_at lw_m1 86 rfl) rfl
theorem q104 : (Jvm.Cond.privateMethod ({ cls := "PebbleFrame", name := "gather", desc := "(II)Z" } : Jvm.MethodName)) ∈ lw_tbl := lw_at lw_m1 87 rfl
theorem q105 : (Jvm.Cond.instanceMethod ({ cls := "PebbleFrame", name := "gather", desc := "(II)Z" } : Jvm.MethodName)) ∈ lw_all := lw_g (lw_at lw_m1 88 rfl) rfl
theorem q106 : (Jvm.Cond.code ({ cls := "PebbleFrame", name := "gather", desc := "(II)Z" } : Jvm.MethodName) prog_1_method_10_code (5 : Nat) (Option.some Jvm.ClassFile.FieldType.boolean)) ∈ lw_all := lw_g (lw_at lw_m1 89 rfl) rfl
theorem q107 : (Jvm.Cond.methodLink "PebbleFrame" (55 : Nat) ({ cls := "PebbleFrame", name := "bring", desc := "(II)Z" } : Jvm.MethodName)) ∈ lw_all := lw_g (lw_at lw_m1 90 rfl) rfl
theorem q108 : (Jvm.Cond.privateMethod ({ cls := "PebbleFrame", name := "bring", desc := "(II)Z" } : Jvm.MethodName)) ∈ lw_tbl := lw_at lw_m1 91 rfl
theorem q109 : (Jvm.Cond.instanceMethod ({ cls := "PebbleFrame", name := "bring", desc := "(II)Z" } : Jvm.MethodName)) ∈ lw_all := lw_g (lw_at lw_m1 92 rfl) rfl
theorem q110 : (Jvm.Cond.code ({ cls := "PebbleFrame", name := "bring", desc := "(II)Z" } : Jvm.MethodName) prog_1_method_8_code (7 : Nat) (Option.some Jvm.ClassFile.FieldType.boolean)) ∈ lw_all := lw_g (lw_at lw_m1 93 rfl) rfl
theorem q111 : (Jvm.Cond.methodLink "PebbleFrame" (51 : Nat) ({ cls := "PebbleFrame", name := "turnBack", desc := "(II)V" } : Jvm.MethodName)) ∈ lw_all := lw_g (lw_at lw_m1 94 rfl) rfl
theorem q112 : (Jvm.Cond.privateMethod ({ cls := "PebbleFrame", name := "turnBack", desc := "(II)V" } : Jvm.MethodName)) ∈ lw_tbl := lw_at lw_m1 95 rfl
theorem q113 : (Jvm.Cond.instanceMethod ({ cls := "PebbleFrame", name := "turnBack", desc := "(II)V" } : Jvm.MethodName)) ∈ lw_all := lw_g (lw_at lw_m1 96 rfl) rfl
theorem q114 : (Jvm.Cond.code ({ cls := "PebbleFrame", name := "turnBack", desc := "(II)V" } : Jvm.MethodName) prog_1_method_9_code (7 : Nat) (Option.none : Option Jvm.ClassFile.FieldType)) ∈ lw_all := lw_g (lw_at lw_m1 97 rfl) rfl
theorem q116 : (Jvm.Cond.instanceMethod ({ cls := "PebbleFrame", name := "rank", desc := "(I)I" } : Jvm.MethodName)) ∈ lw_all := lw_g (lw_at lw_m1 99 rfl) rfl
theorem q117 : (Jvm.Cond.selects "PebbleFrame" ({ cls := "PebbleFrame", name := "rank", desc := "(I)I" } : Jvm.MethodName) ({ cls := "PebbleFrame", name := "rank", desc := "(I)I" } : Jvm.MethodName)) ∈ lw_all := lw_g (lw_at lw_m1 100 rfl) rfl
theorem q118 : (Jvm.Cond.code ({ cls := "PebbleFrame", name := "rank", desc := "(I)I" } : Jvm.MethodName) prog_1_method_17_code (2 : Nat) (Option.some Jvm.ClassFile.FieldType.int)) ∈ lw_all := lw_g (lw_at lw_m1 101 rfl) rfl
theorem q119 : (Jvm.Cond.methodLink "PebbleFrame" (79 : Nat) ({ cls := "PebbleFrame", name := "rankOf", desc := "(I)I" } : Jvm.MethodName)) ∈ lw_all := lw_g (lw_at lw_m1 102 rfl) rfl
theorem q120 : (Jvm.Cond.privateMethod ({ cls := "PebbleFrame", name := "rankOf", desc := "(I)I" } : Jvm.MethodName)) ∈ lw_tbl := lw_at lw_m1 103 rfl
theorem q121 : (Jvm.Cond.instanceMethod ({ cls := "PebbleFrame", name := "rankOf", desc := "(I)I" } : Jvm.MethodName)) ∈ lw_all := lw_g (lw_at lw_m1 104 rfl) rfl
theorem q122 : (Jvm.Cond.code ({ cls := "PebbleFrame", name := "rankOf", desc := "(I)I" } : Jvm.MethodName) prog_1_method_15_code (3 : Nat) (Option.some Jvm.ClassFile.FieldType.int)) ∈ lw_all := lw_g (lw_at lw_m1 105 rfl) rfl
theorem q123 : (Jvm.Cond.methodLink "PebbleFrame" (73 : Nat) ({ cls := "PebbleFrame", name := "ones", desc := "(I)I" } : Jvm.MethodName)) ∈ lw_all := lw_g (lw_at lw_m1 106 rfl) rfl
theorem q124 : (Jvm.Cond.static ({ cls := "PebbleFrame", name := "ones", desc := "(I)I" } : Jvm.MethodName)) ∈ lw_all := lw_g (lw_at lw_m1 107 rfl) rfl
theorem q125 : (Jvm.Cond.code ({ cls := "PebbleFrame", name := "ones", desc := "(I)I" } : Jvm.MethodName) prog_1_method_13_code (3 : Nat) (Option.some Jvm.ClassFile.FieldType.int)) ∈ lw_all := lw_g (lw_at lw_m1 108 rfl) rfl
theorem q127 : (Jvm.Cond.instanceMethod ({ cls := "PebbleFrame", name := "frame", desc := "()I" } : Jvm.MethodName)) ∈ lw_all := lw_g (lw_at lw_m1 110 rfl) rfl
theorem q128 : (Jvm.Cond.selects "PebbleFrame" ({ cls := "PebbleFrame", name := "frame", desc := "()I" } : Jvm.MethodName) ({ cls := "PebbleFrame", name := "frame", desc := "()I" } : Jvm.MethodName)) ∈ lw_all := lw_g (lw_at lw_m1 111 rfl) rfl
theorem q129 : (Jvm.Cond.code ({ cls := "PebbleFrame", name := "frame", desc := "()I" } : Jvm.MethodName) prog_1_method_18_code (1 : Nat) (Option.some Jvm.ClassFile.FieldType.int)) ∈ lw_all := lw_g (lw_at lw_m1 112 rfl) rfl
theorem q131 : (Jvm.Cond.instanceMethod ({ cls := "PebbleFrame", name := "rigid", desc := "()Z" } : Jvm.MethodName)) ∈ lw_all := lw_g (lw_at lw_m1 114 rfl) rfl
theorem q132 : (Jvm.Cond.selects "PebbleFrame" ({ cls := "PebbleFrame", name := "rigid", desc := "()Z" } : Jvm.MethodName) ({ cls := "PebbleFrame", name := "rigid", desc := "()Z" } : Jvm.MethodName)) ∈ lw_all := lw_g (lw_at lw_m1 115 rfl) rfl
theorem q133 : (Jvm.Cond.code ({ cls := "PebbleFrame", name := "rigid", desc := "()Z" } : Jvm.MethodName) prog_1_method_19_code (1 : Nat) (Option.some Jvm.ClassFile.FieldType.boolean)) ∈ lw_all := lw_g (lw_at lw_m1 116 rfl) rfl
theorem q134 : (Jvm.Cond.methodLink "PebbleFrame" (82 : Nat) ({ cls := "PebbleFrame", name := "freedom", desc := "()I" } : Jvm.MethodName)) ∈ lw_all := lw_g (lw_at lw_m1 117 rfl) rfl
theorem q135 : (Jvm.Cond.instanceMethod ({ cls := "PebbleFrame", name := "freedom", desc := "()I" } : Jvm.MethodName)) ∈ lw_all := lw_g (lw_at lw_m1 118 rfl) rfl
theorem q136 : (Jvm.Cond.selects "PebbleFrame" ({ cls := "PebbleFrame", name := "freedom", desc := "()I" } : Jvm.MethodName) ({ cls := "PebbleFrame", name := "freedom", desc := "()I" } : Jvm.MethodName)) ∈ lw_all := lw_g (lw_at lw_m1 119 rfl) rfl
theorem q137 : (Jvm.Cond.code ({ cls := "PebbleFrame", name := "freedom", desc := "()I" } : Jvm.MethodName) prog_1_method_20_code (1 : Nat) (Option.some Jvm.ClassFile.FieldType.int)) ∈ lw_all := lw_g (lw_at lw_m1 120 rfl) rfl
theorem q140 : (Jvm.Cond.instanceMethod ({ cls := "PebbleFrame", name := "held", desc := "(II)Z" } : Jvm.MethodName)) ∈ lw_all := lw_g (lw_at lw_m1 123 rfl) rfl
theorem q141 : (Jvm.Cond.selects "PebbleFrame" ({ cls := "PebbleFrame", name := "held", desc := "(II)Z" } : Jvm.MethodName) ({ cls := "PebbleFrame", name := "held", desc := "(II)Z" } : Jvm.MethodName)) ∈ lw_all := lw_g (lw_at lw_m1 124 rfl) rfl
theorem q142 : (Jvm.Cond.code ({ cls := "PebbleFrame", name := "held", desc := "(II)Z" } : Jvm.MethodName) prog_1_method_21_code (3 : Nat) (Option.some Jvm.ClassFile.FieldType.boolean)) ∈ lw_all := lw_g (lw_at lw_m1 125 rfl) rfl
theorem q144 : (Jvm.Cond.instanceMethod ({ cls := "PebbleFrame", name := "redundant", desc := "(I)Z" } : Jvm.MethodName)) ∈ lw_all := lw_g (lw_at lw_m1 127 rfl) rfl
theorem q145 : (Jvm.Cond.selects "PebbleFrame" ({ cls := "PebbleFrame", name := "redundant", desc := "(I)Z" } : Jvm.MethodName) ({ cls := "PebbleFrame", name := "redundant", desc := "(I)Z" } : Jvm.MethodName)) ∈ lw_all := lw_g (lw_at lw_m1 128 rfl) rfl
theorem q146 : (Jvm.Cond.code ({ cls := "PebbleFrame", name := "redundant", desc := "(I)Z" } : Jvm.MethodName) prog_1_method_22_code (3 : Nat) (Option.some Jvm.ClassFile.FieldType.boolean)) ∈ lw_all := lw_g (lw_at lw_m1 129 rfl) rfl
theorem q148 : (Jvm.Cond.instanceMethod ({ cls := "PebbleFrame", name := "ring", desc := "(I)I" } : Jvm.MethodName)) ∈ lw_all := lw_g (lw_at lw_m1 131 rfl) rfl
theorem q149 : (Jvm.Cond.selects "PebbleFrame" ({ cls := "PebbleFrame", name := "ring", desc := "(I)I" } : Jvm.MethodName) ({ cls := "PebbleFrame", name := "ring", desc := "(I)I" } : Jvm.MethodName)) ∈ lw_all := lw_g (lw_at lw_m1 132 rfl) rfl
theorem q150 : (Jvm.Cond.code ({ cls := "PebbleFrame", name := "ring", desc := "(I)I" } : Jvm.MethodName) prog_1_method_23_code (5 : Nat) (Option.some Jvm.ClassFile.FieldType.int)) ∈ lw_all := lw_g (lw_at lw_m1 133 rfl) rfl
theorem q151 : (Jvm.Cond.methodLink "PebbleFrame" (86 : Nat) ({ cls := "PebbleFrame", name := "frame", desc := "()I" } : Jvm.MethodName)) ∈ lw_all := lw_g (lw_at lw_m1 134 rfl) rfl
theorem q153 : (Jvm.Cond.instanceMethod ({ cls := "PebbleFrame", name := "heldTo", desc := "(I)I" } : Jvm.MethodName)) ∈ lw_all := lw_g (lw_at lw_m1 136 rfl) rfl
theorem q154 : (Jvm.Cond.selects "PebbleFrame" ({ cls := "PebbleFrame", name := "heldTo", desc := "(I)I" } : Jvm.MethodName) ({ cls := "PebbleFrame", name := "heldTo", desc := "(I)I" } : Jvm.MethodName)) ∈ lw_all := lw_g (lw_at lw_m1 137 rfl) rfl
theorem q155 : (Jvm.Cond.code ({ cls := "PebbleFrame", name := "heldTo", desc := "(I)I" } : Jvm.MethodName) prog_1_method_24_code (4 : Nat) (Option.some Jvm.ClassFile.FieldType.int)) ∈ lw_all := lw_g (lw_at lw_m1 138 rfl) rfl
theorem q156 : (Jvm.Cond.methodLink "PebbleFrame" (89 : Nat) ({ cls := "PebbleFrame", name := "held", desc := "(II)Z" } : Jvm.MethodName)) ∈ lw_all := lw_g (lw_at lw_m1 139 rfl) rfl
theorem q158 : (Jvm.Cond.instanceMethod ({ cls := "PebbleFrame", name := "bodies", desc := "()I" } : Jvm.MethodName)) ∈ lw_all := lw_g (lw_at lw_m1 141 rfl) rfl
theorem q159 : (Jvm.Cond.selects "PebbleFrame" ({ cls := "PebbleFrame", name := "bodies", desc := "()I" } : Jvm.MethodName) ({ cls := "PebbleFrame", name := "bodies", desc := "()I" } : Jvm.MethodName)) ∈ lw_all := lw_g (lw_at lw_m1 142 rfl) rfl
theorem q160 : (Jvm.Cond.code ({ cls := "PebbleFrame", name := "bodies", desc := "()I" } : Jvm.MethodName) prog_1_method_25_code (6 : Nat) (Option.some Jvm.ClassFile.FieldType.int)) ∈ lw_all := lw_g (lw_at lw_m1 143 rfl) rfl
theorem q161 : (Jvm.Cond.methodLink "PebbleFrame" (92 : Nat) ({ cls := "PebbleFrame", name := "heldTo", desc := "(I)I" } : Jvm.MethodName)) ∈ lw_all := lw_g (lw_at lw_m1 144 rfl) rfl
theorem q162 : (Jvm.Cond.methodLink "PebbleFrame" (95 : Nat) ({ cls := "PebbleFrame", name := "leads", desc := "(III)Z" } : Jvm.MethodName)) ∈ lw_all := lw_g (lw_at lw_m1 145 rfl) rfl
theorem q163 : (Jvm.Cond.static ({ cls := "PebbleFrame", name := "leads", desc := "(III)Z" } : Jvm.MethodName)) ∈ lw_all := lw_g (lw_at lw_m1 146 rfl) rfl
theorem q164 : (Jvm.Cond.code ({ cls := "PebbleFrame", name := "leads", desc := "(III)Z" } : Jvm.MethodName) prog_1_method_26_code (4 : Nat) (Option.some Jvm.ClassFile.FieldType.boolean)) ∈ lw_all := lw_g (lw_at lw_m1 147 rfl) rfl
theorem q166 : (Jvm.Cond.instanceMethod ({ cls := "PebbleFrame", name := "doublyHeld", desc := "()Z" } : Jvm.MethodName)) ∈ lw_all := lw_g (lw_at lw_m1 149 rfl) rfl
theorem q167 : (Jvm.Cond.selects "PebbleFrame" ({ cls := "PebbleFrame", name := "doublyHeld", desc := "()Z" } : Jvm.MethodName) ({ cls := "PebbleFrame", name := "doublyHeld", desc := "()Z" } : Jvm.MethodName)) ∈ lw_all := lw_g (lw_at lw_m1 150 rfl) rfl
theorem q168 : (Jvm.Cond.code ({ cls := "PebbleFrame", name := "doublyHeld", desc := "()Z" } : Jvm.MethodName) prog_1_method_27_code (2 : Nat) (Option.some Jvm.ClassFile.FieldType.boolean)) ∈ lw_all := lw_g (lw_at lw_m1 151 rfl) rfl
theorem q169 : (Jvm.Cond.methodLink "PebbleFrame" (99 : Nat) ({ cls := "PebbleFrame", name := "rigid", desc := "()Z" } : Jvm.MethodName)) ∈ lw_all := lw_g (lw_at lw_m1 152 rfl) rfl
theorem q170 : (Jvm.Cond.methodLink "PebbleFrame" (103 : Nat) ({ cls := "PebbleFrame", name := "redundant", desc := "(I)Z" } : Jvm.MethodName)) ∈ lw_all := lw_g (lw_at lw_m1 153 rfl) rfl
theorem in_X1 : ∀ w ∈ wsX10, w ∈ lw_all := lw_in wsX10 [39, 41, 43, 45, 47, 49, 51, 53, 55, 57, 59] (by decide +kernel) (by decide +kernel)
/-! PebbleFrameModel -/
def RX2 : String := "PebbleFrameModel"
def TX2 : u_T := fun k => match k with
  | 0 => ("PebbleFrameModel", "joints", "I", false)
  | 1 => ("PebbleFrameModel", "there", "[Z", false)
  | 2 => ("PebbleFrameModel", "as", "[I", false)
  | _ => ("PebbleFrameModel", "bs", "[I", false)
def tyX2 : Nat → FieldType := fun k => match k with
  | 0 => .int
  | 1 => .array .boolean
  | 2 => .array .int
  | _ => .array .int
abbrev wsX20 : List Cond := u_ws RX2 TX2 4
theorem nmX2 : ∀ a, a < 4 → ∀ b, b < 4 → a ≠ b → (TX2 a).2.1 ≠ (TX2 b).2.1 := by decide +kernel
theorem tyX2_ok : ∀ k, k < 4 → parseFieldDescriptor (TX2 k).2.2.1 = some (tyX2 k) := by decide +kernel
abbrev cX2_init : ByteArray := prog_3_method_1_code
def yX2_init : MethodName := ⟨RX2, "<init>", "(I)V"⟩
abbrev cX2_add : ByteArray := prog_3_method_3_code
def yX2_add : MethodName := ⟨RX2, "add", "(II)I"⟩
abbrev cX2_joint : ByteArray := prog_3_method_2_code
def yX2_joint : MethodName := ⟨RX2, "joint", "(I)Z"⟩
abbrev cX2_remove : ByteArray := prog_3_method_4_code
def yX2_remove : MethodName := ⟨RX2, "remove", "(I)Z"⟩
abbrev cX2_bars : ByteArray := prog_3_method_5_code
def yX2_bars : MethodName := ⟨RX2, "bars", "()I"⟩
abbrev cX2_free : ByteArray := prog_3_method_9_code
def yX2_free : MethodName := ⟨RX2, "free", "(I)Z"⟩
abbrev cX2_loose : ByteArray := prog_3_method_8_code
def yX2_loose : MethodName := ⟨RX2, "loose", "(I)Z"⟩
abbrev cX2_count : ByteArray := prog_3_method_6_code
def yX2_count : MethodName := ⟨RX2, "count", "(I)I"⟩
abbrev cX2_inside : ByteArray := prog_3_method_7_code
def yX2_inside : MethodName := ⟨RX2, "inside", "(II)I"⟩
abbrev cX2_rank : ByteArray := prog_3_method_12_code
def yX2_rank : MethodName := ⟨RX2, "rank", "(I)I"⟩
abbrev cX2_rankOf : ByteArray := prog_3_method_11_code
def yX2_rankOf : MethodName := ⟨RX2, "rankOf", "(I)I"⟩
abbrev cX2_taken : ByteArray := prog_3_method_10_code
def yX2_taken : MethodName := ⟨RX2, "taken", "(I)I"⟩
abbrev cX2_frame : ByteArray := prog_3_method_13_code
def yX2_frame : MethodName := ⟨RX2, "frame", "()I"⟩
abbrev cX2_rigid : ByteArray := prog_3_method_14_code
def yX2_rigid : MethodName := ⟨RX2, "rigid", "()Z"⟩
abbrev cX2_freedom : ByteArray := prog_3_method_15_code
def yX2_freedom : MethodName := ⟨RX2, "freedom", "()I"⟩
abbrev cX2_held : ByteArray := prog_3_method_16_code
def yX2_held : MethodName := ⟨RX2, "held", "(II)Z"⟩
abbrev cX2_redundant : ByteArray := prog_3_method_17_code
def yX2_redundant : MethodName := ⟨RX2, "redundant", "(I)Z"⟩
abbrev cX2_ring : ByteArray := prog_3_method_18_code
def yX2_ring : MethodName := ⟨RX2, "ring", "(I)I"⟩
abbrev cX2_heldTo : ByteArray := prog_3_method_19_code
def yX2_heldTo : MethodName := ⟨RX2, "heldTo", "(I)I"⟩
abbrev cX2_bodies : ByteArray := prog_3_method_21_code
def yX2_bodies : MethodName := ⟨RX2, "bodies", "()I"⟩
abbrev cX2_body : ByteArray := prog_3_method_20_code
def yX2_body : MethodName := ⟨RX2, "body", "(I)Z"⟩
abbrev cX2_doublyHeld : ByteArray := prog_3_method_22_code
def yX2_doublyHeld : MethodName := ⟨RX2, "doublyHeld", "()Z"⟩
theorem q19 : (Jvm.Cond.initialized "PebbleFrameModel") ∈ lw_all := lw_g (lw_at lw_m1 2 rfl) rfl
theorem q175 : (Jvm.Cond.instantiable "PebbleFrameModel" (4 : Nat)) ∈ lw_all := lw_g (lw_at lw_m1 158 rfl) rfl
theorem q177 : (Jvm.Cond.instanceMethod ({ cls := "PebbleFrameModel", name := "<init>", desc := "(I)V" } : Jvm.MethodName)) ∈ lw_all := lw_g (lw_at lw_m1 160 rfl) rfl
theorem q178 : (Jvm.Cond.code ({ cls := "PebbleFrameModel", name := "<init>", desc := "(I)V" } : Jvm.MethodName) prog_3_method_1_code (2 : Nat) (Option.none : Option Jvm.ClassFile.FieldType)) ∈ lw_all := lw_g (lw_at lw_m1 161 rfl) rfl
theorem q179 : (Jvm.Cond.methodLink "PebbleFrameModel" (1 : Nat) ({ cls := "java/lang/Object", name := "<init>", desc := "()V" } : Jvm.MethodName)) ∈ lw_all := lw_g (lw_at lw_m1 162 rfl) rfl
theorem q180 : (Jvm.Cond.fieldLink "PebbleFrameModel" (20 : Nat) "PebbleFrameModel" "joints" "I") ∈ lw_all := lw_g (lw_at lw_m1 163 rfl) rfl
theorem q181 : (Jvm.Cond.fieldLink "PebbleFrameModel" (7 : Nat) "PebbleFrameModel" "there" "[Z") ∈ lw_all := lw_g (lw_at lw_m1 164 rfl) rfl
theorem q182 : (Jvm.Cond.fieldLink "PebbleFrameModel" (13 : Nat) "PebbleFrameModel" "as" "[I") ∈ lw_all := lw_g (lw_at lw_m1 165 rfl) rfl
theorem q183 : (Jvm.Cond.fieldLink "PebbleFrameModel" (17 : Nat) "PebbleFrameModel" "bs" "[I") ∈ lw_all := lw_g (lw_at lw_m1 166 rfl) rfl
theorem q184 : (Jvm.Cond.lays "PebbleFrameModel" "PebbleFrameModel" "joints" "I") ∈ lw_all := lw_g (lw_at lw_m1 167 rfl) rfl
theorem q185 : (Jvm.Cond.soleField "PebbleFrameModel" "joints") ∈ lw_all := lw_g (lw_at lw_m1 168 rfl) rfl
theorem q186 : (Jvm.Cond.lays "PebbleFrameModel" "PebbleFrameModel" "there" "[Z") ∈ lw_all := lw_g (lw_at lw_m1 169 rfl) rfl
theorem q187 : (Jvm.Cond.soleField "PebbleFrameModel" "there") ∈ lw_all := lw_g (lw_at lw_m1 170 rfl) rfl
theorem q188 : (Jvm.Cond.lays "PebbleFrameModel" "PebbleFrameModel" "as" "[I") ∈ lw_all := lw_g (lw_at lw_m1 171 rfl) rfl
theorem q189 : (Jvm.Cond.soleField "PebbleFrameModel" "as") ∈ lw_all := lw_g (lw_at lw_m1 172 rfl) rfl
theorem q190 : (Jvm.Cond.lays "PebbleFrameModel" "PebbleFrameModel" "bs" "[I") ∈ lw_all := lw_g (lw_at lw_m1 173 rfl) rfl
theorem q191 : (Jvm.Cond.soleField "PebbleFrameModel" "bs") ∈ lw_all := lw_g (lw_at lw_m1 174 rfl) rfl
theorem q192 : (Jvm.Cond.superclass "PebbleFrameModel" "java/lang/Object") ∈ lw_all := lw_g (lw_at lw_m1 175 rfl) rfl
theorem q196 : (Jvm.Cond.instanceMethod ({ cls := "PebbleFrameModel", name := "add", desc := "(II)I" } : Jvm.MethodName)) ∈ lw_all := lw_g (lw_at lw_m1 179 rfl) rfl
theorem q197 : (Jvm.Cond.selects "PebbleFrameModel" ({ cls := "PebbleFrameModel", name := "add", desc := "(II)I" } : Jvm.MethodName) ({ cls := "PebbleFrameModel", name := "add", desc := "(II)I" } : Jvm.MethodName)) ∈ lw_all := lw_g (lw_at lw_m1 180 rfl) rfl
theorem q198 : (Jvm.Cond.code ({ cls := "PebbleFrameModel", name := "add", desc := "(II)I" } : Jvm.MethodName) prog_3_method_3_code (4 : Nat) (Option.some Jvm.ClassFile.FieldType.int)) ∈ lw_all := lw_g (lw_at lw_m1 181 rfl) rfl
theorem q199 : (Jvm.Cond.methodLink "PebbleFrameModel" (24 : Nat) ({ cls := "PebbleFrameModel", name := "joint", desc := "(I)Z" } : Jvm.MethodName)) ∈ lw_all := lw_g (lw_at lw_m1 182 rfl) rfl
theorem q200 : (Jvm.Cond.privateMethod ({ cls := "PebbleFrameModel", name := "joint", desc := "(I)Z" } : Jvm.MethodName)) ∈ lw_tbl := lw_at lw_m1 183 rfl
theorem q201 : (Jvm.Cond.instanceMethod ({ cls := "PebbleFrameModel", name := "joint", desc := "(I)Z" } : Jvm.MethodName)) ∈ lw_all := lw_g (lw_at lw_m1 184 rfl) rfl
theorem q202 : (Jvm.Cond.code ({ cls := "PebbleFrameModel", name := "joint", desc := "(I)Z" } : Jvm.MethodName) prog_3_method_2_code (2 : Nat) (Option.some Jvm.ClassFile.FieldType.boolean)) ∈ lw_all := lw_g (lw_at lw_m1 185 rfl) rfl
theorem q204 : (Jvm.Cond.instanceMethod ({ cls := "PebbleFrameModel", name := "remove", desc := "(I)Z" } : Jvm.MethodName)) ∈ lw_all := lw_g (lw_at lw_m1 187 rfl) rfl
theorem q205 : (Jvm.Cond.selects "PebbleFrameModel" ({ cls := "PebbleFrameModel", name := "remove", desc := "(I)Z" } : Jvm.MethodName) ({ cls := "PebbleFrameModel", name := "remove", desc := "(I)Z" } : Jvm.MethodName)) ∈ lw_all := lw_g (lw_at lw_m1 188 rfl) rfl
theorem q206 : (Jvm.Cond.code ({ cls := "PebbleFrameModel", name := "remove", desc := "(I)Z" } : Jvm.MethodName) prog_3_method_4_code (2 : Nat) (Option.some Jvm.ClassFile.FieldType.boolean)) ∈ lw_all := lw_g (lw_at lw_m1 189 rfl) rfl
theorem q208 : (Jvm.Cond.instanceMethod ({ cls := "PebbleFrameModel", name := "bars", desc := "()I" } : Jvm.MethodName)) ∈ lw_all := lw_g (lw_at lw_m1 191 rfl) rfl
theorem q209 : (Jvm.Cond.selects "PebbleFrameModel" ({ cls := "PebbleFrameModel", name := "bars", desc := "()I" } : Jvm.MethodName) ({ cls := "PebbleFrameModel", name := "bars", desc := "()I" } : Jvm.MethodName)) ∈ lw_all := lw_g (lw_at lw_m1 192 rfl) rfl
theorem q210 : (Jvm.Cond.code ({ cls := "PebbleFrameModel", name := "bars", desc := "()I" } : Jvm.MethodName) prog_3_method_5_code (3 : Nat) (Option.some Jvm.ClassFile.FieldType.int)) ∈ lw_all := lw_g (lw_at lw_m1 193 rfl) rfl
theorem q212 : (Jvm.Cond.instanceMethod ({ cls := "PebbleFrameModel", name := "free", desc := "(I)Z" } : Jvm.MethodName)) ∈ lw_all := lw_g (lw_at lw_m1 195 rfl) rfl
theorem q213 : (Jvm.Cond.selects "PebbleFrameModel" ({ cls := "PebbleFrameModel", name := "free", desc := "(I)Z" } : Jvm.MethodName) ({ cls := "PebbleFrameModel", name := "free", desc := "(I)Z" } : Jvm.MethodName)) ∈ lw_all := lw_g (lw_at lw_m1 196 rfl) rfl
theorem q214 : (Jvm.Cond.code ({ cls := "PebbleFrameModel", name := "free", desc := "(I)Z" } : Jvm.MethodName) prog_3_method_9_code (2 : Nat) (Option.some Jvm.ClassFile.FieldType.boolean)) ∈ lw_all := lw_g (lw_at lw_m1 197 rfl) rfl
theorem q215 : (Jvm.Cond.methodLink "PebbleFrameModel" (36 : Nat) ({ cls := "PebbleFrameModel", name := "bars", desc := "()I" } : Jvm.MethodName)) ∈ lw_all := lw_g (lw_at lw_m1 198 rfl) rfl
theorem q216 : (Jvm.Cond.methodLink "PebbleFrameModel" (40 : Nat) ({ cls := "PebbleFrameModel", name := "loose", desc := "(I)Z" } : Jvm.MethodName)) ∈ lw_all := lw_g (lw_at lw_m1 199 rfl) rfl
theorem q217 : (Jvm.Cond.privateMethod ({ cls := "PebbleFrameModel", name := "loose", desc := "(I)Z" } : Jvm.MethodName)) ∈ lw_tbl := lw_at lw_m1 200 rfl
theorem q218 : (Jvm.Cond.instanceMethod ({ cls := "PebbleFrameModel", name := "loose", desc := "(I)Z" } : Jvm.MethodName)) ∈ lw_all := lw_g (lw_at lw_m1 201 rfl) rfl
theorem q219 : (Jvm.Cond.code ({ cls := "PebbleFrameModel", name := "loose", desc := "(I)Z" } : Jvm.MethodName) prog_3_method_8_code (5 : Nat) (Option.some Jvm.ClassFile.FieldType.boolean)) ∈ lw_all := lw_g (lw_at lw_m1 202 rfl) rfl
theorem q220 : (Jvm.Cond.methodLink "PebbleFrameModel" (28 : Nat) ({ cls := "PebbleFrameModel", name := "count", desc := "(I)I" } : Jvm.MethodName)) ∈ lw_all := lw_g (lw_at lw_m1 203 rfl) rfl
theorem q221 : (Jvm.Cond.privateMethod ({ cls := "PebbleFrameModel", name := "count", desc := "(I)I" } : Jvm.MethodName)) ∈ lw_tbl := lw_at lw_m1 204 rfl
theorem q222 : (Jvm.Cond.instanceMethod ({ cls := "PebbleFrameModel", name := "count", desc := "(I)I" } : Jvm.MethodName)) ∈ lw_all := lw_g (lw_at lw_m1 205 rfl) rfl
theorem q223 : (Jvm.Cond.code ({ cls := "PebbleFrameModel", name := "count", desc := "(I)I" } : Jvm.MethodName) prog_3_method_6_code (4 : Nat) (Option.some Jvm.ClassFile.FieldType.int)) ∈ lw_all := lw_g (lw_at lw_m1 206 rfl) rfl
theorem q224 : (Jvm.Cond.methodLink "PebbleFrameModel" (32 : Nat) ({ cls := "PebbleFrameModel", name := "inside", desc := "(II)I" } : Jvm.MethodName)) ∈ lw_all := lw_g (lw_at lw_m1 207 rfl) rfl
theorem q225 : (Jvm.Cond.privateMethod ({ cls := "PebbleFrameModel", name := "inside", desc := "(II)I" } : Jvm.MethodName)) ∈ lw_tbl := lw_at lw_m1 208 rfl
theorem q226 : (Jvm.Cond.instanceMethod ({ cls := "PebbleFrameModel", name := "inside", desc := "(II)I" } : Jvm.MethodName)) ∈ lw_all := lw_g (lw_at lw_m1 209 rfl) rfl
theorem q227 : (Jvm.Cond.code ({ cls := "PebbleFrameModel", name := "inside", desc := "(II)I" } : Jvm.MethodName) prog_3_method_7_code (6 : Nat) (Option.some Jvm.ClassFile.FieldType.int)) ∈ lw_all := lw_g (lw_at lw_m1 210 rfl) rfl
theorem q229 : (Jvm.Cond.instanceMethod ({ cls := "PebbleFrameModel", name := "rank", desc := "(I)I" } : Jvm.MethodName)) ∈ lw_all := lw_g (lw_at lw_m1 212 rfl) rfl
theorem q230 : (Jvm.Cond.selects "PebbleFrameModel" ({ cls := "PebbleFrameModel", name := "rank", desc := "(I)I" } : Jvm.MethodName) ({ cls := "PebbleFrameModel", name := "rank", desc := "(I)I" } : Jvm.MethodName)) ∈ lw_all := lw_g (lw_at lw_m1 213 rfl) rfl
theorem q231 : (Jvm.Cond.code ({ cls := "PebbleFrameModel", name := "rank", desc := "(I)I" } : Jvm.MethodName) prog_3_method_12_code (2 : Nat) (Option.some Jvm.ClassFile.FieldType.int)) ∈ lw_all := lw_g (lw_at lw_m1 214 rfl) rfl
theorem q232 : (Jvm.Cond.methodLink "PebbleFrameModel" (46 : Nat) ({ cls := "PebbleFrameModel", name := "rankOf", desc := "(I)I" } : Jvm.MethodName)) ∈ lw_all := lw_g (lw_at lw_m1 215 rfl) rfl
theorem q233 : (Jvm.Cond.privateMethod ({ cls := "PebbleFrameModel", name := "rankOf", desc := "(I)I" } : Jvm.MethodName)) ∈ lw_tbl := lw_at lw_m1 216 rfl
theorem q234 : (Jvm.Cond.instanceMethod ({ cls := "PebbleFrameModel", name := "rankOf", desc := "(I)I" } : Jvm.MethodName)) ∈ lw_all := lw_g (lw_at lw_m1 217 rfl) rfl
theorem q235 : (Jvm.Cond.code ({ cls := "PebbleFrameModel", name := "rankOf", desc := "(I)I" } : Jvm.MethodName) prog_3_method_11_code (3 : Nat) (Option.some Jvm.ClassFile.FieldType.int)) ∈ lw_all := lw_g (lw_at lw_m1 218 rfl) rfl
theorem q236 : (Jvm.Cond.methodLink "PebbleFrameModel" (43 : Nat) ({ cls := "PebbleFrameModel", name := "taken", desc := "(I)I" } : Jvm.MethodName)) ∈ lw_all := lw_g (lw_at lw_m1 219 rfl) rfl
theorem q237 : (Jvm.Cond.privateMethod ({ cls := "PebbleFrameModel", name := "taken", desc := "(I)I" } : Jvm.MethodName)) ∈ lw_tbl := lw_at lw_m1 220 rfl
theorem q238 : (Jvm.Cond.instanceMethod ({ cls := "PebbleFrameModel", name := "taken", desc := "(I)I" } : Jvm.MethodName)) ∈ lw_all := lw_g (lw_at lw_m1 221 rfl) rfl
theorem q239 : (Jvm.Cond.code ({ cls := "PebbleFrameModel", name := "taken", desc := "(I)I" } : Jvm.MethodName) prog_3_method_10_code (5 : Nat) (Option.some Jvm.ClassFile.FieldType.int)) ∈ lw_all := lw_g (lw_at lw_m1 222 rfl) rfl
theorem q241 : (Jvm.Cond.instanceMethod ({ cls := "PebbleFrameModel", name := "frame", desc := "()I" } : Jvm.MethodName)) ∈ lw_all := lw_g (lw_at lw_m1 224 rfl) rfl
theorem q242 : (Jvm.Cond.selects "PebbleFrameModel" ({ cls := "PebbleFrameModel", name := "frame", desc := "()I" } : Jvm.MethodName) ({ cls := "PebbleFrameModel", name := "frame", desc := "()I" } : Jvm.MethodName)) ∈ lw_all := lw_g (lw_at lw_m1 225 rfl) rfl
theorem q243 : (Jvm.Cond.code ({ cls := "PebbleFrameModel", name := "frame", desc := "()I" } : Jvm.MethodName) prog_3_method_13_code (1 : Nat) (Option.some Jvm.ClassFile.FieldType.int)) ∈ lw_all := lw_g (lw_at lw_m1 226 rfl) rfl
theorem q245 : (Jvm.Cond.instanceMethod ({ cls := "PebbleFrameModel", name := "rigid", desc := "()Z" } : Jvm.MethodName)) ∈ lw_all := lw_g (lw_at lw_m1 228 rfl) rfl
theorem q246 : (Jvm.Cond.selects "PebbleFrameModel" ({ cls := "PebbleFrameModel", name := "rigid", desc := "()Z" } : Jvm.MethodName) ({ cls := "PebbleFrameModel", name := "rigid", desc := "()Z" } : Jvm.MethodName)) ∈ lw_all := lw_g (lw_at lw_m1 229 rfl) rfl
theorem q247 : (Jvm.Cond.code ({ cls := "PebbleFrameModel", name := "rigid", desc := "()Z" } : Jvm.MethodName) prog_3_method_14_code (1 : Nat) (Option.some Jvm.ClassFile.FieldType.boolean)) ∈ lw_all := lw_g (lw_at lw_m1 230 rfl) rfl
theorem q248 : (Jvm.Cond.methodLink "PebbleFrameModel" (49 : Nat) ({ cls := "PebbleFrameModel", name := "freedom", desc := "()I" } : Jvm.MethodName)) ∈ lw_all := lw_g (lw_at lw_m1 231 rfl) rfl
theorem q249 : (Jvm.Cond.instanceMethod ({ cls := "PebbleFrameModel", name := "freedom", desc := "()I" } : Jvm.MethodName)) ∈ lw_all := lw_g (lw_at lw_m1 232 rfl) rfl
theorem q250 : (Jvm.Cond.selects "PebbleFrameModel" ({ cls := "PebbleFrameModel", name := "freedom", desc := "()I" } : Jvm.MethodName) ({ cls := "PebbleFrameModel", name := "freedom", desc := "()I" } : Jvm.MethodName)) ∈ lw_all := lw_g (lw_at lw_m1 233 rfl) rfl
theorem q251 : (Jvm.Cond.code ({ cls := "PebbleFrameModel", name := "freedom", desc := "()I" } : Jvm.MethodName) prog_3_method_15_code (1 : Nat) (Option.some Jvm.ClassFile.FieldType.int)) ∈ lw_all := lw_g (lw_at lw_m1 234 rfl) rfl
theorem q254 : (Jvm.Cond.instanceMethod ({ cls := "PebbleFrameModel", name := "held", desc := "(II)Z" } : Jvm.MethodName)) ∈ lw_all := lw_g (lw_at lw_m1 237 rfl) rfl
theorem q255 : (Jvm.Cond.selects "PebbleFrameModel" ({ cls := "PebbleFrameModel", name := "held", desc := "(II)Z" } : Jvm.MethodName) ({ cls := "PebbleFrameModel", name := "held", desc := "(II)Z" } : Jvm.MethodName)) ∈ lw_all := lw_g (lw_at lw_m1 238 rfl) rfl
theorem q256 : (Jvm.Cond.code ({ cls := "PebbleFrameModel", name := "held", desc := "(II)Z" } : Jvm.MethodName) prog_3_method_16_code (4 : Nat) (Option.some Jvm.ClassFile.FieldType.boolean)) ∈ lw_all := lw_g (lw_at lw_m1 239 rfl) rfl
theorem q258 : (Jvm.Cond.instanceMethod ({ cls := "PebbleFrameModel", name := "redundant", desc := "(I)Z" } : Jvm.MethodName)) ∈ lw_all := lw_g (lw_at lw_m2 1 rfl) rfl
theorem q259 : (Jvm.Cond.selects "PebbleFrameModel" ({ cls := "PebbleFrameModel", name := "redundant", desc := "(I)Z" } : Jvm.MethodName) ({ cls := "PebbleFrameModel", name := "redundant", desc := "(I)Z" } : Jvm.MethodName)) ∈ lw_all := lw_g (lw_at lw_m2 2 rfl) rfl
theorem q260 : (Jvm.Cond.code ({ cls := "PebbleFrameModel", name := "redundant", desc := "(I)Z" } : Jvm.MethodName) prog_3_method_17_code (3 : Nat) (Option.some Jvm.ClassFile.FieldType.boolean)) ∈ lw_all := lw_g (lw_at lw_m2 3 rfl) rfl
theorem q262 : (Jvm.Cond.instanceMethod ({ cls := "PebbleFrameModel", name := "ring", desc := "(I)I" } : Jvm.MethodName)) ∈ lw_all := lw_g (lw_at lw_m2 5 rfl) rfl
theorem q263 : (Jvm.Cond.selects "PebbleFrameModel" ({ cls := "PebbleFrameModel", name := "ring", desc := "(I)I" } : Jvm.MethodName) ({ cls := "PebbleFrameModel", name := "ring", desc := "(I)I" } : Jvm.MethodName)) ∈ lw_all := lw_g (lw_at lw_m2 6 rfl) rfl
theorem q264 : (Jvm.Cond.code ({ cls := "PebbleFrameModel", name := "ring", desc := "(I)I" } : Jvm.MethodName) prog_3_method_18_code (6 : Nat) (Option.some Jvm.ClassFile.FieldType.int)) ∈ lw_all := lw_g (lw_at lw_m2 7 rfl) rfl
theorem q265 : (Jvm.Cond.methodLink "PebbleFrameModel" (52 : Nat) ({ cls := "PebbleFrameModel", name := "frame", desc := "()I" } : Jvm.MethodName)) ∈ lw_all := lw_g (lw_at lw_m2 8 rfl) rfl
theorem q267 : (Jvm.Cond.instanceMethod ({ cls := "PebbleFrameModel", name := "heldTo", desc := "(I)I" } : Jvm.MethodName)) ∈ lw_all := lw_g (lw_at lw_m2 10 rfl) rfl
theorem q268 : (Jvm.Cond.selects "PebbleFrameModel" ({ cls := "PebbleFrameModel", name := "heldTo", desc := "(I)I" } : Jvm.MethodName) ({ cls := "PebbleFrameModel", name := "heldTo", desc := "(I)I" } : Jvm.MethodName)) ∈ lw_all := lw_g (lw_at lw_m2 11 rfl) rfl
theorem q269 : (Jvm.Cond.code ({ cls := "PebbleFrameModel", name := "heldTo", desc := "(I)I" } : Jvm.MethodName) prog_3_method_19_code (4 : Nat) (Option.some Jvm.ClassFile.FieldType.int)) ∈ lw_all := lw_g (lw_at lw_m2 12 rfl) rfl
theorem q270 : (Jvm.Cond.methodLink "PebbleFrameModel" (55 : Nat) ({ cls := "PebbleFrameModel", name := "held", desc := "(II)Z" } : Jvm.MethodName)) ∈ lw_all := lw_g (lw_at lw_m2 13 rfl) rfl
theorem q272 : (Jvm.Cond.instanceMethod ({ cls := "PebbleFrameModel", name := "bodies", desc := "()I" } : Jvm.MethodName)) ∈ lw_all := lw_g (lw_at lw_m2 15 rfl) rfl
theorem q273 : (Jvm.Cond.selects "PebbleFrameModel" ({ cls := "PebbleFrameModel", name := "bodies", desc := "()I" } : Jvm.MethodName) ({ cls := "PebbleFrameModel", name := "bodies", desc := "()I" } : Jvm.MethodName)) ∈ lw_all := lw_g (lw_at lw_m2 16 rfl) rfl
theorem q274 : (Jvm.Cond.code ({ cls := "PebbleFrameModel", name := "bodies", desc := "()I" } : Jvm.MethodName) prog_3_method_21_code (5 : Nat) (Option.some Jvm.ClassFile.FieldType.int)) ∈ lw_all := lw_g (lw_at lw_m2 17 rfl) rfl
theorem q275 : (Jvm.Cond.methodLink "PebbleFrameModel" (59 : Nat) ({ cls := "PebbleFrameModel", name := "body", desc := "(I)Z" } : Jvm.MethodName)) ∈ lw_all := lw_g (lw_at lw_m2 18 rfl) rfl
theorem q276 : (Jvm.Cond.privateMethod ({ cls := "PebbleFrameModel", name := "body", desc := "(I)Z" } : Jvm.MethodName)) ∈ lw_tbl := lw_at lw_m2 19 rfl
theorem q277 : (Jvm.Cond.instanceMethod ({ cls := "PebbleFrameModel", name := "body", desc := "(I)Z" } : Jvm.MethodName)) ∈ lw_all := lw_g (lw_at lw_m2 20 rfl) rfl
theorem q278 : (Jvm.Cond.code ({ cls := "PebbleFrameModel", name := "body", desc := "(I)Z" } : Jvm.MethodName) prog_3_method_20_code (7 : Nat) (Option.some Jvm.ClassFile.FieldType.boolean)) ∈ lw_all := lw_g (lw_at lw_m2 21 rfl) rfl
theorem q280 : (Jvm.Cond.instanceMethod ({ cls := "PebbleFrameModel", name := "doublyHeld", desc := "()Z" } : Jvm.MethodName)) ∈ lw_all := lw_g (lw_at lw_m2 23 rfl) rfl
theorem q281 : (Jvm.Cond.selects "PebbleFrameModel" ({ cls := "PebbleFrameModel", name := "doublyHeld", desc := "()Z" } : Jvm.MethodName) ({ cls := "PebbleFrameModel", name := "doublyHeld", desc := "()Z" } : Jvm.MethodName)) ∈ lw_all := lw_g (lw_at lw_m2 24 rfl) rfl
theorem q282 : (Jvm.Cond.code ({ cls := "PebbleFrameModel", name := "doublyHeld", desc := "()Z" } : Jvm.MethodName) prog_3_method_22_code (3 : Nat) (Option.some Jvm.ClassFile.FieldType.boolean)) ∈ lw_all := lw_g (lw_at lw_m2 25 rfl) rfl
theorem q283 : (Jvm.Cond.methodLink "PebbleFrameModel" (62 : Nat) ({ cls := "PebbleFrameModel", name := "rigid", desc := "()Z" } : Jvm.MethodName)) ∈ lw_all := lw_g (lw_at lw_m2 26 rfl) rfl
theorem q284 : (Jvm.Cond.methodLink "PebbleFrameModel" (66 : Nat) ({ cls := "PebbleFrameModel", name := "redundant", desc := "(I)Z" } : Jvm.MethodName)) ∈ lw_all := lw_g (lw_at lw_m2 27 rfl) rfl
theorem in_X2 : ∀ w ∈ wsX20, w ∈ lw_all := lw_in wsX20 [184, 186, 188, 190] (by decide +kernel) (by decide +kernel)
/-! PebbleFrameLaw -/
def RX0 : String := "PebbleFrameLaw"
abbrev cX0_cell : ByteArray := method_2_code
def yX0_cell : MethodName := ⟨RX0, "cell", "([II)I"⟩
theorem q17 : (Jvm.Cond.initialized "PebbleFrameLaw") ∈ lw_all := lw_g (lw_at lw_m1 0 rfl) rfl
theorem q20 : (Jvm.Cond.classLink "PebbleFrameLaw" (7 : Nat) "PebbleFrame") ∈ lw_all := lw_g (lw_at lw_m1 3 rfl) rfl
theorem q22 : (Jvm.Cond.methodLink "PebbleFrameLaw" (15 : Nat) ({ cls := "PebbleFrame", name := "<init>", desc := "(I)V" } : Jvm.MethodName)) ∈ lw_all := lw_g (lw_at lw_m1 5 rfl) rfl
theorem q63 : (Jvm.Cond.methodLink "PebbleFrameLaw" (21 : Nat) ({ cls := "PebbleFrame", name := "add", desc := "(II)I" } : Jvm.MethodName)) ∈ lw_all := lw_g (lw_at lw_m1 46 rfl) rfl
theorem q75 : (Jvm.Cond.methodLink "PebbleFrameLaw" (26 : Nat) ({ cls := "PebbleFrame", name := "remove", desc := "(I)Z" } : Jvm.MethodName)) ∈ lw_all := lw_g (lw_at lw_m1 58 rfl) rfl
theorem q79 : (Jvm.Cond.methodLink "PebbleFrameLaw" (31 : Nat) ({ cls := "PebbleFrame", name := "bars", desc := "()I" } : Jvm.MethodName)) ∈ lw_all := lw_g (lw_at lw_m1 62 rfl) rfl
theorem q83 : (Jvm.Cond.methodLink "PebbleFrameLaw" (36 : Nat) ({ cls := "PebbleFrame", name := "free", desc := "(I)Z" } : Jvm.MethodName)) ∈ lw_all := lw_g (lw_at lw_m1 66 rfl) rfl
theorem q115 : (Jvm.Cond.methodLink "PebbleFrameLaw" (40 : Nat) ({ cls := "PebbleFrame", name := "rank", desc := "(I)I" } : Jvm.MethodName)) ∈ lw_all := lw_g (lw_at lw_m1 98 rfl) rfl
theorem q126 : (Jvm.Cond.methodLink "PebbleFrameLaw" (45 : Nat) ({ cls := "PebbleFrame", name := "frame", desc := "()I" } : Jvm.MethodName)) ∈ lw_all := lw_g (lw_at lw_m1 109 rfl) rfl
theorem q130 : (Jvm.Cond.methodLink "PebbleFrameLaw" (49 : Nat) ({ cls := "PebbleFrame", name := "rigid", desc := "()Z" } : Jvm.MethodName)) ∈ lw_all := lw_g (lw_at lw_m1 113 rfl) rfl
theorem q138 : (Jvm.Cond.methodLink "PebbleFrameLaw" (54 : Nat) ({ cls := "PebbleFrame", name := "freedom", desc := "()I" } : Jvm.MethodName)) ∈ lw_all := lw_g (lw_at lw_m1 121 rfl) rfl
theorem q139 : (Jvm.Cond.methodLink "PebbleFrameLaw" (58 : Nat) ({ cls := "PebbleFrame", name := "held", desc := "(II)Z" } : Jvm.MethodName)) ∈ lw_all := lw_g (lw_at lw_m1 122 rfl) rfl
theorem q143 : (Jvm.Cond.methodLink "PebbleFrameLaw" (63 : Nat) ({ cls := "PebbleFrame", name := "redundant", desc := "(I)Z" } : Jvm.MethodName)) ∈ lw_all := lw_g (lw_at lw_m1 126 rfl) rfl
theorem q147 : (Jvm.Cond.methodLink "PebbleFrameLaw" (67 : Nat) ({ cls := "PebbleFrame", name := "ring", desc := "(I)I" } : Jvm.MethodName)) ∈ lw_all := lw_g (lw_at lw_m1 130 rfl) rfl
theorem q152 : (Jvm.Cond.methodLink "PebbleFrameLaw" (71 : Nat) ({ cls := "PebbleFrame", name := "heldTo", desc := "(I)I" } : Jvm.MethodName)) ∈ lw_all := lw_g (lw_at lw_m1 135 rfl) rfl
theorem q157 : (Jvm.Cond.methodLink "PebbleFrameLaw" (75 : Nat) ({ cls := "PebbleFrame", name := "bodies", desc := "()I" } : Jvm.MethodName)) ∈ lw_all := lw_g (lw_at lw_m1 140 rfl) rfl
theorem q165 : (Jvm.Cond.methodLink "PebbleFrameLaw" (79 : Nat) ({ cls := "PebbleFrame", name := "doublyHeld", desc := "()Z" } : Jvm.MethodName)) ∈ lw_all := lw_g (lw_at lw_m1 148 rfl) rfl
theorem q171 : (Jvm.Cond.methodLink "PebbleFrameLaw" (9 : Nat) ({ cls := "PebbleFrameLaw", name := "cell", desc := "([II)I" } : Jvm.MethodName)) ∈ lw_all := lw_g (lw_at lw_m1 154 rfl) rfl
theorem q172 : (Jvm.Cond.static ({ cls := "PebbleFrameLaw", name := "cell", desc := "([II)I" } : Jvm.MethodName)) ∈ lw_all := lw_g (lw_at lw_m1 155 rfl) rfl
theorem q173 : (Jvm.Cond.code ({ cls := "PebbleFrameLaw", name := "cell", desc := "([II)I" } : Jvm.MethodName) method_2_code (2 : Nat) (Option.some Jvm.ClassFile.FieldType.int)) ∈ lw_all := lw_g (lw_at lw_m1 156 rfl) rfl
theorem q174 : (Jvm.Cond.classLink "PebbleFrameLaw" (18 : Nat) "PebbleFrameModel") ∈ lw_all := lw_g (lw_at lw_m1 157 rfl) rfl
theorem q176 : (Jvm.Cond.methodLink "PebbleFrameLaw" (20 : Nat) ({ cls := "PebbleFrameModel", name := "<init>", desc := "(I)V" } : Jvm.MethodName)) ∈ lw_all := lw_g (lw_at lw_m1 159 rfl) rfl
theorem q195 : (Jvm.Cond.methodLink "PebbleFrameLaw" (25 : Nat) ({ cls := "PebbleFrameModel", name := "add", desc := "(II)I" } : Jvm.MethodName)) ∈ lw_all := lw_g (lw_at lw_m1 178 rfl) rfl
theorem q203 : (Jvm.Cond.methodLink "PebbleFrameLaw" (30 : Nat) ({ cls := "PebbleFrameModel", name := "remove", desc := "(I)Z" } : Jvm.MethodName)) ∈ lw_all := lw_g (lw_at lw_m1 186 rfl) rfl
theorem q207 : (Jvm.Cond.methodLink "PebbleFrameLaw" (35 : Nat) ({ cls := "PebbleFrameModel", name := "bars", desc := "()I" } : Jvm.MethodName)) ∈ lw_all := lw_g (lw_at lw_m1 190 rfl) rfl
theorem q211 : (Jvm.Cond.methodLink "PebbleFrameLaw" (39 : Nat) ({ cls := "PebbleFrameModel", name := "free", desc := "(I)Z" } : Jvm.MethodName)) ∈ lw_all := lw_g (lw_at lw_m1 194 rfl) rfl
theorem q228 : (Jvm.Cond.methodLink "PebbleFrameLaw" (44 : Nat) ({ cls := "PebbleFrameModel", name := "rank", desc := "(I)I" } : Jvm.MethodName)) ∈ lw_all := lw_g (lw_at lw_m1 211 rfl) rfl
theorem q240 : (Jvm.Cond.methodLink "PebbleFrameLaw" (48 : Nat) ({ cls := "PebbleFrameModel", name := "frame", desc := "()I" } : Jvm.MethodName)) ∈ lw_all := lw_g (lw_at lw_m1 223 rfl) rfl
theorem q244 : (Jvm.Cond.methodLink "PebbleFrameLaw" (53 : Nat) ({ cls := "PebbleFrameModel", name := "rigid", desc := "()Z" } : Jvm.MethodName)) ∈ lw_all := lw_g (lw_at lw_m1 227 rfl) rfl
theorem q252 : (Jvm.Cond.methodLink "PebbleFrameLaw" (57 : Nat) ({ cls := "PebbleFrameModel", name := "freedom", desc := "()I" } : Jvm.MethodName)) ∈ lw_all := lw_g (lw_at lw_m1 235 rfl) rfl
theorem q253 : (Jvm.Cond.methodLink "PebbleFrameLaw" (62 : Nat) ({ cls := "PebbleFrameModel", name := "held", desc := "(II)Z" } : Jvm.MethodName)) ∈ lw_all := lw_g (lw_at lw_m1 236 rfl) rfl
theorem q257 : (Jvm.Cond.methodLink "PebbleFrameLaw" (66 : Nat) ({ cls := "PebbleFrameModel", name := "redundant", desc := "(I)Z" } : Jvm.MethodName)) ∈ lw_all := lw_g (lw_at lw_m2 0 rfl) rfl
theorem q261 : (Jvm.Cond.methodLink "PebbleFrameLaw" (70 : Nat) ({ cls := "PebbleFrameModel", name := "ring", desc := "(I)I" } : Jvm.MethodName)) ∈ lw_all := lw_g (lw_at lw_m2 4 rfl) rfl
theorem q266 : (Jvm.Cond.methodLink "PebbleFrameLaw" (74 : Nat) ({ cls := "PebbleFrameModel", name := "heldTo", desc := "(I)I" } : Jvm.MethodName)) ∈ lw_all := lw_g (lw_at lw_m2 9 rfl) rfl
theorem q271 : (Jvm.Cond.methodLink "PebbleFrameLaw" (78 : Nat) ({ cls := "PebbleFrameModel", name := "bodies", desc := "()I" } : Jvm.MethodName)) ∈ lw_all := lw_g (lw_at lw_m2 14 rfl) rfl
theorem q279 : (Jvm.Cond.methodLink "PebbleFrameLaw" (82 : Nat) ({ cls := "PebbleFrameModel", name := "doublyHeld", desc := "()Z" } : Jvm.MethodName)) ∈ lw_all := lw_g (lw_at lw_m2 22 rfl) rfl
/-! the law's own entry -/
abbrev cL_law : ByteArray := code
/-! java/lang/Object -/
def RJ0 : String := "java/lang/Object"
abbrev cJ0_init : ByteArray := object_method_1_code
def yJ0_init : MethodName := ⟨RJ0, "<init>", "()V"⟩
theorem q26 : (Jvm.Cond.instanceMethod ({ cls := "java/lang/Object", name := "<init>", desc := "()V" } : Jvm.MethodName)) ∈ lw_all := lw_g (lw_at lw_m1 9 rfl) rfl
theorem q27 : (Jvm.Cond.code ({ cls := "java/lang/Object", name := "<init>", desc := "()V" } : Jvm.MethodName) object_method_1_code (1 : Nat) (Option.none : Option Jvm.ClassFile.FieldType)) ∈ lw_all := lw_g (lw_at lw_m1 10 rfl) rfl
theorem q62 : (Jvm.Cond.arrayClass Jvm.ClassFile.FieldType.byte) ∈ lw_all := lw_g (lw_at lw_m1 45 rfl) rfl
theorem q193 : (Jvm.Cond.arrayClass Jvm.ClassFile.FieldType.boolean) ∈ lw_all := lw_g (lw_at lw_m1 176 rfl) rfl
theorem q194 : (Jvm.Cond.arrayClass Jvm.ClassFile.FieldType.int) ∈ lw_all := lw_g (lw_at lw_m1 177 rfl) rfl
theorem dX0_cell_0 : decode cX0_cell 0 = .ok (.iload_n 1, 1) := by decide +kernel
theorem dX0_cell_1 : decode cX0_cell 1 = .ok (.aload_n 0, 1) := by decide +kernel
theorem dX0_cell_2 : decode cX0_cell 2 = .ok (.arraylength, 1) := by decide +kernel
theorem dX0_cell_3 : decode cX0_cell 3 = .ok (.if_icmp .ge 9, 3) := by decide +kernel
theorem dX0_cell_6 : decode cX0_cell 6 = .ok (.aload_n 0, 1) := by decide +kernel
theorem dX0_cell_7 : decode cX0_cell 7 = .ok (.iload_n 1, 1) := by decide +kernel
theorem dX0_cell_8 : decode cX0_cell 8 = .ok (.iaload, 1) := by decide +kernel
theorem dX0_cell_9 : decode cX0_cell 9 = .ok (.goto 4, 3) := by decide +kernel
theorem dX0_cell_12 : decode cX0_cell 12 = .ok (.iconst 0, 1) := by decide +kernel
theorem dX0_cell_13 : decode cX0_cell 13 = .ok (.ireturn, 1) := by decide +kernel
theorem dJ0_init_0 : decode cJ0_init 0 = .ok (.return_, 1) := by decide +kernel
end
section
set_option maxRecDepth 100000
theorem dX1_init_0 : decode cX1_init 0 = .ok (.aload_n 0, 1) := by decide +kernel
theorem dX1_init_1 : decode cX1_init 1 = .ok (.invokespecial 1, 3) := by decide +kernel
theorem dX1_init_4 : decode cX1_init 4 = .ok (.aload_n 0, 1) := by decide +kernel
theorem dX1_init_5 : decode cX1_init 5 = .ok (.bipush 12, 2) := by decide +kernel
theorem dX1_init_7 : decode cX1_init 7 = .ok (.newarray .byte, 2) := by decide +kernel
theorem dX1_init_9 : decode cX1_init 9 = .ok (.putfield 7, 3) := by decide +kernel
theorem dX1_init_12 : decode cX1_init 12 = .ok (.aload_n 0, 1) := by decide +kernel
theorem dX1_init_13 : decode cX1_init 13 = .ok (.bipush 12, 2) := by decide +kernel
theorem dX1_init_15 : decode cX1_init 15 = .ok (.newarray .byte, 2) := by decide +kernel
theorem dX1_init_17 : decode cX1_init 17 = .ok (.putfield 13, 3) := by decide +kernel
theorem dX1_init_20 : decode cX1_init 20 = .ok (.aload_n 0, 1) := by decide +kernel
theorem dX1_init_21 : decode cX1_init 21 = .ok (.bipush 12, 2) := by decide +kernel
theorem dX1_init_23 : decode cX1_init 23 = .ok (.newarray .byte, 2) := by decide +kernel
theorem dX1_init_25 : decode cX1_init 25 = .ok (.putfield 16, 3) := by decide +kernel
theorem dX1_init_28 : decode cX1_init 28 = .ok (.aload_n 0, 1) := by decide +kernel
theorem dX1_init_29 : decode cX1_init 29 = .ok (.bipush 12, 2) := by decide +kernel
theorem dX1_init_31 : decode cX1_init 31 = .ok (.newarray .byte, 2) := by decide +kernel
theorem dX1_init_33 : decode cX1_init 33 = .ok (.putfield 19, 3) := by decide +kernel
theorem dX1_init_36 : decode cX1_init 36 = .ok (.aload_n 0, 1) := by decide +kernel
theorem dX1_init_37 : decode cX1_init 37 = .ok (.bipush 6, 2) := by decide +kernel
theorem dX1_init_39 : decode cX1_init 39 = .ok (.newarray .byte, 2) := by decide +kernel
theorem dX1_init_41 : decode cX1_init 41 = .ok (.putfield 22, 3) := by decide +kernel
theorem dX1_init_44 : decode cX1_init 44 = .ok (.aload_n 0, 1) := by decide +kernel
theorem dX1_init_45 : decode cX1_init 45 = .ok (.bipush 6, 2) := by decide +kernel
theorem dX1_init_47 : decode cX1_init 47 = .ok (.newarray .byte, 2) := by decide +kernel
theorem dX1_init_49 : decode cX1_init 49 = .ok (.putfield 25, 3) := by decide +kernel
theorem dX1_init_52 : decode cX1_init 52 = .ok (.aload_n 0, 1) := by decide +kernel
theorem dX1_init_53 : decode cX1_init 53 = .ok (.bipush 8, 2) := by decide +kernel
theorem dX1_init_55 : decode cX1_init 55 = .ok (.newarray .byte, 2) := by decide +kernel
theorem dX1_init_57 : decode cX1_init 57 = .ok (.putfield 28, 3) := by decide +kernel
theorem dX1_init_60 : decode cX1_init 60 = .ok (.aload_n 0, 1) := by decide +kernel
theorem dX1_init_61 : decode cX1_init 61 = .ok (.iload_n 1, 1) := by decide +kernel
theorem dX1_init_62 : decode cX1_init 62 = .ok (.iconst 2, 1) := by decide +kernel
theorem dX1_init_63 : decode cX1_init 63 = .ok (.if_icmp .ge 7, 3) := by decide +kernel
theorem dX1_init_66 : decode cX1_init 66 = .ok (.iconst 2, 1) := by decide +kernel
theorem dX1_init_67 : decode cX1_init 67 = .ok (.goto 15, 3) := by decide +kernel
theorem dX1_init_70 : decode cX1_init 70 = .ok (.iload_n 1, 1) := by decide +kernel
theorem dX1_init_71 : decode cX1_init 71 = .ok (.bipush 6, 2) := by decide +kernel
theorem dX1_init_73 : decode cX1_init 73 = .ok (.if_icmp .le 8, 3) := by decide +kernel
theorem dX1_init_76 : decode cX1_init 76 = .ok (.bipush 6, 2) := by decide +kernel
theorem dX1_init_78 : decode cX1_init 78 = .ok (.goto 4, 3) := by decide +kernel
theorem dX1_init_81 : decode cX1_init 81 = .ok (.iload_n 1, 1) := by decide +kernel
theorem dX1_init_82 : decode cX1_init 82 = .ok (.putfield 31, 3) := by decide +kernel
theorem dX1_init_85 : decode cX1_init 85 = .ok (.return_, 1) := by decide +kernel
theorem dX1_add_0 : decode cX1_add 0 = .ok (.iload_n 1, 1) := by decide +kernel
theorem dX1_add_1 : decode cX1_add 1 = .ok (.iload_n 2, 1) := by decide +kernel
theorem dX1_add_2 : decode cX1_add 2 = .ok (.if_icmp .eq 19, 3) := by decide +kernel
theorem dX1_add_5 : decode cX1_add 5 = .ok (.aload_n 0, 1) := by decide +kernel
theorem dX1_add_6 : decode cX1_add 6 = .ok (.iload_n 1, 1) := by decide +kernel
theorem dX1_add_7 : decode cX1_add 7 = .ok (.invokevirtual 38, 3) := by decide +kernel
theorem dX1_add_10 : decode cX1_add 10 = .ok (.ifCond .eq 11, 3) := by decide +kernel
theorem dX1_add_13 : decode cX1_add 13 = .ok (.aload_n 0, 1) := by decide +kernel
theorem dX1_add_14 : decode cX1_add 14 = .ok (.iload_n 2, 1) := by decide +kernel
theorem dX1_add_15 : decode cX1_add 15 = .ok (.invokevirtual 38, 3) := by decide +kernel
theorem dX1_add_18 : decode cX1_add 18 = .ok (.ifCond .ne 5, 3) := by decide +kernel
theorem dX1_add_21 : decode cX1_add 21 = .ok (.iconst (-1), 1) := by decide +kernel
theorem dX1_add_22 : decode cX1_add 22 = .ok (.ireturn, 1) := by decide +kernel
theorem dX1_add_23 : decode cX1_add 23 = .ok (.iconst 0, 1) := by decide +kernel
theorem dX1_add_24 : decode cX1_add 24 = .ok (.istore_n 3, 1) := by decide +kernel
theorem dX1_add_25 : decode cX1_add 25 = .ok (.iload_n 3, 1) := by decide +kernel
theorem dX1_add_26 : decode cX1_add 26 = .ok (.bipush 12, 2) := by decide +kernel
theorem dX1_add_28 : decode cX1_add 28 = .ok (.if_icmp .ge 47, 3) := by decide +kernel
theorem dX1_add_31 : decode cX1_add 31 = .ok (.aload_n 0, 1) := by decide +kernel
theorem dX1_add_32 : decode cX1_add 32 = .ok (.iload_n 3, 1) := by decide +kernel
theorem dX1_add_33 : decode cX1_add 33 = .ok (.invokevirtual 42, 3) := by decide +kernel
theorem dX1_add_36 : decode cX1_add 36 = .ok (.ifCond .ne 33, 3) := by decide +kernel
theorem dX1_add_39 : decode cX1_add 39 = .ok (.aload_n 0, 1) := by decide +kernel
theorem dX1_add_40 : decode cX1_add 40 = .ok (.dup, 1) := by decide +kernel
theorem dX1_add_41 : decode cX1_add 41 = .ok (.getfield 35, 3) := by decide +kernel
theorem dX1_add_44 : decode cX1_add 44 = .ok (.iconst 1, 1) := by decide +kernel
theorem dX1_add_45 : decode cX1_add 45 = .ok (.iload_n 3, 1) := by decide +kernel
theorem dX1_add_46 : decode cX1_add 46 = .ok (.ishl, 1) := by decide +kernel
theorem dX1_add_47 : decode cX1_add 47 = .ok (.ior, 1) := by decide +kernel
theorem dX1_add_48 : decode cX1_add 48 = .ok (.putfield 35, 3) := by decide +kernel
theorem dX1_add_51 : decode cX1_add 51 = .ok (.aload_n 0, 1) := by decide +kernel
theorem dX1_add_52 : decode cX1_add 52 = .ok (.getfield 7, 3) := by decide +kernel
theorem dX1_add_55 : decode cX1_add 55 = .ok (.iload_n 3, 1) := by decide +kernel
theorem dX1_add_56 : decode cX1_add 56 = .ok (.iload_n 1, 1) := by decide +kernel
theorem dX1_add_57 : decode cX1_add 57 = .ok (.i2b, 1) := by decide +kernel
theorem dX1_add_58 : decode cX1_add 58 = .ok (.bastore, 1) := by decide +kernel
theorem dX1_add_59 : decode cX1_add 59 = .ok (.aload_n 0, 1) := by decide +kernel
theorem dX1_add_60 : decode cX1_add 60 = .ok (.getfield 13, 3) := by decide +kernel
theorem dX1_add_63 : decode cX1_add 63 = .ok (.iload_n 3, 1) := by decide +kernel
theorem dX1_add_64 : decode cX1_add 64 = .ok (.iload_n 2, 1) := by decide +kernel
theorem dX1_add_65 : decode cX1_add 65 = .ok (.i2b, 1) := by decide +kernel
theorem dX1_add_66 : decode cX1_add 66 = .ok (.bastore, 1) := by decide +kernel
theorem dX1_add_67 : decode cX1_add 67 = .ok (.iload_n 3, 1) := by decide +kernel
theorem dX1_add_68 : decode cX1_add 68 = .ok (.ireturn, 1) := by decide +kernel
theorem dX1_add_69 : decode cX1_add 69 = .ok (.iinc 3 1, 3) := by decide +kernel
theorem dX1_add_72 : decode cX1_add 72 = .ok (.goto (-47), 3) := by decide +kernel
theorem dX1_add_75 : decode cX1_add 75 = .ok (.bipush (-2), 2) := by decide +kernel
theorem dX1_add_77 : decode cX1_add 77 = .ok (.ireturn, 1) := by decide +kernel
theorem dX1_isJoint_0 : decode cX1_isJoint 0 = .ok (.iload_n 1, 1) := by decide +kernel
theorem dX1_isJoint_1 : decode cX1_isJoint 1 = .ok (.ifCond .lt 15, 3) := by decide +kernel
theorem dX1_isJoint_4 : decode cX1_isJoint 4 = .ok (.iload_n 1, 1) := by decide +kernel
theorem dX1_isJoint_5 : decode cX1_isJoint 5 = .ok (.aload_n 0, 1) := by decide +kernel
theorem dX1_isJoint_6 : decode cX1_isJoint 6 = .ok (.getfield 31, 3) := by decide +kernel
theorem dX1_isJoint_9 : decode cX1_isJoint 9 = .ok (.if_icmp .ge 7, 3) := by decide +kernel
theorem dX1_isJoint_12 : decode cX1_isJoint 12 = .ok (.iconst 1, 1) := by decide +kernel
theorem dX1_isJoint_13 : decode cX1_isJoint 13 = .ok (.goto 4, 3) := by decide +kernel
theorem dX1_isJoint_16 : decode cX1_isJoint 16 = .ok (.iconst 0, 1) := by decide +kernel
theorem dX1_isJoint_17 : decode cX1_isJoint 17 = .ok (.ireturn, 1) := by decide +kernel
theorem dX1_has_0 : decode cX1_has 0 = .ok (.iload_n 1, 1) := by decide +kernel
theorem dX1_has_1 : decode cX1_has 1 = .ok (.ifCond .lt 24, 3) := by decide +kernel
theorem dX1_has_4 : decode cX1_has 4 = .ok (.iload_n 1, 1) := by decide +kernel
theorem dX1_has_5 : decode cX1_has 5 = .ok (.bipush 12, 2) := by decide +kernel
theorem dX1_has_7 : decode cX1_has 7 = .ok (.if_icmp .ge 18, 3) := by decide +kernel
theorem dX1_has_10 : decode cX1_has 10 = .ok (.aload_n 0, 1) := by decide +kernel
theorem dX1_has_11 : decode cX1_has 11 = .ok (.getfield 35, 3) := by decide +kernel
theorem dX1_has_14 : decode cX1_has 14 = .ok (.iload_n 1, 1) := by decide +kernel
theorem dX1_has_15 : decode cX1_has 15 = .ok (.ishr, 1) := by decide +kernel
theorem dX1_has_16 : decode cX1_has 16 = .ok (.iconst 1, 1) := by decide +kernel
theorem dX1_has_17 : decode cX1_has 17 = .ok (.iand, 1) := by decide +kernel
theorem dX1_has_18 : decode cX1_has 18 = .ok (.ifCond .eq 7, 3) := by decide +kernel
theorem dX1_has_21 : decode cX1_has 21 = .ok (.iconst 1, 1) := by decide +kernel
theorem dX1_has_22 : decode cX1_has 22 = .ok (.goto 4, 3) := by decide +kernel
theorem dX1_has_25 : decode cX1_has 25 = .ok (.iconst 0, 1) := by decide +kernel
theorem dX1_has_26 : decode cX1_has 26 = .ok (.ireturn, 1) := by decide +kernel
theorem dX1_remove_0 : decode cX1_remove 0 = .ok (.aload_n 0, 1) := by decide +kernel
theorem dX1_remove_1 : decode cX1_remove 1 = .ok (.iload_n 1, 1) := by decide +kernel
theorem dX1_remove_2 : decode cX1_remove 2 = .ok (.invokevirtual 42, 3) := by decide +kernel
theorem dX1_remove_5 : decode cX1_remove 5 = .ok (.ifCond .ne 5, 3) := by decide +kernel
theorem dX1_remove_8 : decode cX1_remove 8 = .ok (.iconst 0, 1) := by decide +kernel
theorem dX1_remove_9 : decode cX1_remove 9 = .ok (.ireturn, 1) := by decide +kernel
theorem dX1_remove_10 : decode cX1_remove 10 = .ok (.aload_n 0, 1) := by decide +kernel
theorem dX1_remove_11 : decode cX1_remove 11 = .ok (.dup, 1) := by decide +kernel
theorem dX1_remove_12 : decode cX1_remove 12 = .ok (.getfield 35, 3) := by decide +kernel
theorem dX1_remove_15 : decode cX1_remove 15 = .ok (.iconst 1, 1) := by decide +kernel
theorem dX1_remove_16 : decode cX1_remove 16 = .ok (.iload_n 1, 1) := by decide +kernel
theorem dX1_remove_17 : decode cX1_remove 17 = .ok (.ishl, 1) := by decide +kernel
theorem dX1_remove_18 : decode cX1_remove 18 = .ok (.iconst (-1), 1) := by decide +kernel
theorem dX1_remove_19 : decode cX1_remove 19 = .ok (.ixor, 1) := by decide +kernel
theorem dX1_remove_20 : decode cX1_remove 20 = .ok (.iand, 1) := by decide +kernel
theorem dX1_remove_21 : decode cX1_remove 21 = .ok (.putfield 35, 3) := by decide +kernel
theorem dX1_remove_24 : decode cX1_remove 24 = .ok (.iconst 1, 1) := by decide +kernel
theorem dX1_remove_25 : decode cX1_remove 25 = .ok (.ireturn, 1) := by decide +kernel
theorem dX1_bars_0 : decode cX1_bars 0 = .ok (.aload_n 0, 1) := by decide +kernel
theorem dX1_bars_1 : decode cX1_bars 1 = .ok (.getfield 35, 3) := by decide +kernel
theorem dX1_bars_4 : decode cX1_bars 4 = .ok (.ireturn, 1) := by decide +kernel
theorem dX1_free_0 : decode cX1_free 0 = .ok (.aload_n 0, 1) := by decide +kernel
theorem dX1_free_1 : decode cX1_free 1 = .ok (.iload_n 1, 1) := by decide +kernel
theorem dX1_free_2 : decode cX1_free 2 = .ok (.aload_n 0, 1) := by decide +kernel
theorem dX1_free_3 : decode cX1_free 3 = .ok (.getfield 35, 3) := by decide +kernel
theorem dX1_free_6 : decode cX1_free 6 = .ok (.iand, 1) := by decide +kernel
theorem dX1_free_7 : decode cX1_free 7 = .ok (.invokevirtual 76, 3) := by decide +kernel
theorem dX1_free_10 : decode cX1_free 10 = .ok (.ireturn, 1) := by decide +kernel
theorem dX1_isFree_0 : decode cX1_isFree 0 = .ok (.aload_n 0, 1) := by decide +kernel
theorem dX1_isFree_1 : decode cX1_isFree 1 = .ok (.iload_n 1, 1) := by decide +kernel
theorem dX1_isFree_2 : decode cX1_isFree 2 = .ok (.invokevirtual 69, 3) := by decide +kernel
theorem dX1_isFree_5 : decode cX1_isFree 5 = .ok (.iload_n 1, 1) := by decide +kernel
theorem dX1_isFree_6 : decode cX1_isFree 6 = .ok (.if_icmp .ne 7, 3) := by decide +kernel
theorem dX1_isFree_9 : decode cX1_isFree 9 = .ok (.iconst 1, 1) := by decide +kernel
theorem dX1_isFree_10 : decode cX1_isFree 10 = .ok (.goto 4, 3) := by decide +kernel
theorem dX1_isFree_13 : decode cX1_isFree 13 = .ok (.iconst 0, 1) := by decide +kernel
theorem dX1_isFree_14 : decode cX1_isFree 14 = .ok (.ireturn, 1) := by decide +kernel
theorem dX1_play_0 : decode cX1_play 0 = .ok (.aload_n 0, 1) := by decide +kernel
theorem dX1_play_1 : decode cX1_play 1 = .ok (.invokevirtual 62, 3) := by decide +kernel
theorem dX1_play_4 : decode cX1_play 4 = .ok (.iconst 0, 1) := by decide +kernel
theorem dX1_play_5 : decode cX1_play 5 = .ok (.istore_n 2, 1) := by decide +kernel
theorem dX1_play_6 : decode cX1_play 6 = .ok (.iload_n 2, 1) := by decide +kernel
theorem dX1_play_7 : decode cX1_play 7 = .ok (.bipush 12, 2) := by decide +kernel
theorem dX1_play_9 : decode cX1_play 9 = .ok (.if_icmp .ge 22, 3) := by decide +kernel
theorem dX1_play_12 : decode cX1_play 12 = .ok (.iload_n 1, 1) := by decide +kernel
theorem dX1_play_13 : decode cX1_play 13 = .ok (.iload_n 2, 1) := by decide +kernel
theorem dX1_play_14 : decode cX1_play 14 = .ok (.ishr, 1) := by decide +kernel
theorem dX1_play_15 : decode cX1_play 15 = .ok (.iconst 1, 1) := by decide +kernel
theorem dX1_play_16 : decode cX1_play 16 = .ok (.iand, 1) := by decide +kernel
theorem dX1_play_17 : decode cX1_play 17 = .ok (.ifCond .eq 8, 3) := by decide +kernel
theorem dX1_play_20 : decode cX1_play 20 = .ok (.aload_n 0, 1) := by decide +kernel
theorem dX1_play_21 : decode cX1_play 21 = .ok (.iload_n 2, 1) := by decide +kernel
theorem dX1_play_22 : decode cX1_play 22 = .ok (.invokevirtual 65, 3) := by decide +kernel
theorem dX1_play_25 : decode cX1_play 25 = .ok (.iinc 2 1, 3) := by decide +kernel
theorem dX1_play_28 : decode cX1_play 28 = .ok (.goto (-22), 3) := by decide +kernel
theorem dX1_play_31 : decode cX1_play 31 = .ok (.aload_n 0, 1) := by decide +kernel
theorem dX1_play_32 : decode cX1_play 32 = .ok (.getfield 45, 3) := by decide +kernel
theorem dX1_play_35 : decode cX1_play 35 = .ok (.ireturn, 1) := by decide +kernel
theorem dX1_begin_0 : decode cX1_begin 0 = .ok (.aload_n 0, 1) := by decide +kernel
theorem dX1_begin_1 : decode cX1_begin 1 = .ok (.iconst 0, 1) := by decide +kernel
theorem dX1_begin_2 : decode cX1_begin 2 = .ok (.putfield 45, 3) := by decide +kernel
theorem dX1_begin_5 : decode cX1_begin 5 = .ok (.iconst 0, 1) := by decide +kernel
theorem dX1_begin_6 : decode cX1_begin 6 = .ok (.istore_n 1, 1) := by decide +kernel
theorem dX1_begin_7 : decode cX1_begin 7 = .ok (.iload_n 1, 1) := by decide +kernel
theorem dX1_begin_8 : decode cX1_begin 8 = .ok (.bipush 6, 2) := by decide +kernel
theorem dX1_begin_10 : decode cX1_begin 10 = .ok (.if_icmp .ge 16, 3) := by decide +kernel
theorem dX1_begin_13 : decode cX1_begin 13 = .ok (.aload_n 0, 1) := by decide +kernel
theorem dX1_begin_14 : decode cX1_begin 14 = .ok (.getfield 22, 3) := by decide +kernel
theorem dX1_begin_17 : decode cX1_begin 17 = .ok (.iload_n 1, 1) := by decide +kernel
theorem dX1_begin_18 : decode cX1_begin 18 = .ok (.iconst 2, 1) := by decide +kernel
theorem dX1_begin_19 : decode cX1_begin 19 = .ok (.bastore, 1) := by decide +kernel
theorem dX1_begin_20 : decode cX1_begin 20 = .ok (.iinc 1 1, 3) := by decide +kernel
theorem dX1_begin_23 : decode cX1_begin 23 = .ok (.goto (-16), 3) := by decide +kernel
theorem dX1_begin_26 : decode cX1_begin 26 = .ok (.return_, 1) := by decide +kernel
theorem dX1_offer_0 : decode cX1_offer 0 = .ok (.aload_n 0, 1) := by decide +kernel
theorem dX1_offer_1 : decode cX1_offer 1 = .ok (.aload_n 0, 1) := by decide +kernel
theorem dX1_offer_2 : decode cX1_offer 2 = .ok (.getfield 7, 3) := by decide +kernel
theorem dX1_offer_5 : decode cX1_offer 5 = .ok (.iload_n 1, 1) := by decide +kernel
theorem dX1_offer_6 : decode cX1_offer 6 = .ok (.baload, 1) := by decide +kernel
theorem dX1_offer_7 : decode cX1_offer 7 = .ok (.aload_n 0, 1) := by decide +kernel
theorem dX1_offer_8 : decode cX1_offer 8 = .ok (.getfield 13, 3) := by decide +kernel
theorem dX1_offer_11 : decode cX1_offer 11 = .ok (.iload_n 1, 1) := by decide +kernel
theorem dX1_offer_12 : decode cX1_offer 12 = .ok (.baload, 1) := by decide +kernel
theorem dX1_offer_13 : decode cX1_offer 13 = .ok (.invokevirtual 59, 3) := by decide +kernel
theorem dX1_offer_16 : decode cX1_offer 16 = .ok (.ifCond .eq 55, 3) := by decide +kernel
theorem dX1_offer_19 : decode cX1_offer 19 = .ok (.aload_n 0, 1) := by decide +kernel
theorem dX1_offer_20 : decode cX1_offer 20 = .ok (.dup, 1) := by decide +kernel
theorem dX1_offer_21 : decode cX1_offer 21 = .ok (.getfield 45, 3) := by decide +kernel
theorem dX1_offer_24 : decode cX1_offer 24 = .ok (.iconst 1, 1) := by decide +kernel
theorem dX1_offer_25 : decode cX1_offer 25 = .ok (.iload_n 1, 1) := by decide +kernel
theorem dX1_offer_26 : decode cX1_offer 26 = .ok (.ishl, 1) := by decide +kernel
theorem dX1_offer_27 : decode cX1_offer 27 = .ok (.ior, 1) := by decide +kernel
theorem dX1_offer_28 : decode cX1_offer 28 = .ok (.putfield 45, 3) := by decide +kernel
theorem dX1_offer_31 : decode cX1_offer 31 = .ok (.aload_n 0, 1) := by decide +kernel
theorem dX1_offer_32 : decode cX1_offer 32 = .ok (.getfield 16, 3) := by decide +kernel
theorem dX1_offer_35 : decode cX1_offer 35 = .ok (.iload_n 1, 1) := by decide +kernel
theorem dX1_offer_36 : decode cX1_offer 36 = .ok (.aload_n 0, 1) := by decide +kernel
theorem dX1_offer_37 : decode cX1_offer 37 = .ok (.getfield 7, 3) := by decide +kernel
theorem dX1_offer_40 : decode cX1_offer 40 = .ok (.iload_n 1, 1) := by decide +kernel
theorem dX1_offer_41 : decode cX1_offer 41 = .ok (.baload, 1) := by decide +kernel
theorem dX1_offer_42 : decode cX1_offer 42 = .ok (.bastore, 1) := by decide +kernel
theorem dX1_offer_43 : decode cX1_offer 43 = .ok (.aload_n 0, 1) := by decide +kernel
theorem dX1_offer_44 : decode cX1_offer 44 = .ok (.getfield 19, 3) := by decide +kernel
theorem dX1_offer_47 : decode cX1_offer 47 = .ok (.iload_n 1, 1) := by decide +kernel
theorem dX1_offer_48 : decode cX1_offer 48 = .ok (.aload_n 0, 1) := by decide +kernel
theorem dX1_offer_49 : decode cX1_offer 49 = .ok (.getfield 13, 3) := by decide +kernel
theorem dX1_offer_52 : decode cX1_offer 52 = .ok (.iload_n 1, 1) := by decide +kernel
theorem dX1_offer_53 : decode cX1_offer 53 = .ok (.baload, 1) := by decide +kernel
theorem dX1_offer_54 : decode cX1_offer 54 = .ok (.bastore, 1) := by decide +kernel
theorem dX1_offer_55 : decode cX1_offer 55 = .ok (.aload_n 0, 1) := by decide +kernel
theorem dX1_offer_56 : decode cX1_offer 56 = .ok (.getfield 22, 3) := by decide +kernel
theorem dX1_offer_59 : decode cX1_offer 59 = .ok (.aload_n 0, 1) := by decide +kernel
theorem dX1_offer_60 : decode cX1_offer 60 = .ok (.getfield 7, 3) := by decide +kernel
theorem dX1_offer_63 : decode cX1_offer 63 = .ok (.iload_n 1, 1) := by decide +kernel
theorem dX1_offer_64 : decode cX1_offer 64 = .ok (.baload, 1) := by decide +kernel
theorem dX1_offer_65 : decode cX1_offer 65 = .ok (.dup2, 1) := by decide +kernel
theorem dX1_offer_66 : decode cX1_offer 66 = .ok (.baload, 1) := by decide +kernel
theorem dX1_offer_67 : decode cX1_offer 67 = .ok (.iconst 1, 1) := by decide +kernel
theorem dX1_offer_68 : decode cX1_offer 68 = .ok (.isub, 1) := by decide +kernel
theorem dX1_offer_69 : decode cX1_offer 69 = .ok (.i2b, 1) := by decide +kernel
theorem dX1_offer_70 : decode cX1_offer 70 = .ok (.bastore, 1) := by decide +kernel
theorem dX1_offer_71 : decode cX1_offer 71 = .ok (.return_, 1) := by decide +kernel
theorem dX1_gather_0 : decode cX1_gather 0 = .ok (.iconst 0, 1) := by decide +kernel
theorem dX1_gather_1 : decode cX1_gather 1 = .ok (.istore_n 3, 1) := by decide +kernel
theorem dX1_gather_2 : decode cX1_gather 2 = .ok (.iload_n 3, 1) := by decide +kernel
theorem dX1_gather_3 : decode cX1_gather 3 = .ok (.iconst 4, 1) := by decide +kernel
theorem dX1_gather_4 : decode cX1_gather 4 = .ok (.if_icmp .ge 65, 3) := by decide +kernel
theorem dX1_gather_7 : decode cX1_gather 7 = .ok (.aload_n 0, 1) := by decide +kernel
theorem dX1_gather_8 : decode cX1_gather 8 = .ok (.getfield 22, 3) := by decide +kernel
theorem dX1_gather_11 : decode cX1_gather 11 = .ok (.iload_n 1, 1) := by decide +kernel
theorem dX1_gather_12 : decode cX1_gather 12 = .ok (.baload, 1) := by decide +kernel
theorem dX1_gather_13 : decode cX1_gather 13 = .ok (.iconst 2, 1) := by decide +kernel
theorem dX1_gather_14 : decode cX1_gather 14 = .ok (.if_icmp .ne 15, 3) := by decide +kernel
theorem dX1_gather_17 : decode cX1_gather 17 = .ok (.aload_n 0, 1) := by decide +kernel
theorem dX1_gather_18 : decode cX1_gather 18 = .ok (.getfield 22, 3) := by decide +kernel
theorem dX1_gather_21 : decode cX1_gather 21 = .ok (.iload_n 2, 1) := by decide +kernel
theorem dX1_gather_22 : decode cX1_gather 22 = .ok (.baload, 1) := by decide +kernel
theorem dX1_gather_23 : decode cX1_gather 23 = .ok (.iconst 2, 1) := by decide +kernel
theorem dX1_gather_24 : decode cX1_gather 24 = .ok (.if_icmp .ne 5, 3) := by decide +kernel
theorem dX1_gather_27 : decode cX1_gather 27 = .ok (.iconst 1, 1) := by decide +kernel
theorem dX1_gather_28 : decode cX1_gather 28 = .ok (.ireturn, 1) := by decide +kernel
theorem dX1_gather_29 : decode cX1_gather 29 = .ok (.aload_n 0, 1) := by decide +kernel
theorem dX1_gather_30 : decode cX1_gather 30 = .ok (.getfield 22, 3) := by decide +kernel
theorem dX1_gather_33 : decode cX1_gather 33 = .ok (.iload_n 1, 1) := by decide +kernel
theorem dX1_gather_34 : decode cX1_gather 34 = .ok (.baload, 1) := by decide +kernel
theorem dX1_gather_35 : decode cX1_gather 35 = .ok (.iconst 2, 1) := by decide +kernel
theorem dX1_gather_36 : decode cX1_gather 36 = .ok (.if_icmp .ge 12, 3) := by decide +kernel
theorem dX1_gather_39 : decode cX1_gather 39 = .ok (.aload_n 0, 1) := by decide +kernel
theorem dX1_gather_40 : decode cX1_gather 40 = .ok (.iload_n 1, 1) := by decide +kernel
theorem dX1_gather_41 : decode cX1_gather 41 = .ok (.iload_n 2, 1) := by decide +kernel
theorem dX1_gather_42 : decode cX1_gather 42 = .ok (.invokevirtual 55, 3) := by decide +kernel
theorem dX1_gather_45 : decode cX1_gather 45 = .ok (.goto 9, 3) := by decide +kernel
theorem dX1_gather_48 : decode cX1_gather 48 = .ok (.aload_n 0, 1) := by decide +kernel
theorem dX1_gather_49 : decode cX1_gather 49 = .ok (.iload_n 2, 1) := by decide +kernel
theorem dX1_gather_50 : decode cX1_gather 50 = .ok (.iload_n 1, 1) := by decide +kernel
theorem dX1_gather_51 : decode cX1_gather 51 = .ok (.invokevirtual 55, 3) := by decide +kernel
theorem dX1_gather_54 : decode cX1_gather 54 = .ok (.istore 4, 2) := by decide +kernel
theorem dX1_gather_56 : decode cX1_gather 56 = .ok (.iload 4, 2) := by decide +kernel
theorem dX1_gather_58 : decode cX1_gather 58 = .ok (.ifCond .ne 5, 3) := by decide +kernel
theorem dX1_gather_61 : decode cX1_gather 61 = .ok (.iconst 0, 1) := by decide +kernel
theorem dX1_gather_62 : decode cX1_gather 62 = .ok (.ireturn, 1) := by decide +kernel
theorem dX1_gather_63 : decode cX1_gather 63 = .ok (.iinc 3 1, 3) := by decide +kernel
theorem dX1_gather_66 : decode cX1_gather 66 = .ok (.goto (-64), 3) := by decide +kernel
theorem dX1_gather_69 : decode cX1_gather 69 = .ok (.aload_n 0, 1) := by decide +kernel
theorem dX1_gather_70 : decode cX1_gather 70 = .ok (.getfield 22, 3) := by decide +kernel
theorem dX1_gather_73 : decode cX1_gather 73 = .ok (.iload_n 1, 1) := by decide +kernel
theorem dX1_gather_74 : decode cX1_gather 74 = .ok (.baload, 1) := by decide +kernel
theorem dX1_gather_75 : decode cX1_gather 75 = .ok (.iconst 2, 1) := by decide +kernel
theorem dX1_gather_76 : decode cX1_gather 76 = .ok (.if_icmp .ne 17, 3) := by decide +kernel
theorem dX1_gather_79 : decode cX1_gather 79 = .ok (.aload_n 0, 1) := by decide +kernel
theorem dX1_gather_80 : decode cX1_gather 80 = .ok (.getfield 22, 3) := by decide +kernel
theorem dX1_gather_83 : decode cX1_gather 83 = .ok (.iload_n 2, 1) := by decide +kernel
theorem dX1_gather_84 : decode cX1_gather 84 = .ok (.baload, 1) := by decide +kernel
theorem dX1_gather_85 : decode cX1_gather 85 = .ok (.iconst 2, 1) := by decide +kernel
theorem dX1_gather_86 : decode cX1_gather 86 = .ok (.if_icmp .ne 7, 3) := by decide +kernel
theorem dX1_gather_89 : decode cX1_gather 89 = .ok (.iconst 1, 1) := by decide +kernel
theorem dX1_gather_90 : decode cX1_gather 90 = .ok (.goto 4, 3) := by decide +kernel
theorem dX1_gather_93 : decode cX1_gather 93 = .ok (.iconst 0, 1) := by decide +kernel
theorem dX1_gather_94 : decode cX1_gather 94 = .ok (.ireturn, 1) := by decide +kernel
theorem dX1_bring_0 : decode cX1_bring 0 = .ok (.aload_n 0, 1) := by decide +kernel
theorem dX1_bring_1 : decode cX1_bring 1 = .ok (.iconst 1, 1) := by decide +kernel
theorem dX1_bring_2 : decode cX1_bring 2 = .ok (.iload_n 1, 1) := by decide +kernel
theorem dX1_bring_3 : decode cX1_bring 3 = .ok (.ishl, 1) := by decide +kernel
theorem dX1_bring_4 : decode cX1_bring 4 = .ok (.putfield 48, 3) := by decide +kernel
theorem dX1_bring_7 : decode cX1_bring 7 = .ok (.aload_n 0, 1) := by decide +kernel
theorem dX1_bring_8 : decode cX1_bring 8 = .ok (.getfield 28, 3) := by decide +kernel
theorem dX1_bring_11 : decode cX1_bring 11 = .ok (.iconst 0, 1) := by decide +kernel
theorem dX1_bring_12 : decode cX1_bring 12 = .ok (.iload_n 1, 1) := by decide +kernel
theorem dX1_bring_13 : decode cX1_bring 13 = .ok (.i2b, 1) := by decide +kernel
theorem dX1_bring_14 : decode cX1_bring 14 = .ok (.bastore, 1) := by decide +kernel
theorem dX1_bring_15 : decode cX1_bring 15 = .ok (.iconst 1, 1) := by decide +kernel
theorem dX1_bring_16 : decode cX1_bring 16 = .ok (.istore_n 3, 1) := by decide +kernel
theorem dX1_bring_17 : decode cX1_bring 17 = .ok (.iconst 0, 1) := by decide +kernel
theorem dX1_bring_18 : decode cX1_bring 18 = .ok (.istore 4, 2) := by decide +kernel
theorem dX1_bring_20 : decode cX1_bring 20 = .ok (.iload 4, 2) := by decide +kernel
theorem dX1_bring_22 : decode cX1_bring 22 = .ok (.iload_n 3, 1) := by decide +kernel
theorem dX1_bring_23 : decode cX1_bring 23 = .ok (.if_icmp .ge 162, 3) := by decide +kernel
theorem dX1_bring_26 : decode cX1_bring 26 = .ok (.iload 4, 2) := by decide +kernel
theorem dX1_bring_28 : decode cX1_bring 28 = .ok (.bipush 6, 2) := by decide +kernel
theorem dX1_bring_30 : decode cX1_bring 30 = .ok (.if_icmp .ge 155, 3) := by decide +kernel
theorem dX1_bring_33 : decode cX1_bring 33 = .ok (.aload_n 0, 1) := by decide +kernel
theorem dX1_bring_34 : decode cX1_bring 34 = .ok (.getfield 28, 3) := by decide +kernel
theorem dX1_bring_37 : decode cX1_bring 37 = .ok (.iload 4, 2) := by decide +kernel
theorem dX1_bring_39 : decode cX1_bring 39 = .ok (.baload, 1) := by decide +kernel
theorem dX1_bring_40 : decode cX1_bring 40 = .ok (.istore 5, 2) := by decide +kernel
theorem dX1_bring_42 : decode cX1_bring 42 = .ok (.iload 5, 2) := by decide +kernel
theorem dX1_bring_44 : decode cX1_bring 44 = .ok (.iload_n 1, 1) := by decide +kernel
theorem dX1_bring_45 : decode cX1_bring 45 = .ok (.if_icmp .eq 28, 3) := by decide +kernel
theorem dX1_bring_48 : decode cX1_bring 48 = .ok (.iload 5, 2) := by decide +kernel
theorem dX1_bring_50 : decode cX1_bring 50 = .ok (.iload_n 2, 1) := by decide +kernel
theorem dX1_bring_51 : decode cX1_bring 51 = .ok (.if_icmp .eq 22, 3) := by decide +kernel
theorem dX1_bring_54 : decode cX1_bring 54 = .ok (.aload_n 0, 1) := by decide +kernel
theorem dX1_bring_55 : decode cX1_bring 55 = .ok (.getfield 22, 3) := by decide +kernel
theorem dX1_bring_58 : decode cX1_bring 58 = .ok (.iload 5, 2) := by decide +kernel
theorem dX1_bring_60 : decode cX1_bring 60 = .ok (.baload, 1) := by decide +kernel
theorem dX1_bring_61 : decode cX1_bring 61 = .ok (.ifCond .le 12, 3) := by decide +kernel
theorem dX1_bring_64 : decode cX1_bring 64 = .ok (.aload_n 0, 1) := by decide +kernel
theorem dX1_bring_65 : decode cX1_bring 65 = .ok (.iload_n 1, 1) := by decide +kernel
theorem dX1_bring_66 : decode cX1_bring 66 = .ok (.iload 5, 2) := by decide +kernel
theorem dX1_bring_68 : decode cX1_bring 68 = .ok (.invokevirtual 51, 3) := by decide +kernel
theorem dX1_bring_71 : decode cX1_bring 71 = .ok (.iconst 1, 1) := by decide +kernel
theorem dX1_bring_72 : decode cX1_bring 72 = .ok (.ireturn, 1) := by decide +kernel
theorem dX1_bring_73 : decode cX1_bring 73 = .ok (.iconst 0, 1) := by decide +kernel
theorem dX1_bring_74 : decode cX1_bring 74 = .ok (.istore 6, 2) := by decide +kernel
theorem dX1_bring_76 : decode cX1_bring 76 = .ok (.iload 6, 2) := by decide +kernel
theorem dX1_bring_78 : decode cX1_bring 78 = .ok (.bipush 12, 2) := by decide +kernel
theorem dX1_bring_80 : decode cX1_bring 80 = .ok (.if_icmp .ge 99, 3) := by decide +kernel
theorem dX1_bring_83 : decode cX1_bring 83 = .ok (.aload_n 0, 1) := by decide +kernel
theorem dX1_bring_84 : decode cX1_bring 84 = .ok (.getfield 45, 3) := by decide +kernel
theorem dX1_bring_87 : decode cX1_bring 87 = .ok (.iload 6, 2) := by decide +kernel
theorem dX1_bring_89 : decode cX1_bring 89 = .ok (.ishr, 1) := by decide +kernel
theorem dX1_bring_90 : decode cX1_bring 90 = .ok (.iconst 1, 1) := by decide +kernel
theorem dX1_bring_91 : decode cX1_bring 91 = .ok (.iand, 1) := by decide +kernel
theorem dX1_bring_92 : decode cX1_bring 92 = .ok (.ifCond .eq 81, 3) := by decide +kernel
theorem dX1_bring_95 : decode cX1_bring 95 = .ok (.aload_n 0, 1) := by decide +kernel
theorem dX1_bring_96 : decode cX1_bring 96 = .ok (.getfield 16, 3) := by decide +kernel
theorem dX1_bring_99 : decode cX1_bring 99 = .ok (.iload 6, 2) := by decide +kernel
theorem dX1_bring_101 : decode cX1_bring 101 = .ok (.baload, 1) := by decide +kernel
theorem dX1_bring_102 : decode cX1_bring 102 = .ok (.iload 5, 2) := by decide +kernel
theorem dX1_bring_104 : decode cX1_bring 104 = .ok (.if_icmp .ne 69, 3) := by decide +kernel
theorem dX1_bring_107 : decode cX1_bring 107 = .ok (.aload_n 0, 1) := by decide +kernel
theorem dX1_bring_108 : decode cX1_bring 108 = .ok (.getfield 48, 3) := by decide +kernel
theorem dX1_bring_111 : decode cX1_bring 111 = .ok (.aload_n 0, 1) := by decide +kernel
theorem dX1_bring_112 : decode cX1_bring 112 = .ok (.getfield 19, 3) := by decide +kernel
theorem dX1_bring_115 : decode cX1_bring 115 = .ok (.iload 6, 2) := by decide +kernel
theorem dX1_bring_117 : decode cX1_bring 117 = .ok (.baload, 1) := by decide +kernel
theorem dX1_bring_118 : decode cX1_bring 118 = .ok (.ishr, 1) := by decide +kernel
theorem dX1_bring_119 : decode cX1_bring 119 = .ok (.iconst 1, 1) := by decide +kernel
theorem dX1_bring_120 : decode cX1_bring 120 = .ok (.iand, 1) := by decide +kernel
theorem dX1_bring_121 : decode cX1_bring 121 = .ok (.ifCond .ne 52, 3) := by decide +kernel
theorem dX1_bring_124 : decode cX1_bring 124 = .ok (.aload_n 0, 1) := by decide +kernel
theorem dX1_bring_125 : decode cX1_bring 125 = .ok (.dup, 1) := by decide +kernel
theorem dX1_bring_126 : decode cX1_bring 126 = .ok (.getfield 48, 3) := by decide +kernel
theorem dX1_bring_129 : decode cX1_bring 129 = .ok (.iconst 1, 1) := by decide +kernel
theorem dX1_bring_130 : decode cX1_bring 130 = .ok (.aload_n 0, 1) := by decide +kernel
theorem dX1_bring_131 : decode cX1_bring 131 = .ok (.getfield 19, 3) := by decide +kernel
theorem dX1_bring_134 : decode cX1_bring 134 = .ok (.iload 6, 2) := by decide +kernel
theorem dX1_bring_136 : decode cX1_bring 136 = .ok (.baload, 1) := by decide +kernel
theorem dX1_bring_137 : decode cX1_bring 137 = .ok (.ishl, 1) := by decide +kernel
theorem dX1_bring_138 : decode cX1_bring 138 = .ok (.ior, 1) := by decide +kernel
theorem dX1_bring_139 : decode cX1_bring 139 = .ok (.putfield 48, 3) := by decide +kernel
theorem dX1_bring_142 : decode cX1_bring 142 = .ok (.aload_n 0, 1) := by decide +kernel
theorem dX1_bring_143 : decode cX1_bring 143 = .ok (.getfield 25, 3) := by decide +kernel
end
section
set_option maxRecDepth 100000
theorem dX1_bring_146 : decode cX1_bring 146 = .ok (.aload_n 0, 1) := by decide +kernel
theorem dX1_bring_147 : decode cX1_bring 147 = .ok (.getfield 19, 3) := by decide +kernel
theorem dX1_bring_150 : decode cX1_bring 150 = .ok (.iload 6, 2) := by decide +kernel
theorem dX1_bring_152 : decode cX1_bring 152 = .ok (.baload, 1) := by decide +kernel
theorem dX1_bring_153 : decode cX1_bring 153 = .ok (.iload 6, 2) := by decide +kernel
theorem dX1_bring_155 : decode cX1_bring 155 = .ok (.i2b, 1) := by decide +kernel
theorem dX1_bring_156 : decode cX1_bring 156 = .ok (.bastore, 1) := by decide +kernel
theorem dX1_bring_157 : decode cX1_bring 157 = .ok (.aload_n 0, 1) := by decide +kernel
theorem dX1_bring_158 : decode cX1_bring 158 = .ok (.getfield 28, 3) := by decide +kernel
theorem dX1_bring_161 : decode cX1_bring 161 = .ok (.iload_n 3, 1) := by decide +kernel
theorem dX1_bring_162 : decode cX1_bring 162 = .ok (.aload_n 0, 1) := by decide +kernel
theorem dX1_bring_163 : decode cX1_bring 163 = .ok (.getfield 19, 3) := by decide +kernel
theorem dX1_bring_166 : decode cX1_bring 166 = .ok (.iload 6, 2) := by decide +kernel
theorem dX1_bring_168 : decode cX1_bring 168 = .ok (.baload, 1) := by decide +kernel
theorem dX1_bring_169 : decode cX1_bring 169 = .ok (.bastore, 1) := by decide +kernel
theorem dX1_bring_170 : decode cX1_bring 170 = .ok (.iinc 3 1, 3) := by decide +kernel
theorem dX1_bring_173 : decode cX1_bring 173 = .ok (.iinc 6 1, 3) := by decide +kernel
theorem dX1_bring_176 : decode cX1_bring 176 = .ok (.goto (-100), 3) := by decide +kernel
theorem dX1_bring_179 : decode cX1_bring 179 = .ok (.iinc 4 1, 3) := by decide +kernel
theorem dX1_bring_182 : decode cX1_bring 182 = .ok (.goto (-162), 3) := by decide +kernel
theorem dX1_bring_185 : decode cX1_bring 185 = .ok (.iconst 0, 1) := by decide +kernel
theorem dX1_bring_186 : decode cX1_bring 186 = .ok (.ireturn, 1) := by decide +kernel
theorem dX1_turnBack_0 : decode cX1_turnBack 0 = .ok (.aload_n 0, 1) := by decide +kernel
theorem dX1_turnBack_1 : decode cX1_turnBack 1 = .ok (.getfield 22, 3) := by decide +kernel
theorem dX1_turnBack_4 : decode cX1_turnBack 4 = .ok (.iload_n 2, 1) := by decide +kernel
theorem dX1_turnBack_5 : decode cX1_turnBack 5 = .ok (.dup2, 1) := by decide +kernel
theorem dX1_turnBack_6 : decode cX1_turnBack 6 = .ok (.baload, 1) := by decide +kernel
theorem dX1_turnBack_7 : decode cX1_turnBack 7 = .ok (.iconst 1, 1) := by decide +kernel
theorem dX1_turnBack_8 : decode cX1_turnBack 8 = .ok (.isub, 1) := by decide +kernel
theorem dX1_turnBack_9 : decode cX1_turnBack 9 = .ok (.i2b, 1) := by decide +kernel
theorem dX1_turnBack_10 : decode cX1_turnBack 10 = .ok (.bastore, 1) := by decide +kernel
theorem dX1_turnBack_11 : decode cX1_turnBack 11 = .ok (.iload_n 2, 1) := by decide +kernel
theorem dX1_turnBack_12 : decode cX1_turnBack 12 = .ok (.istore_n 3, 1) := by decide +kernel
theorem dX1_turnBack_13 : decode cX1_turnBack 13 = .ok (.iconst 0, 1) := by decide +kernel
theorem dX1_turnBack_14 : decode cX1_turnBack 14 = .ok (.istore 4, 2) := by decide +kernel
theorem dX1_turnBack_16 : decode cX1_turnBack 16 = .ok (.iload 4, 2) := by decide +kernel
theorem dX1_turnBack_18 : decode cX1_turnBack 18 = .ok (.bipush 6, 2) := by decide +kernel
theorem dX1_turnBack_20 : decode cX1_turnBack 20 = .ok (.if_icmp .ge 58, 3) := by decide +kernel
theorem dX1_turnBack_23 : decode cX1_turnBack 23 = .ok (.iload_n 3, 1) := by decide +kernel
theorem dX1_turnBack_24 : decode cX1_turnBack 24 = .ok (.iload_n 1, 1) := by decide +kernel
theorem dX1_turnBack_25 : decode cX1_turnBack 25 = .ok (.if_icmp .eq 53, 3) := by decide +kernel
theorem dX1_turnBack_28 : decode cX1_turnBack 28 = .ok (.aload_n 0, 1) := by decide +kernel
theorem dX1_turnBack_29 : decode cX1_turnBack 29 = .ok (.getfield 25, 3) := by decide +kernel
theorem dX1_turnBack_32 : decode cX1_turnBack 32 = .ok (.iload_n 3, 1) := by decide +kernel
theorem dX1_turnBack_33 : decode cX1_turnBack 33 = .ok (.baload, 1) := by decide +kernel
theorem dX1_turnBack_34 : decode cX1_turnBack 34 = .ok (.istore 5, 2) := by decide +kernel
theorem dX1_turnBack_36 : decode cX1_turnBack 36 = .ok (.aload_n 0, 1) := by decide +kernel
theorem dX1_turnBack_37 : decode cX1_turnBack 37 = .ok (.getfield 16, 3) := by decide +kernel
theorem dX1_turnBack_40 : decode cX1_turnBack 40 = .ok (.iload 5, 2) := by decide +kernel
theorem dX1_turnBack_42 : decode cX1_turnBack 42 = .ok (.baload, 1) := by decide +kernel
theorem dX1_turnBack_43 : decode cX1_turnBack 43 = .ok (.istore 6, 2) := by decide +kernel
theorem dX1_turnBack_45 : decode cX1_turnBack 45 = .ok (.aload_n 0, 1) := by decide +kernel
theorem dX1_turnBack_46 : decode cX1_turnBack 46 = .ok (.getfield 16, 3) := by decide +kernel
theorem dX1_turnBack_49 : decode cX1_turnBack 49 = .ok (.iload 5, 2) := by decide +kernel
theorem dX1_turnBack_51 : decode cX1_turnBack 51 = .ok (.aload_n 0, 1) := by decide +kernel
theorem dX1_turnBack_52 : decode cX1_turnBack 52 = .ok (.getfield 19, 3) := by decide +kernel
theorem dX1_turnBack_55 : decode cX1_turnBack 55 = .ok (.iload 5, 2) := by decide +kernel
theorem dX1_turnBack_57 : decode cX1_turnBack 57 = .ok (.baload, 1) := by decide +kernel
theorem dX1_turnBack_58 : decode cX1_turnBack 58 = .ok (.bastore, 1) := by decide +kernel
theorem dX1_turnBack_59 : decode cX1_turnBack 59 = .ok (.aload_n 0, 1) := by decide +kernel
theorem dX1_turnBack_60 : decode cX1_turnBack 60 = .ok (.getfield 19, 3) := by decide +kernel
theorem dX1_turnBack_63 : decode cX1_turnBack 63 = .ok (.iload 5, 2) := by decide +kernel
theorem dX1_turnBack_65 : decode cX1_turnBack 65 = .ok (.iload 6, 2) := by decide +kernel
theorem dX1_turnBack_67 : decode cX1_turnBack 67 = .ok (.i2b, 1) := by decide +kernel
theorem dX1_turnBack_68 : decode cX1_turnBack 68 = .ok (.bastore, 1) := by decide +kernel
theorem dX1_turnBack_69 : decode cX1_turnBack 69 = .ok (.iload 6, 2) := by decide +kernel
theorem dX1_turnBack_71 : decode cX1_turnBack 71 = .ok (.istore_n 3, 1) := by decide +kernel
theorem dX1_turnBack_72 : decode cX1_turnBack 72 = .ok (.iinc 4 1, 3) := by decide +kernel
theorem dX1_turnBack_75 : decode cX1_turnBack 75 = .ok (.goto (-59), 3) := by decide +kernel
theorem dX1_turnBack_78 : decode cX1_turnBack 78 = .ok (.aload_n 0, 1) := by decide +kernel
theorem dX1_turnBack_79 : decode cX1_turnBack 79 = .ok (.getfield 22, 3) := by decide +kernel
theorem dX1_turnBack_82 : decode cX1_turnBack 82 = .ok (.iload_n 1, 1) := by decide +kernel
theorem dX1_turnBack_83 : decode cX1_turnBack 83 = .ok (.dup2, 1) := by decide +kernel
theorem dX1_turnBack_84 : decode cX1_turnBack 84 = .ok (.baload, 1) := by decide +kernel
theorem dX1_turnBack_85 : decode cX1_turnBack 85 = .ok (.iconst 1, 1) := by decide +kernel
theorem dX1_turnBack_86 : decode cX1_turnBack 86 = .ok (.iadd, 1) := by decide +kernel
theorem dX1_turnBack_87 : decode cX1_turnBack 87 = .ok (.i2b, 1) := by decide +kernel
theorem dX1_turnBack_88 : decode cX1_turnBack 88 = .ok (.bastore, 1) := by decide +kernel
theorem dX1_turnBack_89 : decode cX1_turnBack 89 = .ok (.return_, 1) := by decide +kernel
theorem dX1_rank_0 : decode cX1_rank 0 = .ok (.aload_n 0, 1) := by decide +kernel
theorem dX1_rank_1 : decode cX1_rank 1 = .ok (.iload_n 1, 1) := by decide +kernel
theorem dX1_rank_2 : decode cX1_rank 2 = .ok (.aload_n 0, 1) := by decide +kernel
theorem dX1_rank_3 : decode cX1_rank 3 = .ok (.getfield 35, 3) := by decide +kernel
theorem dX1_rank_6 : decode cX1_rank 6 = .ok (.iand, 1) := by decide +kernel
theorem dX1_rank_7 : decode cX1_rank 7 = .ok (.invokevirtual 79, 3) := by decide +kernel
theorem dX1_rank_10 : decode cX1_rank 10 = .ok (.ireturn, 1) := by decide +kernel
theorem dX1_rankOf_0 : decode cX1_rankOf 0 = .ok (.aload_n 0, 1) := by decide +kernel
theorem dX1_rankOf_1 : decode cX1_rankOf 1 = .ok (.iload_n 1, 1) := by decide +kernel
theorem dX1_rankOf_2 : decode cX1_rankOf 2 = .ok (.invokevirtual 69, 3) := by decide +kernel
theorem dX1_rankOf_5 : decode cX1_rankOf 5 = .ok (.istore_n 2, 1) := by decide +kernel
theorem dX1_rankOf_6 : decode cX1_rankOf 6 = .ok (.iload_n 2, 1) := by decide +kernel
theorem dX1_rankOf_7 : decode cX1_rankOf 7 = .ok (.invokestatic 73, 3) := by decide +kernel
theorem dX1_rankOf_10 : decode cX1_rankOf 10 = .ok (.ireturn, 1) := by decide +kernel
theorem dX1_ones_0 : decode cX1_ones 0 = .ok (.iconst 0, 1) := by decide +kernel
theorem dX1_ones_1 : decode cX1_ones 1 = .ok (.istore_n 1, 1) := by decide +kernel
theorem dX1_ones_2 : decode cX1_ones 2 = .ok (.iconst 0, 1) := by decide +kernel
theorem dX1_ones_3 : decode cX1_ones 3 = .ok (.istore_n 2, 1) := by decide +kernel
theorem dX1_ones_4 : decode cX1_ones 4 = .ok (.iload_n 2, 1) := by decide +kernel
theorem dX1_ones_5 : decode cX1_ones 5 = .ok (.bipush 12, 2) := by decide +kernel
theorem dX1_ones_7 : decode cX1_ones 7 = .ok (.if_icmp .ge 17, 3) := by decide +kernel
theorem dX1_ones_10 : decode cX1_ones 10 = .ok (.iload_n 1, 1) := by decide +kernel
theorem dX1_ones_11 : decode cX1_ones 11 = .ok (.iload_n 0, 1) := by decide +kernel
theorem dX1_ones_12 : decode cX1_ones 12 = .ok (.iload_n 2, 1) := by decide +kernel
theorem dX1_ones_13 : decode cX1_ones 13 = .ok (.ishr, 1) := by decide +kernel
theorem dX1_ones_14 : decode cX1_ones 14 = .ok (.iconst 1, 1) := by decide +kernel
theorem dX1_ones_15 : decode cX1_ones 15 = .ok (.iand, 1) := by decide +kernel
theorem dX1_ones_16 : decode cX1_ones 16 = .ok (.iadd, 1) := by decide +kernel
theorem dX1_ones_17 : decode cX1_ones 17 = .ok (.istore_n 1, 1) := by decide +kernel
theorem dX1_ones_18 : decode cX1_ones 18 = .ok (.iinc 2 1, 3) := by decide +kernel
theorem dX1_ones_21 : decode cX1_ones 21 = .ok (.goto (-17), 3) := by decide +kernel
theorem dX1_ones_24 : decode cX1_ones 24 = .ok (.iload_n 1, 1) := by decide +kernel
theorem dX1_ones_25 : decode cX1_ones 25 = .ok (.ireturn, 1) := by decide +kernel
theorem dX1_frame_0 : decode cX1_frame 0 = .ok (.aload_n 0, 1) := by decide +kernel
theorem dX1_frame_1 : decode cX1_frame 1 = .ok (.aload_n 0, 1) := by decide +kernel
theorem dX1_frame_2 : decode cX1_frame 2 = .ok (.getfield 35, 3) := by decide +kernel
theorem dX1_frame_5 : decode cX1_frame 5 = .ok (.invokevirtual 69, 3) := by decide +kernel
theorem dX1_frame_8 : decode cX1_frame 8 = .ok (.ireturn, 1) := by decide +kernel
theorem dX1_rigid_0 : decode cX1_rigid 0 = .ok (.aload_n 0, 1) := by decide +kernel
theorem dX1_rigid_1 : decode cX1_rigid 1 = .ok (.invokevirtual 82, 3) := by decide +kernel
theorem dX1_rigid_4 : decode cX1_rigid 4 = .ok (.ifCond .ne 7, 3) := by decide +kernel
theorem dX1_rigid_7 : decode cX1_rigid 7 = .ok (.iconst 1, 1) := by decide +kernel
theorem dX1_rigid_8 : decode cX1_rigid 8 = .ok (.goto 4, 3) := by decide +kernel
theorem dX1_rigid_11 : decode cX1_rigid 11 = .ok (.iconst 0, 1) := by decide +kernel
theorem dX1_rigid_12 : decode cX1_rigid 12 = .ok (.ireturn, 1) := by decide +kernel
theorem dX1_freedom_0 : decode cX1_freedom 0 = .ok (.iconst 2, 1) := by decide +kernel
theorem dX1_freedom_1 : decode cX1_freedom 1 = .ok (.aload_n 0, 1) := by decide +kernel
theorem dX1_freedom_2 : decode cX1_freedom 2 = .ok (.getfield 31, 3) := by decide +kernel
theorem dX1_freedom_5 : decode cX1_freedom 5 = .ok (.imul, 1) := by decide +kernel
theorem dX1_freedom_6 : decode cX1_freedom 6 = .ok (.iconst 3, 1) := by decide +kernel
theorem dX1_freedom_7 : decode cX1_freedom 7 = .ok (.isub, 1) := by decide +kernel
theorem dX1_freedom_8 : decode cX1_freedom 8 = .ok (.aload_n 0, 1) := by decide +kernel
theorem dX1_freedom_9 : decode cX1_freedom 9 = .ok (.aload_n 0, 1) := by decide +kernel
theorem dX1_freedom_10 : decode cX1_freedom 10 = .ok (.getfield 35, 3) := by decide +kernel
theorem dX1_freedom_13 : decode cX1_freedom 13 = .ok (.invokevirtual 79, 3) := by decide +kernel
theorem dX1_freedom_16 : decode cX1_freedom 16 = .ok (.isub, 1) := by decide +kernel
theorem dX1_freedom_17 : decode cX1_freedom 17 = .ok (.ireturn, 1) := by decide +kernel
theorem dX1_held_0 : decode cX1_held 0 = .ok (.iload_n 1, 1) := by decide +kernel
theorem dX1_held_1 : decode cX1_held 1 = .ok (.iload_n 2, 1) := by decide +kernel
theorem dX1_held_2 : decode cX1_held 2 = .ok (.if_icmp .eq 19, 3) := by decide +kernel
theorem dX1_held_5 : decode cX1_held 5 = .ok (.aload_n 0, 1) := by decide +kernel
theorem dX1_held_6 : decode cX1_held 6 = .ok (.iload_n 1, 1) := by decide +kernel
theorem dX1_held_7 : decode cX1_held 7 = .ok (.invokevirtual 38, 3) := by decide +kernel
theorem dX1_held_10 : decode cX1_held 10 = .ok (.ifCond .eq 11, 3) := by decide +kernel
theorem dX1_held_13 : decode cX1_held 13 = .ok (.aload_n 0, 1) := by decide +kernel
theorem dX1_held_14 : decode cX1_held 14 = .ok (.iload_n 2, 1) := by decide +kernel
theorem dX1_held_15 : decode cX1_held 15 = .ok (.invokevirtual 38, 3) := by decide +kernel
theorem dX1_held_18 : decode cX1_held 18 = .ok (.ifCond .ne 5, 3) := by decide +kernel
theorem dX1_held_21 : decode cX1_held 21 = .ok (.iconst 0, 1) := by decide +kernel
theorem dX1_held_22 : decode cX1_held 22 = .ok (.ireturn, 1) := by decide +kernel
theorem dX1_held_23 : decode cX1_held 23 = .ok (.aload_n 0, 1) := by decide +kernel
theorem dX1_held_24 : decode cX1_held 24 = .ok (.aload_n 0, 1) := by decide +kernel
theorem dX1_held_25 : decode cX1_held 25 = .ok (.getfield 35, 3) := by decide +kernel
theorem dX1_held_28 : decode cX1_held 28 = .ok (.invokevirtual 69, 3) := by decide +kernel
theorem dX1_held_31 : decode cX1_held 31 = .ok (.pop, 1) := by decide +kernel
theorem dX1_held_32 : decode cX1_held 32 = .ok (.aload_n 0, 1) := by decide +kernel
theorem dX1_held_33 : decode cX1_held 33 = .ok (.iload_n 1, 1) := by decide +kernel
theorem dX1_held_34 : decode cX1_held 34 = .ok (.iload_n 2, 1) := by decide +kernel
theorem dX1_held_35 : decode cX1_held 35 = .ok (.invokevirtual 59, 3) := by decide +kernel
theorem dX1_held_38 : decode cX1_held 38 = .ok (.ifCond .ne 7, 3) := by decide +kernel
theorem dX1_held_41 : decode cX1_held 41 = .ok (.iconst 1, 1) := by decide +kernel
theorem dX1_held_42 : decode cX1_held 42 = .ok (.goto 4, 3) := by decide +kernel
theorem dX1_held_45 : decode cX1_held 45 = .ok (.iconst 0, 1) := by decide +kernel
theorem dX1_held_46 : decode cX1_held 46 = .ok (.ireturn, 1) := by decide +kernel
theorem dX1_redundant_0 : decode cX1_redundant 0 = .ok (.aload_n 0, 1) := by decide +kernel
theorem dX1_redundant_1 : decode cX1_redundant 1 = .ok (.iload_n 1, 1) := by decide +kernel
theorem dX1_redundant_2 : decode cX1_redundant 2 = .ok (.invokevirtual 42, 3) := by decide +kernel
theorem dX1_redundant_5 : decode cX1_redundant 5 = .ok (.ifCond .ne 5, 3) := by decide +kernel
theorem dX1_redundant_8 : decode cX1_redundant 8 = .ok (.iconst 0, 1) := by decide +kernel
theorem dX1_redundant_9 : decode cX1_redundant 9 = .ok (.ireturn, 1) := by decide +kernel
theorem dX1_redundant_10 : decode cX1_redundant 10 = .ok (.aload_n 0, 1) := by decide +kernel
theorem dX1_redundant_11 : decode cX1_redundant 11 = .ok (.aload_n 0, 1) := by decide +kernel
theorem dX1_redundant_12 : decode cX1_redundant 12 = .ok (.getfield 35, 3) := by decide +kernel
theorem dX1_redundant_15 : decode cX1_redundant 15 = .ok (.invokevirtual 79, 3) := by decide +kernel
theorem dX1_redundant_18 : decode cX1_redundant 18 = .ok (.istore_n 2, 1) := by decide +kernel
theorem dX1_redundant_19 : decode cX1_redundant 19 = .ok (.aload_n 0, 1) := by decide +kernel
theorem dX1_redundant_20 : decode cX1_redundant 20 = .ok (.aload_n 0, 1) := by decide +kernel
theorem dX1_redundant_21 : decode cX1_redundant 21 = .ok (.getfield 35, 3) := by decide +kernel
theorem dX1_redundant_24 : decode cX1_redundant 24 = .ok (.iconst 1, 1) := by decide +kernel
theorem dX1_redundant_25 : decode cX1_redundant 25 = .ok (.iload_n 1, 1) := by decide +kernel
theorem dX1_redundant_26 : decode cX1_redundant 26 = .ok (.ishl, 1) := by decide +kernel
theorem dX1_redundant_27 : decode cX1_redundant 27 = .ok (.iconst (-1), 1) := by decide +kernel
theorem dX1_redundant_28 : decode cX1_redundant 28 = .ok (.ixor, 1) := by decide +kernel
theorem dX1_redundant_29 : decode cX1_redundant 29 = .ok (.iand, 1) := by decide +kernel
theorem dX1_redundant_30 : decode cX1_redundant 30 = .ok (.invokevirtual 79, 3) := by decide +kernel
theorem dX1_redundant_33 : decode cX1_redundant 33 = .ok (.iload_n 2, 1) := by decide +kernel
theorem dX1_redundant_34 : decode cX1_redundant 34 = .ok (.if_icmp .ne 7, 3) := by decide +kernel
theorem dX1_redundant_37 : decode cX1_redundant 37 = .ok (.iconst 1, 1) := by decide +kernel
theorem dX1_redundant_38 : decode cX1_redundant 38 = .ok (.goto 4, 3) := by decide +kernel
theorem dX1_redundant_41 : decode cX1_redundant 41 = .ok (.iconst 0, 1) := by decide +kernel
theorem dX1_redundant_42 : decode cX1_redundant 42 = .ok (.ireturn, 1) := by decide +kernel
theorem dX1_ring_0 : decode cX1_ring 0 = .ok (.aload_n 0, 1) := by decide +kernel
theorem dX1_ring_1 : decode cX1_ring 1 = .ok (.invokevirtual 86, 3) := by decide +kernel
theorem dX1_ring_4 : decode cX1_ring 4 = .ok (.istore_n 2, 1) := by decide +kernel
theorem dX1_ring_5 : decode cX1_ring 5 = .ok (.aload_n 0, 1) := by decide +kernel
theorem dX1_ring_6 : decode cX1_ring 6 = .ok (.iload_n 1, 1) := by decide +kernel
theorem dX1_ring_7 : decode cX1_ring 7 = .ok (.invokevirtual 42, 3) := by decide +kernel
theorem dX1_ring_10 : decode cX1_ring 10 = .ok (.ifCond .eq 11, 3) := by decide +kernel
theorem dX1_ring_13 : decode cX1_ring 13 = .ok (.iload_n 2, 1) := by decide +kernel
theorem dX1_ring_14 : decode cX1_ring 14 = .ok (.iload_n 1, 1) := by decide +kernel
theorem dX1_ring_15 : decode cX1_ring 15 = .ok (.ishr, 1) := by decide +kernel
theorem dX1_ring_16 : decode cX1_ring 16 = .ok (.iconst 1, 1) := by decide +kernel
theorem dX1_ring_17 : decode cX1_ring 17 = .ok (.iand, 1) := by decide +kernel
theorem dX1_ring_18 : decode cX1_ring 18 = .ok (.ifCond .eq 5, 3) := by decide +kernel
theorem dX1_ring_21 : decode cX1_ring 21 = .ok (.iconst 0, 1) := by decide +kernel
theorem dX1_ring_22 : decode cX1_ring 22 = .ok (.ireturn, 1) := by decide +kernel
theorem dX1_ring_23 : decode cX1_ring 23 = .ok (.iconst 1, 1) := by decide +kernel
theorem dX1_ring_24 : decode cX1_ring 24 = .ok (.iload_n 1, 1) := by decide +kernel
theorem dX1_ring_25 : decode cX1_ring 25 = .ok (.ishl, 1) := by decide +kernel
theorem dX1_ring_26 : decode cX1_ring 26 = .ok (.istore_n 3, 1) := by decide +kernel
theorem dX1_ring_27 : decode cX1_ring 27 = .ok (.iconst 0, 1) := by decide +kernel
theorem dX1_ring_28 : decode cX1_ring 28 = .ok (.istore 4, 2) := by decide +kernel
theorem dX1_ring_30 : decode cX1_ring 30 = .ok (.iload 4, 2) := by decide +kernel
theorem dX1_ring_32 : decode cX1_ring 32 = .ok (.bipush 12, 2) := by decide +kernel
theorem dX1_ring_34 : decode cX1_ring 34 = .ok (.if_icmp .ge 44, 3) := by decide +kernel
theorem dX1_ring_37 : decode cX1_ring 37 = .ok (.iload_n 2, 1) := by decide +kernel
theorem dX1_ring_38 : decode cX1_ring 38 = .ok (.iload 4, 2) := by decide +kernel
theorem dX1_ring_40 : decode cX1_ring 40 = .ok (.ishr, 1) := by decide +kernel
theorem dX1_ring_41 : decode cX1_ring 41 = .ok (.iconst 1, 1) := by decide +kernel
theorem dX1_ring_42 : decode cX1_ring 42 = .ok (.iand, 1) := by decide +kernel
theorem dX1_ring_43 : decode cX1_ring 43 = .ok (.ifCond .eq 29, 3) := by decide +kernel
theorem dX1_ring_46 : decode cX1_ring 46 = .ok (.aload_n 0, 1) := by decide +kernel
theorem dX1_ring_47 : decode cX1_ring 47 = .ok (.iload_n 2, 1) := by decide +kernel
theorem dX1_ring_48 : decode cX1_ring 48 = .ok (.iconst 1, 1) := by decide +kernel
theorem dX1_ring_49 : decode cX1_ring 49 = .ok (.iload 4, 2) := by decide +kernel
theorem dX1_ring_51 : decode cX1_ring 51 = .ok (.ishl, 1) := by decide +kernel
theorem dX1_ring_52 : decode cX1_ring 52 = .ok (.iconst (-1), 1) := by decide +kernel
theorem dX1_ring_53 : decode cX1_ring 53 = .ok (.ixor, 1) := by decide +kernel
theorem dX1_ring_54 : decode cX1_ring 54 = .ok (.iand, 1) := by decide +kernel
theorem dX1_ring_55 : decode cX1_ring 55 = .ok (.iconst 1, 1) := by decide +kernel
theorem dX1_ring_56 : decode cX1_ring 56 = .ok (.iload_n 1, 1) := by decide +kernel
theorem dX1_ring_57 : decode cX1_ring 57 = .ok (.ishl, 1) := by decide +kernel
theorem dX1_ring_58 : decode cX1_ring 58 = .ok (.ior, 1) := by decide +kernel
theorem dX1_ring_59 : decode cX1_ring 59 = .ok (.invokevirtual 76, 3) := by decide +kernel
theorem dX1_ring_62 : decode cX1_ring 62 = .ok (.ifCond .eq 10, 3) := by decide +kernel
theorem dX1_ring_65 : decode cX1_ring 65 = .ok (.iload_n 3, 1) := by decide +kernel
theorem dX1_ring_66 : decode cX1_ring 66 = .ok (.iconst 1, 1) := by decide +kernel
theorem dX1_ring_67 : decode cX1_ring 67 = .ok (.iload 4, 2) := by decide +kernel
theorem dX1_ring_69 : decode cX1_ring 69 = .ok (.ishl, 1) := by decide +kernel
theorem dX1_ring_70 : decode cX1_ring 70 = .ok (.ior, 1) := by decide +kernel
theorem dX1_ring_71 : decode cX1_ring 71 = .ok (.istore_n 3, 1) := by decide +kernel
theorem dX1_ring_72 : decode cX1_ring 72 = .ok (.iinc 4 1, 3) := by decide +kernel
theorem dX1_ring_75 : decode cX1_ring 75 = .ok (.goto (-45), 3) := by decide +kernel
theorem dX1_ring_78 : decode cX1_ring 78 = .ok (.iload_n 3, 1) := by decide +kernel
theorem dX1_ring_79 : decode cX1_ring 79 = .ok (.ireturn, 1) := by decide +kernel
theorem dX1_heldTo_0 : decode cX1_heldTo 0 = .ok (.aload_n 0, 1) := by decide +kernel
theorem dX1_heldTo_1 : decode cX1_heldTo 1 = .ok (.iload_n 1, 1) := by decide +kernel
theorem dX1_heldTo_2 : decode cX1_heldTo 2 = .ok (.invokevirtual 38, 3) := by decide +kernel
theorem dX1_heldTo_5 : decode cX1_heldTo 5 = .ok (.ifCond .ne 5, 3) := by decide +kernel
theorem dX1_heldTo_8 : decode cX1_heldTo 8 = .ok (.iconst 0, 1) := by decide +kernel
theorem dX1_heldTo_9 : decode cX1_heldTo 9 = .ok (.ireturn, 1) := by decide +kernel
theorem dX1_heldTo_10 : decode cX1_heldTo 10 = .ok (.iconst 1, 1) := by decide +kernel
theorem dX1_heldTo_11 : decode cX1_heldTo 11 = .ok (.iload_n 1, 1) := by decide +kernel
theorem dX1_heldTo_12 : decode cX1_heldTo 12 = .ok (.ishl, 1) := by decide +kernel
theorem dX1_heldTo_13 : decode cX1_heldTo 13 = .ok (.istore_n 2, 1) := by decide +kernel
theorem dX1_heldTo_14 : decode cX1_heldTo 14 = .ok (.iconst 0, 1) := by decide +kernel
theorem dX1_heldTo_15 : decode cX1_heldTo 15 = .ok (.istore_n 3, 1) := by decide +kernel
theorem dX1_heldTo_16 : decode cX1_heldTo 16 = .ok (.iload_n 3, 1) := by decide +kernel
theorem dX1_heldTo_17 : decode cX1_heldTo 17 = .ok (.aload_n 0, 1) := by decide +kernel
theorem dX1_heldTo_18 : decode cX1_heldTo 18 = .ok (.getfield 31, 3) := by decide +kernel
theorem dX1_heldTo_21 : decode cX1_heldTo 21 = .ok (.if_icmp .ge 28, 3) := by decide +kernel
theorem dX1_heldTo_24 : decode cX1_heldTo 24 = .ok (.iload_n 2, 1) := by decide +kernel
theorem dX1_heldTo_25 : decode cX1_heldTo 25 = .ok (.aload_n 0, 1) := by decide +kernel
theorem dX1_heldTo_26 : decode cX1_heldTo 26 = .ok (.iload_n 1, 1) := by decide +kernel
theorem dX1_heldTo_27 : decode cX1_heldTo 27 = .ok (.iload_n 3, 1) := by decide +kernel
theorem dX1_heldTo_28 : decode cX1_heldTo 28 = .ok (.invokevirtual 89, 3) := by decide +kernel
theorem dX1_heldTo_31 : decode cX1_heldTo 31 = .ok (.ifCond .eq 9, 3) := by decide +kernel
theorem dX1_heldTo_34 : decode cX1_heldTo 34 = .ok (.iconst 1, 1) := by decide +kernel
theorem dX1_heldTo_35 : decode cX1_heldTo 35 = .ok (.iload_n 3, 1) := by decide +kernel
theorem dX1_heldTo_36 : decode cX1_heldTo 36 = .ok (.ishl, 1) := by decide +kernel
theorem dX1_heldTo_37 : decode cX1_heldTo 37 = .ok (.goto 4, 3) := by decide +kernel
theorem dX1_heldTo_40 : decode cX1_heldTo 40 = .ok (.iconst 0, 1) := by decide +kernel
theorem dX1_heldTo_41 : decode cX1_heldTo 41 = .ok (.ior, 1) := by decide +kernel
theorem dX1_heldTo_42 : decode cX1_heldTo 42 = .ok (.istore_n 2, 1) := by decide +kernel
theorem dX1_heldTo_43 : decode cX1_heldTo 43 = .ok (.iinc 3 1, 3) := by decide +kernel
theorem dX1_heldTo_46 : decode cX1_heldTo 46 = .ok (.goto (-30), 3) := by decide +kernel
theorem dX1_heldTo_49 : decode cX1_heldTo 49 = .ok (.iload_n 2, 1) := by decide +kernel
theorem dX1_heldTo_50 : decode cX1_heldTo 50 = .ok (.ireturn, 1) := by decide +kernel
theorem dX1_bodies_0 : decode cX1_bodies 0 = .ok (.iconst 0, 1) := by decide +kernel
theorem dX1_bodies_1 : decode cX1_bodies 1 = .ok (.istore_n 1, 1) := by decide +kernel
theorem dX1_bodies_2 : decode cX1_bodies 2 = .ok (.iconst 0, 1) := by decide +kernel
theorem dX1_bodies_3 : decode cX1_bodies 3 = .ok (.istore_n 2, 1) := by decide +kernel
theorem dX1_bodies_4 : decode cX1_bodies 4 = .ok (.iload_n 2, 1) := by decide +kernel
theorem dX1_bodies_5 : decode cX1_bodies 5 = .ok (.aload_n 0, 1) := by decide +kernel
theorem dX1_bodies_6 : decode cX1_bodies 6 = .ok (.getfield 31, 3) := by decide +kernel
theorem dX1_bodies_9 : decode cX1_bodies 9 = .ok (.if_icmp .ge 77, 3) := by decide +kernel
theorem dX1_bodies_12 : decode cX1_bodies 12 = .ok (.aload_n 0, 1) := by decide +kernel
theorem dX1_bodies_13 : decode cX1_bodies 13 = .ok (.iload_n 2, 1) := by decide +kernel
theorem dX1_bodies_14 : decode cX1_bodies 14 = .ok (.invokevirtual 92, 3) := by decide +kernel
theorem dX1_bodies_17 : decode cX1_bodies 17 = .ok (.istore_n 3, 1) := by decide +kernel
theorem dX1_bodies_18 : decode cX1_bodies 18 = .ok (.iload_n 2, 1) := by decide +kernel
theorem dX1_bodies_19 : decode cX1_bodies 19 = .ok (.iconst 1, 1) := by decide +kernel
theorem dX1_bodies_20 : decode cX1_bodies 20 = .ok (.iadd, 1) := by decide +kernel
theorem dX1_bodies_21 : decode cX1_bodies 21 = .ok (.istore 4, 2) := by decide +kernel
theorem dX1_bodies_23 : decode cX1_bodies 23 = .ok (.iload 4, 2) := by decide +kernel
theorem dX1_bodies_25 : decode cX1_bodies 25 = .ok (.aload_n 0, 1) := by decide +kernel
theorem dX1_bodies_26 : decode cX1_bodies 26 = .ok (.getfield 31, 3) := by decide +kernel
theorem dX1_bodies_29 : decode cX1_bodies 29 = .ok (.if_icmp .ge 51, 3) := by decide +kernel
theorem dX1_bodies_32 : decode cX1_bodies 32 = .ok (.iload_n 3, 1) := by decide +kernel
theorem dX1_bodies_33 : decode cX1_bodies 33 = .ok (.iload 4, 2) := by decide +kernel
theorem dX1_bodies_35 : decode cX1_bodies 35 = .ok (.ishr, 1) := by decide +kernel
theorem dX1_bodies_36 : decode cX1_bodies 36 = .ok (.iconst 1, 1) := by decide +kernel
theorem dX1_bodies_37 : decode cX1_bodies 37 = .ok (.iand, 1) := by decide +kernel
theorem dX1_bodies_38 : decode cX1_bodies 38 = .ok (.ifCond .eq 14, 3) := by decide +kernel
theorem dX1_bodies_41 : decode cX1_bodies 41 = .ok (.iload_n 3, 1) := by decide +kernel
theorem dX1_bodies_42 : decode cX1_bodies 42 = .ok (.aload_n 0, 1) := by decide +kernel
theorem dX1_bodies_43 : decode cX1_bodies 43 = .ok (.iload 4, 2) := by decide +kernel
theorem dX1_bodies_45 : decode cX1_bodies 45 = .ok (.invokevirtual 92, 3) := by decide +kernel
theorem dX1_bodies_48 : decode cX1_bodies 48 = .ok (.iand, 1) := by decide +kernel
theorem dX1_bodies_49 : decode cX1_bodies 49 = .ok (.goto 4, 3) := by decide +kernel
theorem dX1_bodies_52 : decode cX1_bodies 52 = .ok (.iconst 0, 1) := by decide +kernel
theorem dX1_bodies_53 : decode cX1_bodies 53 = .ok (.istore 5, 2) := by decide +kernel
theorem dX1_bodies_55 : decode cX1_bodies 55 = .ok (.iload_n 1, 1) := by decide +kernel
theorem dX1_bodies_56 : decode cX1_bodies 56 = .ok (.iload 5, 2) := by decide +kernel
theorem dX1_bodies_58 : decode cX1_bodies 58 = .ok (.iload_n 2, 1) := by decide +kernel
theorem dX1_bodies_59 : decode cX1_bodies 59 = .ok (.iload 4, 2) := by decide +kernel
theorem dX1_bodies_61 : decode cX1_bodies 61 = .ok (.invokestatic 95, 3) := by decide +kernel
theorem dX1_bodies_64 : decode cX1_bodies 64 = .ok (.ifCond .eq 7, 3) := by decide +kernel
theorem dX1_bodies_67 : decode cX1_bodies 67 = .ok (.iconst 1, 1) := by decide +kernel
theorem dX1_bodies_68 : decode cX1_bodies 68 = .ok (.goto 4, 3) := by decide +kernel
theorem dX1_bodies_71 : decode cX1_bodies 71 = .ok (.iconst 0, 1) := by decide +kernel
theorem dX1_bodies_72 : decode cX1_bodies 72 = .ok (.iadd, 1) := by decide +kernel
theorem dX1_bodies_73 : decode cX1_bodies 73 = .ok (.istore_n 1, 1) := by decide +kernel
theorem dX1_bodies_74 : decode cX1_bodies 74 = .ok (.iinc 4 1, 3) := by decide +kernel
theorem dX1_bodies_77 : decode cX1_bodies 77 = .ok (.goto (-54), 3) := by decide +kernel
theorem dX1_bodies_80 : decode cX1_bodies 80 = .ok (.iinc 2 1, 3) := by decide +kernel
theorem dX1_bodies_83 : decode cX1_bodies 83 = .ok (.goto (-79), 3) := by decide +kernel
theorem dX1_bodies_86 : decode cX1_bodies 86 = .ok (.iload_n 1, 1) := by decide +kernel
theorem dX1_bodies_87 : decode cX1_bodies 87 = .ok (.ireturn, 1) := by decide +kernel
theorem dX1_leads_0 : decode cX1_leads 0 = .ok (.iload_n 0, 1) := by decide +kernel
theorem dX1_leads_1 : decode cX1_leads 1 = .ok (.iconst 1, 1) := by decide +kernel
theorem dX1_leads_2 : decode cX1_leads 2 = .ok (.iload_n 2, 1) := by decide +kernel
theorem dX1_leads_3 : decode cX1_leads 3 = .ok (.ishl, 1) := by decide +kernel
theorem dX1_leads_4 : decode cX1_leads 4 = .ok (.iconst 1, 1) := by decide +kernel
theorem dX1_leads_5 : decode cX1_leads 5 = .ok (.isub, 1) := by decide +kernel
theorem dX1_leads_6 : decode cX1_leads 6 = .ok (.iand, 1) := by decide +kernel
theorem dX1_leads_7 : decode cX1_leads 7 = .ok (.istore_n 3, 1) := by decide +kernel
theorem dX1_leads_8 : decode cX1_leads 8 = .ok (.iload_n 3, 1) := by decide +kernel
theorem dX1_leads_9 : decode cX1_leads 9 = .ok (.iconst 1, 1) := by decide +kernel
theorem dX1_leads_10 : decode cX1_leads 10 = .ok (.iload_n 1, 1) := by decide +kernel
theorem dX1_leads_11 : decode cX1_leads 11 = .ok (.ishl, 1) := by decide +kernel
theorem dX1_leads_12 : decode cX1_leads 12 = .ok (.if_icmp .ne 21, 3) := by decide +kernel
theorem dX1_leads_15 : decode cX1_leads 15 = .ok (.iload_n 0, 1) := by decide +kernel
theorem dX1_leads_16 : decode cX1_leads 16 = .ok (.iload_n 3, 1) := by decide +kernel
theorem dX1_leads_17 : decode cX1_leads 17 = .ok (.iconst (-1), 1) := by decide +kernel
theorem dX1_leads_18 : decode cX1_leads 18 = .ok (.ixor, 1) := by decide +kernel
theorem dX1_leads_19 : decode cX1_leads 19 = .ok (.iand, 1) := by decide +kernel
theorem dX1_leads_20 : decode cX1_leads 20 = .ok (.iconst 1, 1) := by decide +kernel
theorem dX1_leads_21 : decode cX1_leads 21 = .ok (.iload_n 2, 1) := by decide +kernel
theorem dX1_leads_22 : decode cX1_leads 22 = .ok (.ishl, 1) := by decide +kernel
theorem dX1_leads_23 : decode cX1_leads 23 = .ok (.iconst (-1), 1) := by decide +kernel
theorem dX1_leads_24 : decode cX1_leads 24 = .ok (.ixor, 1) := by decide +kernel
theorem dX1_leads_25 : decode cX1_leads 25 = .ok (.iand, 1) := by decide +kernel
theorem dX1_leads_26 : decode cX1_leads 26 = .ok (.ifCond .eq 7, 3) := by decide +kernel
theorem dX1_leads_29 : decode cX1_leads 29 = .ok (.iconst 1, 1) := by decide +kernel
theorem dX1_leads_30 : decode cX1_leads 30 = .ok (.goto 4, 3) := by decide +kernel
theorem dX1_leads_33 : decode cX1_leads 33 = .ok (.iconst 0, 1) := by decide +kernel
theorem dX1_leads_34 : decode cX1_leads 34 = .ok (.ireturn, 1) := by decide +kernel
theorem dX1_doublyHeld_0 : decode cX1_doublyHeld 0 = .ok (.aload_n 0, 1) := by decide +kernel
theorem dX1_doublyHeld_1 : decode cX1_doublyHeld 1 = .ok (.invokevirtual 99, 3) := by decide +kernel
theorem dX1_doublyHeld_4 : decode cX1_doublyHeld 4 = .ok (.ifCond .ne 5, 3) := by decide +kernel
theorem dX1_doublyHeld_7 : decode cX1_doublyHeld 7 = .ok (.iconst 0, 1) := by decide +kernel
theorem dX1_doublyHeld_8 : decode cX1_doublyHeld 8 = .ok (.ireturn, 1) := by decide +kernel
theorem dX1_doublyHeld_9 : decode cX1_doublyHeld 9 = .ok (.iconst 0, 1) := by decide +kernel
theorem dX1_doublyHeld_10 : decode cX1_doublyHeld 10 = .ok (.istore_n 1, 1) := by decide +kernel
theorem dX1_doublyHeld_11 : decode cX1_doublyHeld 11 = .ok (.iload_n 1, 1) := by decide +kernel
theorem dX1_doublyHeld_12 : decode cX1_doublyHeld 12 = .ok (.bipush 12, 2) := by decide +kernel
theorem dX1_doublyHeld_14 : decode cX1_doublyHeld 14 = .ok (.if_icmp .ge 27, 3) := by decide +kernel
theorem dX1_doublyHeld_17 : decode cX1_doublyHeld 17 = .ok (.aload_n 0, 1) := by decide +kernel
theorem dX1_doublyHeld_18 : decode cX1_doublyHeld 18 = .ok (.iload_n 1, 1) := by decide +kernel
theorem dX1_doublyHeld_19 : decode cX1_doublyHeld 19 = .ok (.invokevirtual 42, 3) := by decide +kernel
theorem dX1_doublyHeld_22 : decode cX1_doublyHeld 22 = .ok (.ifCond .eq 13, 3) := by decide +kernel
theorem dX1_doublyHeld_25 : decode cX1_doublyHeld 25 = .ok (.aload_n 0, 1) := by decide +kernel
theorem dX1_doublyHeld_26 : decode cX1_doublyHeld 26 = .ok (.iload_n 1, 1) := by decide +kernel
theorem dX1_doublyHeld_27 : decode cX1_doublyHeld 27 = .ok (.invokevirtual 103, 3) := by decide +kernel
theorem dX1_doublyHeld_30 : decode cX1_doublyHeld 30 = .ok (.ifCond .ne 5, 3) := by decide +kernel
theorem dX1_doublyHeld_33 : decode cX1_doublyHeld 33 = .ok (.iconst 0, 1) := by decide +kernel
theorem dX1_doublyHeld_34 : decode cX1_doublyHeld 34 = .ok (.ireturn, 1) := by decide +kernel
theorem dX1_doublyHeld_35 : decode cX1_doublyHeld 35 = .ok (.iinc 1 1, 3) := by decide +kernel
theorem dX1_doublyHeld_38 : decode cX1_doublyHeld 38 = .ok (.goto (-27), 3) := by decide +kernel
theorem dX1_doublyHeld_41 : decode cX1_doublyHeld 41 = .ok (.iconst 1, 1) := by decide +kernel
theorem dX1_doublyHeld_42 : decode cX1_doublyHeld 42 = .ok (.ireturn, 1) := by decide +kernel
end
section
set_option maxRecDepth 100000
theorem dX2_init_0 : decode cX2_init 0 = .ok (.aload_n 0, 1) := by decide +kernel
theorem dX2_init_1 : decode cX2_init 1 = .ok (.invokespecial 1, 3) := by decide +kernel
theorem dX2_init_4 : decode cX2_init 4 = .ok (.aload_n 0, 1) := by decide +kernel
theorem dX2_init_5 : decode cX2_init 5 = .ok (.bipush 13, 2) := by decide +kernel
theorem dX2_init_7 : decode cX2_init 7 = .ok (.newarray .boolean, 2) := by decide +kernel
theorem dX2_init_9 : decode cX2_init 9 = .ok (.putfield 7, 3) := by decide +kernel
theorem dX2_init_12 : decode cX2_init 12 = .ok (.aload_n 0, 1) := by decide +kernel
theorem dX2_init_13 : decode cX2_init 13 = .ok (.bipush 13, 2) := by decide +kernel
theorem dX2_init_15 : decode cX2_init 15 = .ok (.newarray .int, 2) := by decide +kernel
theorem dX2_init_17 : decode cX2_init 17 = .ok (.putfield 13, 3) := by decide +kernel
theorem dX2_init_20 : decode cX2_init 20 = .ok (.aload_n 0, 1) := by decide +kernel
theorem dX2_init_21 : decode cX2_init 21 = .ok (.bipush 13, 2) := by decide +kernel
theorem dX2_init_23 : decode cX2_init 23 = .ok (.newarray .int, 2) := by decide +kernel
theorem dX2_init_25 : decode cX2_init 25 = .ok (.putfield 17, 3) := by decide +kernel
theorem dX2_init_28 : decode cX2_init 28 = .ok (.aload_n 0, 1) := by decide +kernel
theorem dX2_init_29 : decode cX2_init 29 = .ok (.iload_n 1, 1) := by decide +kernel
theorem dX2_init_30 : decode cX2_init 30 = .ok (.iconst 2, 1) := by decide +kernel
theorem dX2_init_31 : decode cX2_init 31 = .ok (.if_icmp .ge 7, 3) := by decide +kernel
theorem dX2_init_34 : decode cX2_init 34 = .ok (.iconst 2, 1) := by decide +kernel
theorem dX2_init_35 : decode cX2_init 35 = .ok (.goto 15, 3) := by decide +kernel
theorem dX2_init_38 : decode cX2_init 38 = .ok (.iload_n 1, 1) := by decide +kernel
theorem dX2_init_39 : decode cX2_init 39 = .ok (.bipush 6, 2) := by decide +kernel
theorem dX2_init_41 : decode cX2_init 41 = .ok (.if_icmp .le 8, 3) := by decide +kernel
theorem dX2_init_44 : decode cX2_init 44 = .ok (.bipush 6, 2) := by decide +kernel
theorem dX2_init_46 : decode cX2_init 46 = .ok (.goto 4, 3) := by decide +kernel
theorem dX2_init_49 : decode cX2_init 49 = .ok (.iload_n 1, 1) := by decide +kernel
theorem dX2_init_50 : decode cX2_init 50 = .ok (.putfield 20, 3) := by decide +kernel
theorem dX2_init_53 : decode cX2_init 53 = .ok (.return_, 1) := by decide +kernel
theorem dX2_add_0 : decode cX2_add 0 = .ok (.iload_n 1, 1) := by decide +kernel
theorem dX2_add_1 : decode cX2_add 1 = .ok (.iload_n 2, 1) := by decide +kernel
theorem dX2_add_2 : decode cX2_add 2 = .ok (.if_icmp .eq 19, 3) := by decide +kernel
theorem dX2_add_5 : decode cX2_add 5 = .ok (.aload_n 0, 1) := by decide +kernel
theorem dX2_add_6 : decode cX2_add 6 = .ok (.iload_n 1, 1) := by decide +kernel
theorem dX2_add_7 : decode cX2_add 7 = .ok (.invokevirtual 24, 3) := by decide +kernel
theorem dX2_add_10 : decode cX2_add 10 = .ok (.ifCond .eq 11, 3) := by decide +kernel
theorem dX2_add_13 : decode cX2_add 13 = .ok (.aload_n 0, 1) := by decide +kernel
theorem dX2_add_14 : decode cX2_add 14 = .ok (.iload_n 2, 1) := by decide +kernel
theorem dX2_add_15 : decode cX2_add 15 = .ok (.invokevirtual 24, 3) := by decide +kernel
theorem dX2_add_18 : decode cX2_add 18 = .ok (.ifCond .ne 5, 3) := by decide +kernel
theorem dX2_add_21 : decode cX2_add 21 = .ok (.iconst (-1), 1) := by decide +kernel
theorem dX2_add_22 : decode cX2_add 22 = .ok (.ireturn, 1) := by decide +kernel
theorem dX2_add_23 : decode cX2_add 23 = .ok (.iconst 0, 1) := by decide +kernel
theorem dX2_add_24 : decode cX2_add 24 = .ok (.istore_n 3, 1) := by decide +kernel
theorem dX2_add_25 : decode cX2_add 25 = .ok (.iload_n 3, 1) := by decide +kernel
theorem dX2_add_26 : decode cX2_add 26 = .ok (.bipush 12, 2) := by decide +kernel
theorem dX2_add_28 : decode cX2_add 28 = .ok (.if_icmp .ge 41, 3) := by decide +kernel
theorem dX2_add_31 : decode cX2_add 31 = .ok (.aload_n 0, 1) := by decide +kernel
theorem dX2_add_32 : decode cX2_add 32 = .ok (.getfield 7, 3) := by decide +kernel
theorem dX2_add_35 : decode cX2_add 35 = .ok (.iload_n 3, 1) := by decide +kernel
theorem dX2_add_36 : decode cX2_add 36 = .ok (.baload, 1) := by decide +kernel
theorem dX2_add_37 : decode cX2_add 37 = .ok (.ifCond .ne 26, 3) := by decide +kernel
theorem dX2_add_40 : decode cX2_add 40 = .ok (.aload_n 0, 1) := by decide +kernel
theorem dX2_add_41 : decode cX2_add 41 = .ok (.getfield 7, 3) := by decide +kernel
theorem dX2_add_44 : decode cX2_add 44 = .ok (.iload_n 3, 1) := by decide +kernel
theorem dX2_add_45 : decode cX2_add 45 = .ok (.iconst 1, 1) := by decide +kernel
theorem dX2_add_46 : decode cX2_add 46 = .ok (.bastore, 1) := by decide +kernel
theorem dX2_add_47 : decode cX2_add 47 = .ok (.aload_n 0, 1) := by decide +kernel
theorem dX2_add_48 : decode cX2_add 48 = .ok (.getfield 13, 3) := by decide +kernel
theorem dX2_add_51 : decode cX2_add 51 = .ok (.iload_n 3, 1) := by decide +kernel
theorem dX2_add_52 : decode cX2_add 52 = .ok (.iload_n 1, 1) := by decide +kernel
theorem dX2_add_53 : decode cX2_add 53 = .ok (.iastore, 1) := by decide +kernel
theorem dX2_add_54 : decode cX2_add 54 = .ok (.aload_n 0, 1) := by decide +kernel
theorem dX2_add_55 : decode cX2_add 55 = .ok (.getfield 17, 3) := by decide +kernel
theorem dX2_add_58 : decode cX2_add 58 = .ok (.iload_n 3, 1) := by decide +kernel
theorem dX2_add_59 : decode cX2_add 59 = .ok (.iload_n 2, 1) := by decide +kernel
theorem dX2_add_60 : decode cX2_add 60 = .ok (.iastore, 1) := by decide +kernel
theorem dX2_add_61 : decode cX2_add 61 = .ok (.iload_n 3, 1) := by decide +kernel
theorem dX2_add_62 : decode cX2_add 62 = .ok (.ireturn, 1) := by decide +kernel
theorem dX2_add_63 : decode cX2_add 63 = .ok (.iinc 3 1, 3) := by decide +kernel
theorem dX2_add_66 : decode cX2_add 66 = .ok (.goto (-41), 3) := by decide +kernel
theorem dX2_add_69 : decode cX2_add 69 = .ok (.bipush (-2), 2) := by decide +kernel
theorem dX2_add_71 : decode cX2_add 71 = .ok (.ireturn, 1) := by decide +kernel
theorem dX2_joint_0 : decode cX2_joint 0 = .ok (.iload_n 1, 1) := by decide +kernel
theorem dX2_joint_1 : decode cX2_joint 1 = .ok (.ifCond .lt 15, 3) := by decide +kernel
theorem dX2_joint_4 : decode cX2_joint 4 = .ok (.iload_n 1, 1) := by decide +kernel
theorem dX2_joint_5 : decode cX2_joint 5 = .ok (.aload_n 0, 1) := by decide +kernel
theorem dX2_joint_6 : decode cX2_joint 6 = .ok (.getfield 20, 3) := by decide +kernel
theorem dX2_joint_9 : decode cX2_joint 9 = .ok (.if_icmp .ge 7, 3) := by decide +kernel
theorem dX2_joint_12 : decode cX2_joint 12 = .ok (.iconst 1, 1) := by decide +kernel
theorem dX2_joint_13 : decode cX2_joint 13 = .ok (.goto 4, 3) := by decide +kernel
theorem dX2_joint_16 : decode cX2_joint 16 = .ok (.iconst 0, 1) := by decide +kernel
theorem dX2_joint_17 : decode cX2_joint 17 = .ok (.ireturn, 1) := by decide +kernel
theorem dX2_remove_0 : decode cX2_remove 0 = .ok (.iload_n 1, 1) := by decide +kernel
theorem dX2_remove_1 : decode cX2_remove 1 = .ok (.ifCond .lt 18, 3) := by decide +kernel
theorem dX2_remove_4 : decode cX2_remove 4 = .ok (.iload_n 1, 1) := by decide +kernel
theorem dX2_remove_5 : decode cX2_remove 5 = .ok (.bipush 11, 2) := by decide +kernel
theorem dX2_remove_7 : decode cX2_remove 7 = .ok (.if_icmp .gt 12, 3) := by decide +kernel
theorem dX2_remove_10 : decode cX2_remove 10 = .ok (.aload_n 0, 1) := by decide +kernel
theorem dX2_remove_11 : decode cX2_remove 11 = .ok (.getfield 7, 3) := by decide +kernel
theorem dX2_remove_14 : decode cX2_remove 14 = .ok (.iload_n 1, 1) := by decide +kernel
theorem dX2_remove_15 : decode cX2_remove 15 = .ok (.baload, 1) := by decide +kernel
theorem dX2_remove_16 : decode cX2_remove 16 = .ok (.ifCond .ne 5, 3) := by decide +kernel
theorem dX2_remove_19 : decode cX2_remove 19 = .ok (.iconst 0, 1) := by decide +kernel
theorem dX2_remove_20 : decode cX2_remove 20 = .ok (.ireturn, 1) := by decide +kernel
theorem dX2_remove_21 : decode cX2_remove 21 = .ok (.aload_n 0, 1) := by decide +kernel
theorem dX2_remove_22 : decode cX2_remove 22 = .ok (.getfield 7, 3) := by decide +kernel
theorem dX2_remove_25 : decode cX2_remove 25 = .ok (.iload_n 1, 1) := by decide +kernel
theorem dX2_remove_26 : decode cX2_remove 26 = .ok (.iconst 0, 1) := by decide +kernel
theorem dX2_remove_27 : decode cX2_remove 27 = .ok (.bastore, 1) := by decide +kernel
theorem dX2_remove_28 : decode cX2_remove 28 = .ok (.iconst 1, 1) := by decide +kernel
theorem dX2_remove_29 : decode cX2_remove 29 = .ok (.ireturn, 1) := by decide +kernel
theorem dX2_bars_0 : decode cX2_bars 0 = .ok (.iconst 0, 1) := by decide +kernel
theorem dX2_bars_1 : decode cX2_bars 1 = .ok (.istore_n 1, 1) := by decide +kernel
theorem dX2_bars_2 : decode cX2_bars 2 = .ok (.iconst 0, 1) := by decide +kernel
theorem dX2_bars_3 : decode cX2_bars 3 = .ok (.istore_n 2, 1) := by decide +kernel
theorem dX2_bars_4 : decode cX2_bars 4 = .ok (.iload_n 2, 1) := by decide +kernel
theorem dX2_bars_5 : decode cX2_bars 5 = .ok (.bipush 12, 2) := by decide +kernel
theorem dX2_bars_7 : decode cX2_bars 7 = .ok (.if_icmp .ge 28, 3) := by decide +kernel
theorem dX2_bars_10 : decode cX2_bars 10 = .ok (.aload_n 0, 1) := by decide +kernel
theorem dX2_bars_11 : decode cX2_bars 11 = .ok (.getfield 7, 3) := by decide +kernel
theorem dX2_bars_14 : decode cX2_bars 14 = .ok (.iload_n 2, 1) := by decide +kernel
theorem dX2_bars_15 : decode cX2_bars 15 = .ok (.baload, 1) := by decide +kernel
theorem dX2_bars_16 : decode cX2_bars 16 = .ok (.ifCond .eq 11, 3) := by decide +kernel
theorem dX2_bars_19 : decode cX2_bars 19 = .ok (.iload_n 1, 1) := by decide +kernel
theorem dX2_bars_20 : decode cX2_bars 20 = .ok (.iconst 1, 1) := by decide +kernel
theorem dX2_bars_21 : decode cX2_bars 21 = .ok (.iload_n 2, 1) := by decide +kernel
theorem dX2_bars_22 : decode cX2_bars 22 = .ok (.ishl, 1) := by decide +kernel
theorem dX2_bars_23 : decode cX2_bars 23 = .ok (.ior, 1) := by decide +kernel
theorem dX2_bars_24 : decode cX2_bars 24 = .ok (.goto 4, 3) := by decide +kernel
theorem dX2_bars_27 : decode cX2_bars 27 = .ok (.iload_n 1, 1) := by decide +kernel
theorem dX2_bars_28 : decode cX2_bars 28 = .ok (.istore_n 1, 1) := by decide +kernel
theorem dX2_bars_29 : decode cX2_bars 29 = .ok (.iinc 2 1, 3) := by decide +kernel
theorem dX2_bars_32 : decode cX2_bars 32 = .ok (.goto (-28), 3) := by decide +kernel
theorem dX2_bars_35 : decode cX2_bars 35 = .ok (.iload_n 1, 1) := by decide +kernel
theorem dX2_bars_36 : decode cX2_bars 36 = .ok (.ireturn, 1) := by decide +kernel
theorem dX2_free_0 : decode cX2_free 0 = .ok (.aload_n 0, 1) := by decide +kernel
theorem dX2_free_1 : decode cX2_free 1 = .ok (.iload_n 1, 1) := by decide +kernel
theorem dX2_free_2 : decode cX2_free 2 = .ok (.aload_n 0, 1) := by decide +kernel
theorem dX2_free_3 : decode cX2_free 3 = .ok (.invokevirtual 36, 3) := by decide +kernel
theorem dX2_free_6 : decode cX2_free 6 = .ok (.iand, 1) := by decide +kernel
theorem dX2_free_7 : decode cX2_free 7 = .ok (.invokevirtual 40, 3) := by decide +kernel
theorem dX2_free_10 : decode cX2_free 10 = .ok (.ireturn, 1) := by decide +kernel
theorem dX2_loose_0 : decode cX2_loose 0 = .ok (.iconst 1, 1) := by decide +kernel
theorem dX2_loose_1 : decode cX2_loose 1 = .ok (.istore_n 2, 1) := by decide +kernel
theorem dX2_loose_2 : decode cX2_loose 2 = .ok (.iconst 0, 1) := by decide +kernel
theorem dX2_loose_3 : decode cX2_loose 3 = .ok (.istore_n 3, 1) := by decide +kernel
theorem dX2_loose_4 : decode cX2_loose 4 = .ok (.iload_n 3, 1) := by decide +kernel
theorem dX2_loose_5 : decode cX2_loose 5 = .ok (.iconst 1, 1) := by decide +kernel
theorem dX2_loose_6 : decode cX2_loose 6 = .ok (.aload_n 0, 1) := by decide +kernel
theorem dX2_loose_7 : decode cX2_loose 7 = .ok (.getfield 20, 3) := by decide +kernel
theorem dX2_loose_10 : decode cX2_loose 10 = .ok (.ishl, 1) := by decide +kernel
theorem dX2_loose_11 : decode cX2_loose 11 = .ok (.if_icmp .ge 47, 3) := by decide +kernel
theorem dX2_loose_14 : decode cX2_loose 14 = .ok (.iload_n 2, 1) := by decide +kernel
theorem dX2_loose_15 : decode cX2_loose 15 = .ok (.ifCond .eq 43, 3) := by decide +kernel
theorem dX2_loose_18 : decode cX2_loose 18 = .ok (.aload_n 0, 1) := by decide +kernel
theorem dX2_loose_19 : decode cX2_loose 19 = .ok (.iload_n 3, 1) := by decide +kernel
theorem dX2_loose_20 : decode cX2_loose 20 = .ok (.invokevirtual 28, 3) := by decide +kernel
theorem dX2_loose_23 : decode cX2_loose 23 = .ok (.istore 4, 2) := by decide +kernel
theorem dX2_loose_25 : decode cX2_loose 25 = .ok (.iload 4, 2) := by decide +kernel
theorem dX2_loose_27 : decode cX2_loose 27 = .ok (.iconst 2, 1) := by decide +kernel
theorem dX2_loose_28 : decode cX2_loose 28 = .ok (.if_icmp .lt 18, 3) := by decide +kernel
theorem dX2_loose_31 : decode cX2_loose 31 = .ok (.aload_n 0, 1) := by decide +kernel
theorem dX2_loose_32 : decode cX2_loose 32 = .ok (.iload_n 1, 1) := by decide +kernel
theorem dX2_loose_33 : decode cX2_loose 33 = .ok (.iload_n 3, 1) := by decide +kernel
theorem dX2_loose_34 : decode cX2_loose 34 = .ok (.invokevirtual 32, 3) := by decide +kernel
theorem dX2_loose_37 : decode cX2_loose 37 = .ok (.iconst 2, 1) := by decide +kernel
theorem dX2_loose_38 : decode cX2_loose 38 = .ok (.iload 4, 2) := by decide +kernel
theorem dX2_loose_40 : decode cX2_loose 40 = .ok (.imul, 1) := by decide +kernel
theorem dX2_loose_41 : decode cX2_loose 41 = .ok (.iconst 3, 1) := by decide +kernel
theorem dX2_loose_42 : decode cX2_loose 42 = .ok (.isub, 1) := by decide +kernel
theorem dX2_loose_43 : decode cX2_loose 43 = .ok (.if_icmp .gt 7, 3) := by decide +kernel
theorem dX2_loose_46 : decode cX2_loose 46 = .ok (.iconst 1, 1) := by decide +kernel
theorem dX2_loose_47 : decode cX2_loose 47 = .ok (.goto 4, 3) := by decide +kernel
theorem dX2_loose_50 : decode cX2_loose 50 = .ok (.iconst 0, 1) := by decide +kernel
theorem dX2_loose_51 : decode cX2_loose 51 = .ok (.istore_n 2, 1) := by decide +kernel
theorem dX2_loose_52 : decode cX2_loose 52 = .ok (.iinc 3 1, 3) := by decide +kernel
theorem dX2_loose_55 : decode cX2_loose 55 = .ok (.goto (-51), 3) := by decide +kernel
theorem dX2_loose_58 : decode cX2_loose 58 = .ok (.iload_n 2, 1) := by decide +kernel
theorem dX2_loose_59 : decode cX2_loose 59 = .ok (.ireturn, 1) := by decide +kernel
theorem dX2_count_0 : decode cX2_count 0 = .ok (.iconst 0, 1) := by decide +kernel
theorem dX2_count_1 : decode cX2_count 1 = .ok (.istore_n 2, 1) := by decide +kernel
theorem dX2_count_2 : decode cX2_count 2 = .ok (.iconst 0, 1) := by decide +kernel
theorem dX2_count_3 : decode cX2_count 3 = .ok (.istore_n 3, 1) := by decide +kernel
theorem dX2_count_4 : decode cX2_count 4 = .ok (.iload_n 3, 1) := by decide +kernel
theorem dX2_count_5 : decode cX2_count 5 = .ok (.bipush 13, 2) := by decide +kernel
theorem dX2_count_7 : decode cX2_count 7 = .ok (.if_icmp .ge 17, 3) := by decide +kernel
theorem dX2_count_10 : decode cX2_count 10 = .ok (.iload_n 2, 1) := by decide +kernel
theorem dX2_count_11 : decode cX2_count 11 = .ok (.iload_n 1, 1) := by decide +kernel
theorem dX2_count_12 : decode cX2_count 12 = .ok (.iload_n 3, 1) := by decide +kernel
theorem dX2_count_13 : decode cX2_count 13 = .ok (.ishr, 1) := by decide +kernel
theorem dX2_count_14 : decode cX2_count 14 = .ok (.iconst 1, 1) := by decide +kernel
theorem dX2_count_15 : decode cX2_count 15 = .ok (.iand, 1) := by decide +kernel
theorem dX2_count_16 : decode cX2_count 16 = .ok (.iadd, 1) := by decide +kernel
theorem dX2_count_17 : decode cX2_count 17 = .ok (.istore_n 2, 1) := by decide +kernel
theorem dX2_count_18 : decode cX2_count 18 = .ok (.iinc 3 1, 3) := by decide +kernel
theorem dX2_count_21 : decode cX2_count 21 = .ok (.goto (-17), 3) := by decide +kernel
theorem dX2_count_24 : decode cX2_count 24 = .ok (.iload_n 2, 1) := by decide +kernel
theorem dX2_count_25 : decode cX2_count 25 = .ok (.ireturn, 1) := by decide +kernel
theorem dX2_inside_0 : decode cX2_inside 0 = .ok (.iconst 0, 1) := by decide +kernel
theorem dX2_inside_1 : decode cX2_inside 1 = .ok (.istore_n 3, 1) := by decide +kernel
theorem dX2_inside_2 : decode cX2_inside 2 = .ok (.iconst 0, 1) := by decide +kernel
theorem dX2_inside_3 : decode cX2_inside 3 = .ok (.istore 4, 2) := by decide +kernel
theorem dX2_inside_5 : decode cX2_inside 5 = .ok (.iload 4, 2) := by decide +kernel
theorem dX2_inside_7 : decode cX2_inside 7 = .ok (.bipush 13, 2) := by decide +kernel
theorem dX2_inside_9 : decode cX2_inside 9 = .ok (.if_icmp .ge 69, 3) := by decide +kernel
theorem dX2_inside_12 : decode cX2_inside 12 = .ok (.iload_n 1, 1) := by decide +kernel
theorem dX2_inside_13 : decode cX2_inside 13 = .ok (.iload 4, 2) := by decide +kernel
theorem dX2_inside_15 : decode cX2_inside 15 = .ok (.ishr, 1) := by decide +kernel
theorem dX2_inside_16 : decode cX2_inside 16 = .ok (.iconst 1, 1) := by decide +kernel
theorem dX2_inside_17 : decode cX2_inside 17 = .ok (.iand, 1) := by decide +kernel
theorem dX2_inside_18 : decode cX2_inside 18 = .ok (.iconst 1, 1) := by decide +kernel
theorem dX2_inside_19 : decode cX2_inside 19 = .ok (.if_icmp .ne 37, 3) := by decide +kernel
theorem dX2_inside_22 : decode cX2_inside 22 = .ok (.iload_n 2, 1) := by decide +kernel
theorem dX2_inside_23 : decode cX2_inside 23 = .ok (.aload_n 0, 1) := by decide +kernel
theorem dX2_inside_24 : decode cX2_inside 24 = .ok (.getfield 13, 3) := by decide +kernel
theorem dX2_inside_27 : decode cX2_inside 27 = .ok (.iload 4, 2) := by decide +kernel
theorem dX2_inside_29 : decode cX2_inside 29 = .ok (.iaload, 1) := by decide +kernel
theorem dX2_inside_30 : decode cX2_inside 30 = .ok (.ishr, 1) := by decide +kernel
theorem dX2_inside_31 : decode cX2_inside 31 = .ok (.iconst 1, 1) := by decide +kernel
theorem dX2_inside_32 : decode cX2_inside 32 = .ok (.iand, 1) := by decide +kernel
theorem dX2_inside_33 : decode cX2_inside 33 = .ok (.iconst 1, 1) := by decide +kernel
theorem dX2_inside_34 : decode cX2_inside 34 = .ok (.if_icmp .ne 22, 3) := by decide +kernel
theorem dX2_inside_37 : decode cX2_inside 37 = .ok (.iload_n 2, 1) := by decide +kernel
theorem dX2_inside_38 : decode cX2_inside 38 = .ok (.aload_n 0, 1) := by decide +kernel
theorem dX2_inside_39 : decode cX2_inside 39 = .ok (.getfield 17, 3) := by decide +kernel
theorem dX2_inside_42 : decode cX2_inside 42 = .ok (.iload 4, 2) := by decide +kernel
theorem dX2_inside_44 : decode cX2_inside 44 = .ok (.iaload, 1) := by decide +kernel
theorem dX2_inside_45 : decode cX2_inside 45 = .ok (.ishr, 1) := by decide +kernel
theorem dX2_inside_46 : decode cX2_inside 46 = .ok (.iconst 1, 1) := by decide +kernel
theorem dX2_inside_47 : decode cX2_inside 47 = .ok (.iand, 1) := by decide +kernel
theorem dX2_inside_48 : decode cX2_inside 48 = .ok (.iconst 1, 1) := by decide +kernel
theorem dX2_inside_49 : decode cX2_inside 49 = .ok (.if_icmp .ne 7, 3) := by decide +kernel
theorem dX2_inside_52 : decode cX2_inside 52 = .ok (.iconst 1, 1) := by decide +kernel
theorem dX2_inside_53 : decode cX2_inside 53 = .ok (.goto 4, 3) := by decide +kernel
theorem dX2_inside_56 : decode cX2_inside 56 = .ok (.iconst 0, 1) := by decide +kernel
theorem dX2_inside_57 : decode cX2_inside 57 = .ok (.istore 5, 2) := by decide +kernel
theorem dX2_inside_59 : decode cX2_inside 59 = .ok (.iload 5, 2) := by decide +kernel
theorem dX2_inside_61 : decode cX2_inside 61 = .ok (.ifCond .eq 9, 3) := by decide +kernel
theorem dX2_inside_64 : decode cX2_inside 64 = .ok (.iload_n 3, 1) := by decide +kernel
theorem dX2_inside_65 : decode cX2_inside 65 = .ok (.iconst 1, 1) := by decide +kernel
theorem dX2_inside_66 : decode cX2_inside 66 = .ok (.iadd, 1) := by decide +kernel
theorem dX2_inside_67 : decode cX2_inside 67 = .ok (.goto 4, 3) := by decide +kernel
theorem dX2_inside_70 : decode cX2_inside 70 = .ok (.iload_n 3, 1) := by decide +kernel
theorem dX2_inside_71 : decode cX2_inside 71 = .ok (.istore_n 3, 1) := by decide +kernel
theorem dX2_inside_72 : decode cX2_inside 72 = .ok (.iinc 4 1, 3) := by decide +kernel
theorem dX2_inside_75 : decode cX2_inside 75 = .ok (.goto (-70), 3) := by decide +kernel
theorem dX2_inside_78 : decode cX2_inside 78 = .ok (.iload_n 3, 1) := by decide +kernel
theorem dX2_inside_79 : decode cX2_inside 79 = .ok (.ireturn, 1) := by decide +kernel
theorem dX2_rank_0 : decode cX2_rank 0 = .ok (.aload_n 0, 1) := by decide +kernel
theorem dX2_rank_1 : decode cX2_rank 1 = .ok (.iload_n 1, 1) := by decide +kernel
theorem dX2_rank_2 : decode cX2_rank 2 = .ok (.aload_n 0, 1) := by decide +kernel
theorem dX2_rank_3 : decode cX2_rank 3 = .ok (.invokevirtual 36, 3) := by decide +kernel
theorem dX2_rank_6 : decode cX2_rank 6 = .ok (.iand, 1) := by decide +kernel
theorem dX2_rank_7 : decode cX2_rank 7 = .ok (.invokevirtual 46, 3) := by decide +kernel
theorem dX2_rank_10 : decode cX2_rank 10 = .ok (.ireturn, 1) := by decide +kernel
theorem dX2_rankOf_0 : decode cX2_rankOf 0 = .ok (.aload_n 0, 1) := by decide +kernel
theorem dX2_rankOf_1 : decode cX2_rankOf 1 = .ok (.iload_n 1, 1) := by decide +kernel
theorem dX2_rankOf_2 : decode cX2_rankOf 2 = .ok (.invokevirtual 43, 3) := by decide +kernel
theorem dX2_rankOf_5 : decode cX2_rankOf 5 = .ok (.istore_n 2, 1) := by decide +kernel
theorem dX2_rankOf_6 : decode cX2_rankOf 6 = .ok (.aload_n 0, 1) := by decide +kernel
theorem dX2_rankOf_7 : decode cX2_rankOf 7 = .ok (.iload_n 2, 1) := by decide +kernel
theorem dX2_rankOf_8 : decode cX2_rankOf 8 = .ok (.invokevirtual 28, 3) := by decide +kernel
theorem dX2_rankOf_11 : decode cX2_rankOf 11 = .ok (.ireturn, 1) := by decide +kernel
theorem dX2_taken_0 : decode cX2_taken 0 = .ok (.iconst 0, 1) := by decide +kernel
theorem dX2_taken_1 : decode cX2_taken 1 = .ok (.istore_n 2, 1) := by decide +kernel
theorem dX2_taken_2 : decode cX2_taken 2 = .ok (.iconst 0, 1) := by decide +kernel
theorem dX2_taken_3 : decode cX2_taken 3 = .ok (.istore_n 3, 1) := by decide +kernel
theorem dX2_taken_4 : decode cX2_taken 4 = .ok (.iload_n 3, 1) := by decide +kernel
theorem dX2_taken_5 : decode cX2_taken 5 = .ok (.bipush 13, 2) := by decide +kernel
theorem dX2_taken_7 : decode cX2_taken 7 = .ok (.if_icmp .ge 52, 3) := by decide +kernel
theorem dX2_taken_10 : decode cX2_taken 10 = .ok (.iload_n 1, 1) := by decide +kernel
theorem dX2_taken_11 : decode cX2_taken 11 = .ok (.iload_n 3, 1) := by decide +kernel
theorem dX2_taken_12 : decode cX2_taken 12 = .ok (.ishr, 1) := by decide +kernel
theorem dX2_taken_13 : decode cX2_taken 13 = .ok (.iconst 1, 1) := by decide +kernel
theorem dX2_taken_14 : decode cX2_taken 14 = .ok (.iand, 1) := by decide +kernel
theorem dX2_taken_15 : decode cX2_taken 15 = .ok (.iconst 1, 1) := by decide +kernel
theorem dX2_taken_16 : decode cX2_taken 16 = .ok (.if_icmp .ne 19, 3) := by decide +kernel
theorem dX2_taken_19 : decode cX2_taken 19 = .ok (.aload_n 0, 1) := by decide +kernel
theorem dX2_taken_20 : decode cX2_taken 20 = .ok (.iload_n 2, 1) := by decide +kernel
theorem dX2_taken_21 : decode cX2_taken 21 = .ok (.iconst 1, 1) := by decide +kernel
theorem dX2_taken_22 : decode cX2_taken 22 = .ok (.iload_n 3, 1) := by decide +kernel
theorem dX2_taken_23 : decode cX2_taken 23 = .ok (.ishl, 1) := by decide +kernel
theorem dX2_taken_24 : decode cX2_taken 24 = .ok (.ior, 1) := by decide +kernel
theorem dX2_taken_25 : decode cX2_taken 25 = .ok (.invokevirtual 40, 3) := by decide +kernel
theorem dX2_taken_28 : decode cX2_taken 28 = .ok (.ifCond .eq 7, 3) := by decide +kernel
theorem dX2_taken_31 : decode cX2_taken 31 = .ok (.iconst 1, 1) := by decide +kernel
theorem dX2_taken_32 : decode cX2_taken 32 = .ok (.goto 4, 3) := by decide +kernel
theorem dX2_taken_35 : decode cX2_taken 35 = .ok (.iconst 0, 1) := by decide +kernel
theorem dX2_taken_36 : decode cX2_taken 36 = .ok (.istore 4, 2) := by decide +kernel
theorem dX2_taken_38 : decode cX2_taken 38 = .ok (.iload 4, 2) := by decide +kernel
theorem dX2_taken_40 : decode cX2_taken 40 = .ok (.ifCond .eq 11, 3) := by decide +kernel
theorem dX2_taken_43 : decode cX2_taken 43 = .ok (.iload_n 2, 1) := by decide +kernel
theorem dX2_taken_44 : decode cX2_taken 44 = .ok (.iconst 1, 1) := by decide +kernel
theorem dX2_taken_45 : decode cX2_taken 45 = .ok (.iload_n 3, 1) := by decide +kernel
theorem dX2_taken_46 : decode cX2_taken 46 = .ok (.ishl, 1) := by decide +kernel
theorem dX2_taken_47 : decode cX2_taken 47 = .ok (.ior, 1) := by decide +kernel
theorem dX2_taken_48 : decode cX2_taken 48 = .ok (.goto 4, 3) := by decide +kernel
theorem dX2_taken_51 : decode cX2_taken 51 = .ok (.iload_n 2, 1) := by decide +kernel
theorem dX2_taken_52 : decode cX2_taken 52 = .ok (.istore_n 2, 1) := by decide +kernel
theorem dX2_taken_53 : decode cX2_taken 53 = .ok (.iinc 3 1, 3) := by decide +kernel
theorem dX2_taken_56 : decode cX2_taken 56 = .ok (.goto (-52), 3) := by decide +kernel
theorem dX2_taken_59 : decode cX2_taken 59 = .ok (.iload_n 2, 1) := by decide +kernel
theorem dX2_taken_60 : decode cX2_taken 60 = .ok (.ireturn, 1) := by decide +kernel
theorem dX2_frame_0 : decode cX2_frame 0 = .ok (.aload_n 0, 1) := by decide +kernel
theorem dX2_frame_1 : decode cX2_frame 1 = .ok (.aload_n 0, 1) := by decide +kernel
theorem dX2_frame_2 : decode cX2_frame 2 = .ok (.invokevirtual 36, 3) := by decide +kernel
theorem dX2_frame_5 : decode cX2_frame 5 = .ok (.invokevirtual 43, 3) := by decide +kernel
theorem dX2_frame_8 : decode cX2_frame 8 = .ok (.ireturn, 1) := by decide +kernel
theorem dX2_rigid_0 : decode cX2_rigid 0 = .ok (.aload_n 0, 1) := by decide +kernel
theorem dX2_rigid_1 : decode cX2_rigid 1 = .ok (.invokevirtual 49, 3) := by decide +kernel
theorem dX2_rigid_4 : decode cX2_rigid 4 = .ok (.ifCond .ne 7, 3) := by decide +kernel
theorem dX2_rigid_7 : decode cX2_rigid 7 = .ok (.iconst 1, 1) := by decide +kernel
theorem dX2_rigid_8 : decode cX2_rigid 8 = .ok (.goto 4, 3) := by decide +kernel
theorem dX2_rigid_11 : decode cX2_rigid 11 = .ok (.iconst 0, 1) := by decide +kernel
theorem dX2_rigid_12 : decode cX2_rigid 12 = .ok (.ireturn, 1) := by decide +kernel
theorem dX2_freedom_0 : decode cX2_freedom 0 = .ok (.iconst 2, 1) := by decide +kernel
theorem dX2_freedom_1 : decode cX2_freedom 1 = .ok (.aload_n 0, 1) := by decide +kernel
theorem dX2_freedom_2 : decode cX2_freedom 2 = .ok (.getfield 20, 3) := by decide +kernel
theorem dX2_freedom_5 : decode cX2_freedom 5 = .ok (.imul, 1) := by decide +kernel
theorem dX2_freedom_6 : decode cX2_freedom 6 = .ok (.iconst 3, 1) := by decide +kernel
theorem dX2_freedom_7 : decode cX2_freedom 7 = .ok (.isub, 1) := by decide +kernel
theorem dX2_freedom_8 : decode cX2_freedom 8 = .ok (.aload_n 0, 1) := by decide +kernel
theorem dX2_freedom_9 : decode cX2_freedom 9 = .ok (.aload_n 0, 1) := by decide +kernel
theorem dX2_freedom_10 : decode cX2_freedom 10 = .ok (.invokevirtual 36, 3) := by decide +kernel
theorem dX2_freedom_13 : decode cX2_freedom 13 = .ok (.invokevirtual 46, 3) := by decide +kernel
theorem dX2_freedom_16 : decode cX2_freedom 16 = .ok (.isub, 1) := by decide +kernel
theorem dX2_freedom_17 : decode cX2_freedom 17 = .ok (.ireturn, 1) := by decide +kernel
theorem dX2_held_0 : decode cX2_held 0 = .ok (.iload_n 1, 1) := by decide +kernel
theorem dX2_held_1 : decode cX2_held 1 = .ok (.iload_n 2, 1) := by decide +kernel
theorem dX2_held_2 : decode cX2_held 2 = .ok (.if_icmp .eq 19, 3) := by decide +kernel
theorem dX2_held_5 : decode cX2_held 5 = .ok (.aload_n 0, 1) := by decide +kernel
theorem dX2_held_6 : decode cX2_held 6 = .ok (.iload_n 1, 1) := by decide +kernel
theorem dX2_held_7 : decode cX2_held 7 = .ok (.invokevirtual 24, 3) := by decide +kernel
end
section
set_option maxRecDepth 100000
theorem dX2_held_10 : decode cX2_held 10 = .ok (.ifCond .eq 11, 3) := by decide +kernel
theorem dX2_held_13 : decode cX2_held 13 = .ok (.aload_n 0, 1) := by decide +kernel
theorem dX2_held_14 : decode cX2_held 14 = .ok (.iload_n 2, 1) := by decide +kernel
theorem dX2_held_15 : decode cX2_held 15 = .ok (.invokevirtual 24, 3) := by decide +kernel
theorem dX2_held_18 : decode cX2_held 18 = .ok (.ifCond .ne 5, 3) := by decide +kernel
theorem dX2_held_21 : decode cX2_held 21 = .ok (.iconst 0, 1) := by decide +kernel
theorem dX2_held_22 : decode cX2_held 22 = .ok (.ireturn, 1) := by decide +kernel
theorem dX2_held_23 : decode cX2_held 23 = .ok (.aload_n 0, 1) := by decide +kernel
theorem dX2_held_24 : decode cX2_held 24 = .ok (.getfield 13, 3) := by decide +kernel
theorem dX2_held_27 : decode cX2_held 27 = .ok (.bipush 12, 2) := by decide +kernel
theorem dX2_held_29 : decode cX2_held 29 = .ok (.iload_n 1, 1) := by decide +kernel
theorem dX2_held_30 : decode cX2_held 30 = .ok (.iastore, 1) := by decide +kernel
theorem dX2_held_31 : decode cX2_held 31 = .ok (.aload_n 0, 1) := by decide +kernel
theorem dX2_held_32 : decode cX2_held 32 = .ok (.getfield 17, 3) := by decide +kernel
theorem dX2_held_35 : decode cX2_held 35 = .ok (.bipush 12, 2) := by decide +kernel
theorem dX2_held_37 : decode cX2_held 37 = .ok (.iload_n 2, 1) := by decide +kernel
theorem dX2_held_38 : decode cX2_held 38 = .ok (.iastore, 1) := by decide +kernel
theorem dX2_held_39 : decode cX2_held 39 = .ok (.aload_n 0, 1) := by decide +kernel
theorem dX2_held_40 : decode cX2_held 40 = .ok (.invokevirtual 36, 3) := by decide +kernel
theorem dX2_held_43 : decode cX2_held 43 = .ok (.istore_n 3, 1) := by decide +kernel
theorem dX2_held_44 : decode cX2_held 44 = .ok (.aload_n 0, 1) := by decide +kernel
theorem dX2_held_45 : decode cX2_held 45 = .ok (.iload_n 3, 1) := by decide +kernel
theorem dX2_held_46 : decode cX2_held 46 = .ok (.sipush 4096, 3) := by decide +kernel
theorem dX2_held_49 : decode cX2_held 49 = .ok (.ior, 1) := by decide +kernel
theorem dX2_held_50 : decode cX2_held 50 = .ok (.invokevirtual 46, 3) := by decide +kernel
theorem dX2_held_53 : decode cX2_held 53 = .ok (.aload_n 0, 1) := by decide +kernel
theorem dX2_held_54 : decode cX2_held 54 = .ok (.iload_n 3, 1) := by decide +kernel
theorem dX2_held_55 : decode cX2_held 55 = .ok (.invokevirtual 46, 3) := by decide +kernel
theorem dX2_held_58 : decode cX2_held 58 = .ok (.if_icmp .ne 7, 3) := by decide +kernel
theorem dX2_held_61 : decode cX2_held 61 = .ok (.iconst 1, 1) := by decide +kernel
theorem dX2_held_62 : decode cX2_held 62 = .ok (.goto 4, 3) := by decide +kernel
theorem dX2_held_65 : decode cX2_held 65 = .ok (.iconst 0, 1) := by decide +kernel
theorem dX2_held_66 : decode cX2_held 66 = .ok (.ireturn, 1) := by decide +kernel
theorem dX2_redundant_0 : decode cX2_redundant 0 = .ok (.aload_n 0, 1) := by decide +kernel
theorem dX2_redundant_1 : decode cX2_redundant 1 = .ok (.invokevirtual 36, 3) := by decide +kernel
theorem dX2_redundant_4 : decode cX2_redundant 4 = .ok (.istore_n 2, 1) := by decide +kernel
theorem dX2_redundant_5 : decode cX2_redundant 5 = .ok (.iload_n 1, 1) := by decide +kernel
theorem dX2_redundant_6 : decode cX2_redundant 6 = .ok (.ifCond .lt 41, 3) := by decide +kernel
theorem dX2_redundant_9 : decode cX2_redundant 9 = .ok (.iload_n 1, 1) := by decide +kernel
theorem dX2_redundant_10 : decode cX2_redundant 10 = .ok (.bipush 12, 2) := by decide +kernel
theorem dX2_redundant_12 : decode cX2_redundant 12 = .ok (.if_icmp .ge 35, 3) := by decide +kernel
theorem dX2_redundant_15 : decode cX2_redundant 15 = .ok (.aload_n 0, 1) := by decide +kernel
theorem dX2_redundant_16 : decode cX2_redundant 16 = .ok (.getfield 7, 3) := by decide +kernel
theorem dX2_redundant_19 : decode cX2_redundant 19 = .ok (.iload_n 1, 1) := by decide +kernel
theorem dX2_redundant_20 : decode cX2_redundant 20 = .ok (.baload, 1) := by decide +kernel
theorem dX2_redundant_21 : decode cX2_redundant 21 = .ok (.ifCond .eq 26, 3) := by decide +kernel
theorem dX2_redundant_24 : decode cX2_redundant 24 = .ok (.aload_n 0, 1) := by decide +kernel
theorem dX2_redundant_25 : decode cX2_redundant 25 = .ok (.iload_n 2, 1) := by decide +kernel
theorem dX2_redundant_26 : decode cX2_redundant 26 = .ok (.iconst 1, 1) := by decide +kernel
theorem dX2_redundant_27 : decode cX2_redundant 27 = .ok (.iload_n 1, 1) := by decide +kernel
theorem dX2_redundant_28 : decode cX2_redundant 28 = .ok (.ishl, 1) := by decide +kernel
theorem dX2_redundant_29 : decode cX2_redundant 29 = .ok (.iconst (-1), 1) := by decide +kernel
theorem dX2_redundant_30 : decode cX2_redundant 30 = .ok (.ixor, 1) := by decide +kernel
theorem dX2_redundant_31 : decode cX2_redundant 31 = .ok (.iand, 1) := by decide +kernel
theorem dX2_redundant_32 : decode cX2_redundant 32 = .ok (.invokevirtual 46, 3) := by decide +kernel
theorem dX2_redundant_35 : decode cX2_redundant 35 = .ok (.aload_n 0, 1) := by decide +kernel
theorem dX2_redundant_36 : decode cX2_redundant 36 = .ok (.iload_n 2, 1) := by decide +kernel
theorem dX2_redundant_37 : decode cX2_redundant 37 = .ok (.invokevirtual 46, 3) := by decide +kernel
theorem dX2_redundant_40 : decode cX2_redundant 40 = .ok (.if_icmp .ne 7, 3) := by decide +kernel
theorem dX2_redundant_43 : decode cX2_redundant 43 = .ok (.iconst 1, 1) := by decide +kernel
theorem dX2_redundant_44 : decode cX2_redundant 44 = .ok (.goto 4, 3) := by decide +kernel
theorem dX2_redundant_47 : decode cX2_redundant 47 = .ok (.iconst 0, 1) := by decide +kernel
theorem dX2_redundant_48 : decode cX2_redundant 48 = .ok (.ireturn, 1) := by decide +kernel
theorem dX2_ring_0 : decode cX2_ring 0 = .ok (.aload_n 0, 1) := by decide +kernel
theorem dX2_ring_1 : decode cX2_ring 1 = .ok (.invokevirtual 52, 3) := by decide +kernel
theorem dX2_ring_4 : decode cX2_ring 4 = .ok (.istore_n 2, 1) := by decide +kernel
theorem dX2_ring_5 : decode cX2_ring 5 = .ok (.iload_n 1, 1) := by decide +kernel
theorem dX2_ring_6 : decode cX2_ring 6 = .ok (.ifCond .lt 27, 3) := by decide +kernel
theorem dX2_ring_9 : decode cX2_ring 9 = .ok (.iload_n 1, 1) := by decide +kernel
theorem dX2_ring_10 : decode cX2_ring 10 = .ok (.bipush 11, 2) := by decide +kernel
theorem dX2_ring_12 : decode cX2_ring 12 = .ok (.if_icmp .gt 21, 3) := by decide +kernel
theorem dX2_ring_15 : decode cX2_ring 15 = .ok (.aload_n 0, 1) := by decide +kernel
theorem dX2_ring_16 : decode cX2_ring 16 = .ok (.getfield 7, 3) := by decide +kernel
theorem dX2_ring_19 : decode cX2_ring 19 = .ok (.iload_n 1, 1) := by decide +kernel
theorem dX2_ring_20 : decode cX2_ring 20 = .ok (.baload, 1) := by decide +kernel
theorem dX2_ring_21 : decode cX2_ring 21 = .ok (.ifCond .eq 12, 3) := by decide +kernel
theorem dX2_ring_24 : decode cX2_ring 24 = .ok (.iload_n 2, 1) := by decide +kernel
theorem dX2_ring_25 : decode cX2_ring 25 = .ok (.iload_n 1, 1) := by decide +kernel
theorem dX2_ring_26 : decode cX2_ring 26 = .ok (.ishr, 1) := by decide +kernel
theorem dX2_ring_27 : decode cX2_ring 27 = .ok (.iconst 1, 1) := by decide +kernel
theorem dX2_ring_28 : decode cX2_ring 28 = .ok (.iand, 1) := by decide +kernel
theorem dX2_ring_29 : decode cX2_ring 29 = .ok (.iconst 1, 1) := by decide +kernel
theorem dX2_ring_30 : decode cX2_ring 30 = .ok (.if_icmp .ne 5, 3) := by decide +kernel
theorem dX2_ring_33 : decode cX2_ring 33 = .ok (.iconst 0, 1) := by decide +kernel
theorem dX2_ring_34 : decode cX2_ring 34 = .ok (.ireturn, 1) := by decide +kernel
theorem dX2_ring_35 : decode cX2_ring 35 = .ok (.iconst 1, 1) := by decide +kernel
theorem dX2_ring_36 : decode cX2_ring 36 = .ok (.iload_n 1, 1) := by decide +kernel
theorem dX2_ring_37 : decode cX2_ring 37 = .ok (.ishl, 1) := by decide +kernel
theorem dX2_ring_38 : decode cX2_ring 38 = .ok (.istore_n 3, 1) := by decide +kernel
theorem dX2_ring_39 : decode cX2_ring 39 = .ok (.iconst 0, 1) := by decide +kernel
theorem dX2_ring_40 : decode cX2_ring 40 = .ok (.istore 4, 2) := by decide +kernel
theorem dX2_ring_42 : decode cX2_ring 42 = .ok (.iload 4, 2) := by decide +kernel
theorem dX2_ring_44 : decode cX2_ring 44 = .ok (.bipush 12, 2) := by decide +kernel
theorem dX2_ring_46 : decode cX2_ring 46 = .ok (.if_icmp .ge 61, 3) := by decide +kernel
theorem dX2_ring_49 : decode cX2_ring 49 = .ok (.iload_n 2, 1) := by decide +kernel
theorem dX2_ring_50 : decode cX2_ring 50 = .ok (.iload 4, 2) := by decide +kernel
theorem dX2_ring_52 : decode cX2_ring 52 = .ok (.ishr, 1) := by decide +kernel
theorem dX2_ring_53 : decode cX2_ring 53 = .ok (.iconst 1, 1) := by decide +kernel
theorem dX2_ring_54 : decode cX2_ring 54 = .ok (.iand, 1) := by decide +kernel
theorem dX2_ring_55 : decode cX2_ring 55 = .ok (.iconst 1, 1) := by decide +kernel
theorem dX2_ring_56 : decode cX2_ring 56 = .ok (.if_icmp .ne 26, 3) := by decide +kernel
theorem dX2_ring_59 : decode cX2_ring 59 = .ok (.aload_n 0, 1) := by decide +kernel
theorem dX2_ring_60 : decode cX2_ring 60 = .ok (.iload_n 2, 1) := by decide +kernel
theorem dX2_ring_61 : decode cX2_ring 61 = .ok (.iconst 1, 1) := by decide +kernel
theorem dX2_ring_62 : decode cX2_ring 62 = .ok (.iload 4, 2) := by decide +kernel
theorem dX2_ring_64 : decode cX2_ring 64 = .ok (.ishl, 1) := by decide +kernel
theorem dX2_ring_65 : decode cX2_ring 65 = .ok (.iconst (-1), 1) := by decide +kernel
theorem dX2_ring_66 : decode cX2_ring 66 = .ok (.ixor, 1) := by decide +kernel
theorem dX2_ring_67 : decode cX2_ring 67 = .ok (.iand, 1) := by decide +kernel
theorem dX2_ring_68 : decode cX2_ring 68 = .ok (.iconst 1, 1) := by decide +kernel
theorem dX2_ring_69 : decode cX2_ring 69 = .ok (.iload_n 1, 1) := by decide +kernel
theorem dX2_ring_70 : decode cX2_ring 70 = .ok (.ishl, 1) := by decide +kernel
theorem dX2_ring_71 : decode cX2_ring 71 = .ok (.ior, 1) := by decide +kernel
theorem dX2_ring_72 : decode cX2_ring 72 = .ok (.invokevirtual 40, 3) := by decide +kernel
theorem dX2_ring_75 : decode cX2_ring 75 = .ok (.ifCond .eq 7, 3) := by decide +kernel
theorem dX2_ring_78 : decode cX2_ring 78 = .ok (.iconst 1, 1) := by decide +kernel
theorem dX2_ring_79 : decode cX2_ring 79 = .ok (.goto 4, 3) := by decide +kernel
theorem dX2_ring_82 : decode cX2_ring 82 = .ok (.iconst 0, 1) := by decide +kernel
theorem dX2_ring_83 : decode cX2_ring 83 = .ok (.istore 5, 2) := by decide +kernel
theorem dX2_ring_85 : decode cX2_ring 85 = .ok (.iload 5, 2) := by decide +kernel
theorem dX2_ring_87 : decode cX2_ring 87 = .ok (.ifCond .eq 12, 3) := by decide +kernel
theorem dX2_ring_90 : decode cX2_ring 90 = .ok (.iload_n 3, 1) := by decide +kernel
theorem dX2_ring_91 : decode cX2_ring 91 = .ok (.iconst 1, 1) := by decide +kernel
theorem dX2_ring_92 : decode cX2_ring 92 = .ok (.iload 4, 2) := by decide +kernel
theorem dX2_ring_94 : decode cX2_ring 94 = .ok (.ishl, 1) := by decide +kernel
theorem dX2_ring_95 : decode cX2_ring 95 = .ok (.ior, 1) := by decide +kernel
theorem dX2_ring_96 : decode cX2_ring 96 = .ok (.goto 4, 3) := by decide +kernel
theorem dX2_ring_99 : decode cX2_ring 99 = .ok (.iload_n 3, 1) := by decide +kernel
theorem dX2_ring_100 : decode cX2_ring 100 = .ok (.istore_n 3, 1) := by decide +kernel
theorem dX2_ring_101 : decode cX2_ring 101 = .ok (.iinc 4 1, 3) := by decide +kernel
theorem dX2_ring_104 : decode cX2_ring 104 = .ok (.goto (-62), 3) := by decide +kernel
theorem dX2_ring_107 : decode cX2_ring 107 = .ok (.iload_n 3, 1) := by decide +kernel
theorem dX2_ring_108 : decode cX2_ring 108 = .ok (.ireturn, 1) := by decide +kernel
theorem dX2_heldTo_0 : decode cX2_heldTo 0 = .ok (.aload_n 0, 1) := by decide +kernel
theorem dX2_heldTo_1 : decode cX2_heldTo 1 = .ok (.iload_n 1, 1) := by decide +kernel
theorem dX2_heldTo_2 : decode cX2_heldTo 2 = .ok (.invokevirtual 24, 3) := by decide +kernel
theorem dX2_heldTo_5 : decode cX2_heldTo 5 = .ok (.ifCond .eq 9, 3) := by decide +kernel
theorem dX2_heldTo_8 : decode cX2_heldTo 8 = .ok (.iconst 1, 1) := by decide +kernel
theorem dX2_heldTo_9 : decode cX2_heldTo 9 = .ok (.iload_n 1, 1) := by decide +kernel
theorem dX2_heldTo_10 : decode cX2_heldTo 10 = .ok (.ishl, 1) := by decide +kernel
theorem dX2_heldTo_11 : decode cX2_heldTo 11 = .ok (.goto 4, 3) := by decide +kernel
theorem dX2_heldTo_14 : decode cX2_heldTo 14 = .ok (.iconst 0, 1) := by decide +kernel
theorem dX2_heldTo_15 : decode cX2_heldTo 15 = .ok (.istore_n 2, 1) := by decide +kernel
theorem dX2_heldTo_16 : decode cX2_heldTo 16 = .ok (.iconst 0, 1) := by decide +kernel
theorem dX2_heldTo_17 : decode cX2_heldTo 17 = .ok (.istore_n 3, 1) := by decide +kernel
theorem dX2_heldTo_18 : decode cX2_heldTo 18 = .ok (.iload_n 3, 1) := by decide +kernel
theorem dX2_heldTo_19 : decode cX2_heldTo 19 = .ok (.aload_n 0, 1) := by decide +kernel
theorem dX2_heldTo_20 : decode cX2_heldTo 20 = .ok (.getfield 20, 3) := by decide +kernel
theorem dX2_heldTo_23 : decode cX2_heldTo 23 = .ok (.if_icmp .ge 36, 3) := by decide +kernel
theorem dX2_heldTo_26 : decode cX2_heldTo 26 = .ok (.aload_n 0, 1) := by decide +kernel
theorem dX2_heldTo_27 : decode cX2_heldTo 27 = .ok (.iload_n 1, 1) := by decide +kernel
theorem dX2_heldTo_28 : decode cX2_heldTo 28 = .ok (.invokevirtual 24, 3) := by decide +kernel
theorem dX2_heldTo_31 : decode cX2_heldTo 31 = .ok (.ifCond .eq 28, 3) := by decide +kernel
theorem dX2_heldTo_34 : decode cX2_heldTo 34 = .ok (.aload_n 0, 1) := by decide +kernel
theorem dX2_heldTo_35 : decode cX2_heldTo 35 = .ok (.iload_n 1, 1) := by decide +kernel
theorem dX2_heldTo_36 : decode cX2_heldTo 36 = .ok (.iload_n 3, 1) := by decide +kernel
theorem dX2_heldTo_37 : decode cX2_heldTo 37 = .ok (.invokevirtual 55, 3) := by decide +kernel
theorem dX2_heldTo_40 : decode cX2_heldTo 40 = .ok (.ifCond .eq 11, 3) := by decide +kernel
theorem dX2_heldTo_43 : decode cX2_heldTo 43 = .ok (.iload_n 2, 1) := by decide +kernel
theorem dX2_heldTo_44 : decode cX2_heldTo 44 = .ok (.iconst 1, 1) := by decide +kernel
theorem dX2_heldTo_45 : decode cX2_heldTo 45 = .ok (.iload_n 3, 1) := by decide +kernel
theorem dX2_heldTo_46 : decode cX2_heldTo 46 = .ok (.ishl, 1) := by decide +kernel
theorem dX2_heldTo_47 : decode cX2_heldTo 47 = .ok (.ior, 1) := by decide +kernel
theorem dX2_heldTo_48 : decode cX2_heldTo 48 = .ok (.goto 4, 3) := by decide +kernel
theorem dX2_heldTo_51 : decode cX2_heldTo 51 = .ok (.iload_n 2, 1) := by decide +kernel
theorem dX2_heldTo_52 : decode cX2_heldTo 52 = .ok (.istore_n 2, 1) := by decide +kernel
theorem dX2_heldTo_53 : decode cX2_heldTo 53 = .ok (.iinc 3 1, 3) := by decide +kernel
theorem dX2_heldTo_56 : decode cX2_heldTo 56 = .ok (.goto (-38), 3) := by decide +kernel
theorem dX2_heldTo_59 : decode cX2_heldTo 59 = .ok (.iload_n 2, 1) := by decide +kernel
theorem dX2_heldTo_60 : decode cX2_heldTo 60 = .ok (.ireturn, 1) := by decide +kernel
theorem dX2_bodies_0 : decode cX2_bodies 0 = .ok (.iconst 0, 1) := by decide +kernel
theorem dX2_bodies_1 : decode cX2_bodies 1 = .ok (.istore_n 1, 1) := by decide +kernel
theorem dX2_bodies_2 : decode cX2_bodies 2 = .ok (.iconst 0, 1) := by decide +kernel
theorem dX2_bodies_3 : decode cX2_bodies 3 = .ok (.istore_n 2, 1) := by decide +kernel
theorem dX2_bodies_4 : decode cX2_bodies 4 = .ok (.iload_n 2, 1) := by decide +kernel
theorem dX2_bodies_5 : decode cX2_bodies 5 = .ok (.iconst 1, 1) := by decide +kernel
theorem dX2_bodies_6 : decode cX2_bodies 6 = .ok (.aload_n 0, 1) := by decide +kernel
theorem dX2_bodies_7 : decode cX2_bodies 7 = .ok (.getfield 20, 3) := by decide +kernel
theorem dX2_bodies_10 : decode cX2_bodies 10 = .ok (.ishl, 1) := by decide +kernel
theorem dX2_bodies_11 : decode cX2_bodies 11 = .ok (.if_icmp .ge 95, 3) := by decide +kernel
theorem dX2_bodies_14 : decode cX2_bodies 14 = .ok (.aload_n 0, 1) := by decide +kernel
theorem dX2_bodies_15 : decode cX2_bodies 15 = .ok (.iload_n 2, 1) := by decide +kernel
theorem dX2_bodies_16 : decode cX2_bodies 16 = .ok (.invokevirtual 28, 3) := by decide +kernel
theorem dX2_bodies_19 : decode cX2_bodies 19 = .ok (.iconst 3, 1) := by decide +kernel
theorem dX2_bodies_20 : decode cX2_bodies 20 = .ok (.if_icmp .lt 15, 3) := by decide +kernel
theorem dX2_bodies_23 : decode cX2_bodies 23 = .ok (.aload_n 0, 1) := by decide +kernel
theorem dX2_bodies_24 : decode cX2_bodies 24 = .ok (.iload_n 2, 1) := by decide +kernel
theorem dX2_bodies_25 : decode cX2_bodies 25 = .ok (.invokevirtual 59, 3) := by decide +kernel
theorem dX2_bodies_28 : decode cX2_bodies 28 = .ok (.ifCond .eq 7, 3) := by decide +kernel
theorem dX2_bodies_31 : decode cX2_bodies 31 = .ok (.iconst 1, 1) := by decide +kernel
theorem dX2_bodies_32 : decode cX2_bodies 32 = .ok (.goto 4, 3) := by decide +kernel
theorem dX2_bodies_35 : decode cX2_bodies 35 = .ok (.iconst 0, 1) := by decide +kernel
theorem dX2_bodies_36 : decode cX2_bodies 36 = .ok (.istore_n 3, 1) := by decide +kernel
theorem dX2_bodies_37 : decode cX2_bodies 37 = .ok (.iconst 0, 1) := by decide +kernel
theorem dX2_bodies_38 : decode cX2_bodies 38 = .ok (.istore 4, 2) := by decide +kernel
theorem dX2_bodies_40 : decode cX2_bodies 40 = .ok (.iload 4, 2) := by decide +kernel
theorem dX2_bodies_42 : decode cX2_bodies 42 = .ok (.aload_n 0, 1) := by decide +kernel
theorem dX2_bodies_43 : decode cX2_bodies 43 = .ok (.getfield 20, 3) := by decide +kernel
theorem dX2_bodies_46 : decode cX2_bodies 46 = .ok (.if_icmp .ge 42, 3) := by decide +kernel
theorem dX2_bodies_49 : decode cX2_bodies 49 = .ok (.iload_n 3, 1) := by decide +kernel
theorem dX2_bodies_50 : decode cX2_bodies 50 = .ok (.ifCond .eq 38, 3) := by decide +kernel
theorem dX2_bodies_53 : decode cX2_bodies 53 = .ok (.iload_n 2, 1) := by decide +kernel
theorem dX2_bodies_54 : decode cX2_bodies 54 = .ok (.iload 4, 2) := by decide +kernel
theorem dX2_bodies_56 : decode cX2_bodies 56 = .ok (.ishr, 1) := by decide +kernel
theorem dX2_bodies_57 : decode cX2_bodies 57 = .ok (.iconst 1, 1) := by decide +kernel
theorem dX2_bodies_58 : decode cX2_bodies 58 = .ok (.iand, 1) := by decide +kernel
theorem dX2_bodies_59 : decode cX2_bodies 59 = .ok (.iconst 1, 1) := by decide +kernel
theorem dX2_bodies_60 : decode cX2_bodies 60 = .ok (.if_icmp .eq 16, 3) := by decide +kernel
theorem dX2_bodies_63 : decode cX2_bodies 63 = .ok (.aload_n 0, 1) := by decide +kernel
theorem dX2_bodies_64 : decode cX2_bodies 64 = .ok (.iload_n 2, 1) := by decide +kernel
theorem dX2_bodies_65 : decode cX2_bodies 65 = .ok (.iconst 1, 1) := by decide +kernel
theorem dX2_bodies_66 : decode cX2_bodies 66 = .ok (.iload 4, 2) := by decide +kernel
theorem dX2_bodies_68 : decode cX2_bodies 68 = .ok (.ishl, 1) := by decide +kernel
theorem dX2_bodies_69 : decode cX2_bodies 69 = .ok (.ior, 1) := by decide +kernel
theorem dX2_bodies_70 : decode cX2_bodies 70 = .ok (.invokevirtual 59, 3) := by decide +kernel
theorem dX2_bodies_73 : decode cX2_bodies 73 = .ok (.ifCond .ne 7, 3) := by decide +kernel
theorem dX2_bodies_76 : decode cX2_bodies 76 = .ok (.iconst 1, 1) := by decide +kernel
theorem dX2_bodies_77 : decode cX2_bodies 77 = .ok (.goto 4, 3) := by decide +kernel
theorem dX2_bodies_80 : decode cX2_bodies 80 = .ok (.iconst 0, 1) := by decide +kernel
theorem dX2_bodies_81 : decode cX2_bodies 81 = .ok (.istore_n 3, 1) := by decide +kernel
theorem dX2_bodies_82 : decode cX2_bodies 82 = .ok (.iinc 4 1, 3) := by decide +kernel
theorem dX2_bodies_85 : decode cX2_bodies 85 = .ok (.goto (-45), 3) := by decide +kernel
theorem dX2_bodies_88 : decode cX2_bodies 88 = .ok (.iload_n 3, 1) := by decide +kernel
theorem dX2_bodies_89 : decode cX2_bodies 89 = .ok (.ifCond .eq 9, 3) := by decide +kernel
theorem dX2_bodies_92 : decode cX2_bodies 92 = .ok (.iload_n 1, 1) := by decide +kernel
theorem dX2_bodies_93 : decode cX2_bodies 93 = .ok (.iconst 1, 1) := by decide +kernel
theorem dX2_bodies_94 : decode cX2_bodies 94 = .ok (.iadd, 1) := by decide +kernel
theorem dX2_bodies_95 : decode cX2_bodies 95 = .ok (.goto 4, 3) := by decide +kernel
theorem dX2_bodies_98 : decode cX2_bodies 98 = .ok (.iload_n 1, 1) := by decide +kernel
theorem dX2_bodies_99 : decode cX2_bodies 99 = .ok (.istore_n 1, 1) := by decide +kernel
theorem dX2_bodies_100 : decode cX2_bodies 100 = .ok (.iinc 2 1, 3) := by decide +kernel
theorem dX2_bodies_103 : decode cX2_bodies 103 = .ok (.goto (-99), 3) := by decide +kernel
theorem dX2_bodies_106 : decode cX2_bodies 106 = .ok (.iload_n 1, 1) := by decide +kernel
theorem dX2_bodies_107 : decode cX2_bodies 107 = .ok (.ireturn, 1) := by decide +kernel
theorem dX2_body_0 : decode cX2_body 0 = .ok (.iload_n 1, 1) := by decide +kernel
theorem dX2_body_1 : decode cX2_body 1 = .ok (.iconst 1, 1) := by decide +kernel
theorem dX2_body_2 : decode cX2_body 2 = .ok (.aload_n 0, 1) := by decide +kernel
theorem dX2_body_3 : decode cX2_body 3 = .ok (.getfield 20, 3) := by decide +kernel
theorem dX2_body_6 : decode cX2_body 6 = .ok (.ishl, 1) := by decide +kernel
theorem dX2_body_7 : decode cX2_body 7 = .ok (.if_icmp .ge 7, 3) := by decide +kernel
theorem dX2_body_10 : decode cX2_body 10 = .ok (.iconst 1, 1) := by decide +kernel
theorem dX2_body_11 : decode cX2_body 11 = .ok (.goto 4, 3) := by decide +kernel
theorem dX2_body_14 : decode cX2_body 14 = .ok (.iconst 0, 1) := by decide +kernel
theorem dX2_body_15 : decode cX2_body 15 = .ok (.istore_n 2, 1) := by decide +kernel
theorem dX2_body_16 : decode cX2_body 16 = .ok (.iconst 0, 1) := by decide +kernel
theorem dX2_body_17 : decode cX2_body 17 = .ok (.istore_n 3, 1) := by decide +kernel
theorem dX2_body_18 : decode cX2_body 18 = .ok (.iload_n 3, 1) := by decide +kernel
theorem dX2_body_19 : decode cX2_body 19 = .ok (.bipush 36, 2) := by decide +kernel
theorem dX2_body_21 : decode cX2_body 21 = .ok (.if_icmp .ge 81, 3) := by decide +kernel
theorem dX2_body_24 : decode cX2_body 24 = .ok (.iload_n 2, 1) := by decide +kernel
theorem dX2_body_25 : decode cX2_body 25 = .ok (.ifCond .eq 77, 3) := by decide +kernel
theorem dX2_body_28 : decode cX2_body 28 = .ok (.iload_n 3, 1) := by decide +kernel
theorem dX2_body_29 : decode cX2_body 29 = .ok (.bipush 6, 2) := by decide +kernel
theorem dX2_body_31 : decode cX2_body 31 = .ok (.idiv, 1) := by decide +kernel
theorem dX2_body_32 : decode cX2_body 32 = .ok (.istore 4, 2) := by decide +kernel
theorem dX2_body_34 : decode cX2_body 34 = .ok (.iload_n 3, 1) := by decide +kernel
theorem dX2_body_35 : decode cX2_body 35 = .ok (.bipush 6, 2) := by decide +kernel
theorem dX2_body_37 : decode cX2_body 37 = .ok (.irem, 1) := by decide +kernel
theorem dX2_body_38 : decode cX2_body 38 = .ok (.istore 5, 2) := by decide +kernel
theorem dX2_body_40 : decode cX2_body 40 = .ok (.iload 4, 2) := by decide +kernel
theorem dX2_body_42 : decode cX2_body 42 = .ok (.iload 5, 2) := by decide +kernel
theorem dX2_body_44 : decode cX2_body 44 = .ok (.if_icmp .ge 27, 3) := by decide +kernel
theorem dX2_body_47 : decode cX2_body 47 = .ok (.iload_n 1, 1) := by decide +kernel
theorem dX2_body_48 : decode cX2_body 48 = .ok (.iload 4, 2) := by decide +kernel
theorem dX2_body_50 : decode cX2_body 50 = .ok (.ishr, 1) := by decide +kernel
theorem dX2_body_51 : decode cX2_body 51 = .ok (.iconst 1, 1) := by decide +kernel
theorem dX2_body_52 : decode cX2_body 52 = .ok (.iand, 1) := by decide +kernel
theorem dX2_body_53 : decode cX2_body 53 = .ok (.iconst 1, 1) := by decide +kernel
theorem dX2_body_54 : decode cX2_body 54 = .ok (.if_icmp .ne 17, 3) := by decide +kernel
theorem dX2_body_57 : decode cX2_body 57 = .ok (.iload_n 1, 1) := by decide +kernel
theorem dX2_body_58 : decode cX2_body 58 = .ok (.iload 5, 2) := by decide +kernel
theorem dX2_body_60 : decode cX2_body 60 = .ok (.ishr, 1) := by decide +kernel
theorem dX2_body_61 : decode cX2_body 61 = .ok (.iconst 1, 1) := by decide +kernel
theorem dX2_body_62 : decode cX2_body 62 = .ok (.iand, 1) := by decide +kernel
theorem dX2_body_63 : decode cX2_body 63 = .ok (.iconst 1, 1) := by decide +kernel
theorem dX2_body_64 : decode cX2_body 64 = .ok (.if_icmp .ne 7, 3) := by decide +kernel
theorem dX2_body_67 : decode cX2_body 67 = .ok (.iconst 1, 1) := by decide +kernel
theorem dX2_body_68 : decode cX2_body 68 = .ok (.goto 4, 3) := by decide +kernel
theorem dX2_body_71 : decode cX2_body 71 = .ok (.iconst 0, 1) := by decide +kernel
theorem dX2_body_72 : decode cX2_body 72 = .ok (.istore 6, 2) := by decide +kernel
theorem dX2_body_74 : decode cX2_body 74 = .ok (.iload 6, 2) := by decide +kernel
theorem dX2_body_76 : decode cX2_body 76 = .ok (.ifCond .eq 14, 3) := by decide +kernel
theorem dX2_body_79 : decode cX2_body 79 = .ok (.aload_n 0, 1) := by decide +kernel
theorem dX2_body_80 : decode cX2_body 80 = .ok (.iload 4, 2) := by decide +kernel
theorem dX2_body_82 : decode cX2_body 82 = .ok (.iload 5, 2) := by decide +kernel
theorem dX2_body_84 : decode cX2_body 84 = .ok (.invokevirtual 55, 3) := by decide +kernel
theorem dX2_body_87 : decode cX2_body 87 = .ok (.ifCond .eq 7, 3) := by decide +kernel
theorem dX2_body_90 : decode cX2_body 90 = .ok (.iconst 1, 1) := by decide +kernel
theorem dX2_body_91 : decode cX2_body 91 = .ok (.goto 4, 3) := by decide +kernel
theorem dX2_body_94 : decode cX2_body 94 = .ok (.iconst 0, 1) := by decide +kernel
theorem dX2_body_95 : decode cX2_body 95 = .ok (.istore_n 2, 1) := by decide +kernel
theorem dX2_body_96 : decode cX2_body 96 = .ok (.iinc 3 1, 3) := by decide +kernel
theorem dX2_body_99 : decode cX2_body 99 = .ok (.goto (-81), 3) := by decide +kernel
theorem dX2_body_102 : decode cX2_body 102 = .ok (.iload_n 2, 1) := by decide +kernel
theorem dX2_body_103 : decode cX2_body 103 = .ok (.ireturn, 1) := by decide +kernel
theorem dX2_doublyHeld_0 : decode cX2_doublyHeld 0 = .ok (.aload_n 0, 1) := by decide +kernel
theorem dX2_doublyHeld_1 : decode cX2_doublyHeld 1 = .ok (.invokevirtual 62, 3) := by decide +kernel
theorem dX2_doublyHeld_4 : decode cX2_doublyHeld 4 = .ok (.istore_n 1, 1) := by decide +kernel
theorem dX2_doublyHeld_5 : decode cX2_doublyHeld 5 = .ok (.iconst 0, 1) := by decide +kernel
theorem dX2_doublyHeld_6 : decode cX2_doublyHeld 6 = .ok (.istore_n 2, 1) := by decide +kernel
theorem dX2_doublyHeld_7 : decode cX2_doublyHeld 7 = .ok (.iload_n 2, 1) := by decide +kernel
theorem dX2_doublyHeld_8 : decode cX2_doublyHeld 8 = .ok (.bipush 12, 2) := by decide +kernel
theorem dX2_doublyHeld_10 : decode cX2_doublyHeld 10 = .ok (.if_icmp .ge 36, 3) := by decide +kernel
theorem dX2_doublyHeld_13 : decode cX2_doublyHeld 13 = .ok (.iload_n 1, 1) := by decide +kernel
theorem dX2_doublyHeld_14 : decode cX2_doublyHeld 14 = .ok (.ifCond .eq 24, 3) := by decide +kernel
theorem dX2_doublyHeld_17 : decode cX2_doublyHeld 17 = .ok (.aload_n 0, 1) := by decide +kernel
theorem dX2_doublyHeld_18 : decode cX2_doublyHeld 18 = .ok (.getfield 7, 3) := by decide +kernel
theorem dX2_doublyHeld_21 : decode cX2_doublyHeld 21 = .ok (.iload_n 2, 1) := by decide +kernel
theorem dX2_doublyHeld_22 : decode cX2_doublyHeld 22 = .ok (.baload, 1) := by decide +kernel
theorem dX2_doublyHeld_23 : decode cX2_doublyHeld 23 = .ok (.ifCond .eq 11, 3) := by decide +kernel
theorem dX2_doublyHeld_26 : decode cX2_doublyHeld 26 = .ok (.aload_n 0, 1) := by decide +kernel
theorem dX2_doublyHeld_27 : decode cX2_doublyHeld 27 = .ok (.iload_n 2, 1) := by decide +kernel
theorem dX2_doublyHeld_28 : decode cX2_doublyHeld 28 = .ok (.invokevirtual 66, 3) := by decide +kernel
theorem dX2_doublyHeld_31 : decode cX2_doublyHeld 31 = .ok (.ifCond .eq 7, 3) := by decide +kernel
theorem dX2_doublyHeld_34 : decode cX2_doublyHeld 34 = .ok (.iconst 1, 1) := by decide +kernel
theorem dX2_doublyHeld_35 : decode cX2_doublyHeld 35 = .ok (.goto 4, 3) := by decide +kernel
theorem dX2_doublyHeld_38 : decode cX2_doublyHeld 38 = .ok (.iconst 0, 1) := by decide +kernel
theorem dX2_doublyHeld_39 : decode cX2_doublyHeld 39 = .ok (.istore_n 1, 1) := by decide +kernel
theorem dX2_doublyHeld_40 : decode cX2_doublyHeld 40 = .ok (.iinc 2 1, 3) := by decide +kernel
theorem dX2_doublyHeld_43 : decode cX2_doublyHeld 43 = .ok (.goto (-36), 3) := by decide +kernel
theorem dX2_doublyHeld_46 : decode cX2_doublyHeld 46 = .ok (.iload_n 1, 1) := by decide +kernel
theorem dX2_doublyHeld_47 : decode cX2_doublyHeld 47 = .ok (.ireturn, 1) := by decide +kernel
end
section
set_option maxRecDepth 100000
theorem dL_law_0 : decode cL_law 0 = .ok (.new 7, 3) := by decide +kernel
theorem dL_law_3 : decode cL_law 3 = .ok (.dup, 1) := by decide +kernel
theorem dL_law_4 : decode cL_law 4 = .ok (.aload_n 0, 1) := by decide +kernel
theorem dL_law_5 : decode cL_law 5 = .ok (.iconst 0, 1) := by decide +kernel
theorem dL_law_6 : decode cL_law 6 = .ok (.invokestatic 9, 3) := by decide +kernel
theorem dL_law_9 : decode cL_law 9 = .ok (.invokespecial 15, 3) := by decide +kernel
theorem dL_law_12 : decode cL_law 12 = .ok (.astore_n 1, 1) := by decide +kernel
theorem dL_law_13 : decode cL_law 13 = .ok (.new 18, 3) := by decide +kernel
theorem dL_law_16 : decode cL_law 16 = .ok (.dup, 1) := by decide +kernel
theorem dL_law_17 : decode cL_law 17 = .ok (.aload_n 0, 1) := by decide +kernel
theorem dL_law_18 : decode cL_law 18 = .ok (.iconst 0, 1) := by decide +kernel
theorem dL_law_19 : decode cL_law 19 = .ok (.invokestatic 9, 3) := by decide +kernel
theorem dL_law_22 : decode cL_law 22 = .ok (.invokespecial 20, 3) := by decide +kernel
theorem dL_law_25 : decode cL_law 25 = .ok (.astore_n 2, 1) := by decide +kernel
theorem dL_law_26 : decode cL_law 26 = .ok (.iconst 1, 1) := by decide +kernel
theorem dL_law_27 : decode cL_law 27 = .ok (.istore_n 3, 1) := by decide +kernel
theorem dL_law_28 : decode cL_law 28 = .ok (.iload_n 3, 1) := by decide +kernel
theorem dL_law_29 : decode cL_law 29 = .ok (.aload_n 0, 1) := by decide +kernel
theorem dL_law_30 : decode cL_law 30 = .ok (.arraylength, 1) := by decide +kernel
theorem dL_law_31 : decode cL_law 31 = .ok (.iconst 3, 1) := by decide +kernel
theorem dL_law_32 : decode cL_law 32 = .ok (.isub, 1) := by decide +kernel
theorem dL_law_33 : decode cL_law 33 = .ok (.if_icmp .gt 367, 3) := by decide +kernel
theorem dL_law_36 : decode cL_law 36 = .ok (.aload_n 0, 1) := by decide +kernel
theorem dL_law_37 : decode cL_law 37 = .ok (.iload_n 3, 1) := by decide +kernel
theorem dL_law_38 : decode cL_law 38 = .ok (.iaload, 1) := by decide +kernel
theorem dL_law_39 : decode cL_law 39 = .ok (.bipush 15, 2) := by decide +kernel
theorem dL_law_41 : decode cL_law 41 = .ok (.iand, 1) := by decide +kernel
theorem dL_law_42 : decode cL_law 42 = .ok (.tableswitch 352 0 13 #[70, 103, 126, 139, 162, 185, 198, 211, 224, 257, 280, 303, 326, 339], 70) := by decide +kernel
theorem dL_law_112 : decode cL_law 112 = .ok (.aload_n 1, 1) := by decide +kernel
theorem dL_law_113 : decode cL_law 113 = .ok (.aload_n 0, 1) := by decide +kernel
theorem dL_law_114 : decode cL_law 114 = .ok (.iload_n 3, 1) := by decide +kernel
theorem dL_law_115 : decode cL_law 115 = .ok (.iconst 1, 1) := by decide +kernel
theorem dL_law_116 : decode cL_law 116 = .ok (.iadd, 1) := by decide +kernel
theorem dL_law_117 : decode cL_law 117 = .ok (.iaload, 1) := by decide +kernel
theorem dL_law_118 : decode cL_law 118 = .ok (.aload_n 0, 1) := by decide +kernel
theorem dL_law_119 : decode cL_law 119 = .ok (.iload_n 3, 1) := by decide +kernel
theorem dL_law_120 : decode cL_law 120 = .ok (.iconst 2, 1) := by decide +kernel
theorem dL_law_121 : decode cL_law 121 = .ok (.iadd, 1) := by decide +kernel
theorem dL_law_122 : decode cL_law 122 = .ok (.iaload, 1) := by decide +kernel
theorem dL_law_123 : decode cL_law 123 = .ok (.invokevirtual 21, 3) := by decide +kernel
theorem dL_law_126 : decode cL_law 126 = .ok (.aload_n 2, 1) := by decide +kernel
theorem dL_law_127 : decode cL_law 127 = .ok (.aload_n 0, 1) := by decide +kernel
theorem dL_law_128 : decode cL_law 128 = .ok (.iload_n 3, 1) := by decide +kernel
theorem dL_law_129 : decode cL_law 129 = .ok (.iconst 1, 1) := by decide +kernel
theorem dL_law_130 : decode cL_law 130 = .ok (.iadd, 1) := by decide +kernel
theorem dL_law_131 : decode cL_law 131 = .ok (.iaload, 1) := by decide +kernel
theorem dL_law_132 : decode cL_law 132 = .ok (.aload_n 0, 1) := by decide +kernel
theorem dL_law_133 : decode cL_law 133 = .ok (.iload_n 3, 1) := by decide +kernel
theorem dL_law_134 : decode cL_law 134 = .ok (.iconst 2, 1) := by decide +kernel
theorem dL_law_135 : decode cL_law 135 = .ok (.iadd, 1) := by decide +kernel
theorem dL_law_136 : decode cL_law 136 = .ok (.iaload, 1) := by decide +kernel
theorem dL_law_137 : decode cL_law 137 = .ok (.invokevirtual 25, 3) := by decide +kernel
theorem dL_law_140 : decode cL_law 140 = .ok (.if_icmp .eq 254, 3) := by decide +kernel
theorem dL_law_143 : decode cL_law 143 = .ok (.iconst 0, 1) := by decide +kernel
theorem dL_law_144 : decode cL_law 144 = .ok (.ireturn, 1) := by decide +kernel
theorem dL_law_145 : decode cL_law 145 = .ok (.aload_n 1, 1) := by decide +kernel
theorem dL_law_146 : decode cL_law 146 = .ok (.aload_n 0, 1) := by decide +kernel
theorem dL_law_147 : decode cL_law 147 = .ok (.iload_n 3, 1) := by decide +kernel
theorem dL_law_148 : decode cL_law 148 = .ok (.iconst 1, 1) := by decide +kernel
theorem dL_law_149 : decode cL_law 149 = .ok (.iadd, 1) := by decide +kernel
theorem dL_law_150 : decode cL_law 150 = .ok (.iaload, 1) := by decide +kernel
theorem dL_law_151 : decode cL_law 151 = .ok (.invokevirtual 26, 3) := by decide +kernel
theorem dL_law_154 : decode cL_law 154 = .ok (.aload_n 2, 1) := by decide +kernel
theorem dL_law_155 : decode cL_law 155 = .ok (.aload_n 0, 1) := by decide +kernel
theorem dL_law_156 : decode cL_law 156 = .ok (.iload_n 3, 1) := by decide +kernel
theorem dL_law_157 : decode cL_law 157 = .ok (.iconst 1, 1) := by decide +kernel
theorem dL_law_158 : decode cL_law 158 = .ok (.iadd, 1) := by decide +kernel
theorem dL_law_159 : decode cL_law 159 = .ok (.iaload, 1) := by decide +kernel
theorem dL_law_160 : decode cL_law 160 = .ok (.invokevirtual 30, 3) := by decide +kernel
theorem dL_law_163 : decode cL_law 163 = .ok (.if_icmp .eq 231, 3) := by decide +kernel
theorem dL_law_166 : decode cL_law 166 = .ok (.iconst 0, 1) := by decide +kernel
theorem dL_law_167 : decode cL_law 167 = .ok (.ireturn, 1) := by decide +kernel
theorem dL_law_168 : decode cL_law 168 = .ok (.aload_n 1, 1) := by decide +kernel
theorem dL_law_169 : decode cL_law 169 = .ok (.invokevirtual 31, 3) := by decide +kernel
theorem dL_law_172 : decode cL_law 172 = .ok (.aload_n 2, 1) := by decide +kernel
theorem dL_law_173 : decode cL_law 173 = .ok (.invokevirtual 35, 3) := by decide +kernel
theorem dL_law_176 : decode cL_law 176 = .ok (.if_icmp .eq 218, 3) := by decide +kernel
end
section
set_option maxRecDepth 100000
theorem dL_law_179 : decode cL_law 179 = .ok (.iconst 0, 1) := by decide +kernel
theorem dL_law_180 : decode cL_law 180 = .ok (.ireturn, 1) := by decide +kernel
theorem dL_law_181 : decode cL_law 181 = .ok (.aload_n 1, 1) := by decide +kernel
theorem dL_law_182 : decode cL_law 182 = .ok (.aload_n 0, 1) := by decide +kernel
theorem dL_law_183 : decode cL_law 183 = .ok (.iload_n 3, 1) := by decide +kernel
theorem dL_law_184 : decode cL_law 184 = .ok (.iconst 1, 1) := by decide +kernel
theorem dL_law_185 : decode cL_law 185 = .ok (.iadd, 1) := by decide +kernel
theorem dL_law_186 : decode cL_law 186 = .ok (.iaload, 1) := by decide +kernel
theorem dL_law_187 : decode cL_law 187 = .ok (.invokevirtual 36, 3) := by decide +kernel
theorem dL_law_190 : decode cL_law 190 = .ok (.aload_n 2, 1) := by decide +kernel
theorem dL_law_191 : decode cL_law 191 = .ok (.aload_n 0, 1) := by decide +kernel
theorem dL_law_192 : decode cL_law 192 = .ok (.iload_n 3, 1) := by decide +kernel
theorem dL_law_193 : decode cL_law 193 = .ok (.iconst 1, 1) := by decide +kernel
theorem dL_law_194 : decode cL_law 194 = .ok (.iadd, 1) := by decide +kernel
theorem dL_law_195 : decode cL_law 195 = .ok (.iaload, 1) := by decide +kernel
theorem dL_law_196 : decode cL_law 196 = .ok (.invokevirtual 39, 3) := by decide +kernel
theorem dL_law_199 : decode cL_law 199 = .ok (.if_icmp .eq 195, 3) := by decide +kernel
theorem dL_law_202 : decode cL_law 202 = .ok (.iconst 0, 1) := by decide +kernel
theorem dL_law_203 : decode cL_law 203 = .ok (.ireturn, 1) := by decide +kernel
theorem dL_law_204 : decode cL_law 204 = .ok (.aload_n 1, 1) := by decide +kernel
theorem dL_law_205 : decode cL_law 205 = .ok (.aload_n 0, 1) := by decide +kernel
theorem dL_law_206 : decode cL_law 206 = .ok (.iload_n 3, 1) := by decide +kernel
theorem dL_law_207 : decode cL_law 207 = .ok (.iconst 1, 1) := by decide +kernel
theorem dL_law_208 : decode cL_law 208 = .ok (.iadd, 1) := by decide +kernel
theorem dL_law_209 : decode cL_law 209 = .ok (.iaload, 1) := by decide +kernel
theorem dL_law_210 : decode cL_law 210 = .ok (.invokevirtual 40, 3) := by decide +kernel
theorem dL_law_213 : decode cL_law 213 = .ok (.aload_n 2, 1) := by decide +kernel
theorem dL_law_214 : decode cL_law 214 = .ok (.aload_n 0, 1) := by decide +kernel
theorem dL_law_215 : decode cL_law 215 = .ok (.iload_n 3, 1) := by decide +kernel
theorem dL_law_216 : decode cL_law 216 = .ok (.iconst 1, 1) := by decide +kernel
theorem dL_law_217 : decode cL_law 217 = .ok (.iadd, 1) := by decide +kernel
theorem dL_law_218 : decode cL_law 218 = .ok (.iaload, 1) := by decide +kernel
theorem dL_law_219 : decode cL_law 219 = .ok (.invokevirtual 44, 3) := by decide +kernel
theorem dL_law_222 : decode cL_law 222 = .ok (.if_icmp .eq 172, 3) := by decide +kernel
theorem dL_law_225 : decode cL_law 225 = .ok (.iconst 0, 1) := by decide +kernel
theorem dL_law_226 : decode cL_law 226 = .ok (.ireturn, 1) := by decide +kernel
theorem dL_law_227 : decode cL_law 227 = .ok (.aload_n 1, 1) := by decide +kernel
theorem dL_law_228 : decode cL_law 228 = .ok (.invokevirtual 45, 3) := by decide +kernel
theorem dL_law_231 : decode cL_law 231 = .ok (.aload_n 2, 1) := by decide +kernel
theorem dL_law_232 : decode cL_law 232 = .ok (.invokevirtual 48, 3) := by decide +kernel
theorem dL_law_235 : decode cL_law 235 = .ok (.if_icmp .eq 159, 3) := by decide +kernel
theorem dL_law_238 : decode cL_law 238 = .ok (.iconst 0, 1) := by decide +kernel
theorem dL_law_239 : decode cL_law 239 = .ok (.ireturn, 1) := by decide +kernel
theorem dL_law_240 : decode cL_law 240 = .ok (.aload_n 1, 1) := by decide +kernel
theorem dL_law_241 : decode cL_law 241 = .ok (.invokevirtual 49, 3) := by decide +kernel
theorem dL_law_244 : decode cL_law 244 = .ok (.aload_n 2, 1) := by decide +kernel
theorem dL_law_245 : decode cL_law 245 = .ok (.invokevirtual 53, 3) := by decide +kernel
theorem dL_law_248 : decode cL_law 248 = .ok (.if_icmp .eq 146, 3) := by decide +kernel
theorem dL_law_251 : decode cL_law 251 = .ok (.iconst 0, 1) := by decide +kernel
theorem dL_law_252 : decode cL_law 252 = .ok (.ireturn, 1) := by decide +kernel
theorem dL_law_253 : decode cL_law 253 = .ok (.aload_n 1, 1) := by decide +kernel
theorem dL_law_254 : decode cL_law 254 = .ok (.invokevirtual 54, 3) := by decide +kernel
theorem dL_law_257 : decode cL_law 257 = .ok (.aload_n 2, 1) := by decide +kernel
theorem dL_law_258 : decode cL_law 258 = .ok (.invokevirtual 57, 3) := by decide +kernel
theorem dL_law_261 : decode cL_law 261 = .ok (.if_icmp .eq 133, 3) := by decide +kernel
theorem dL_law_264 : decode cL_law 264 = .ok (.iconst 0, 1) := by decide +kernel
theorem dL_law_265 : decode cL_law 265 = .ok (.ireturn, 1) := by decide +kernel
theorem dL_law_266 : decode cL_law 266 = .ok (.aload_n 1, 1) := by decide +kernel
theorem dL_law_267 : decode cL_law 267 = .ok (.aload_n 0, 1) := by decide +kernel
theorem dL_law_268 : decode cL_law 268 = .ok (.iload_n 3, 1) := by decide +kernel
theorem dL_law_269 : decode cL_law 269 = .ok (.iconst 1, 1) := by decide +kernel
theorem dL_law_270 : decode cL_law 270 = .ok (.iadd, 1) := by decide +kernel
theorem dL_law_271 : decode cL_law 271 = .ok (.iaload, 1) := by decide +kernel
theorem dL_law_272 : decode cL_law 272 = .ok (.aload_n 0, 1) := by decide +kernel
theorem dL_law_273 : decode cL_law 273 = .ok (.iload_n 3, 1) := by decide +kernel
theorem dL_law_274 : decode cL_law 274 = .ok (.iconst 2, 1) := by decide +kernel
theorem dL_law_275 : decode cL_law 275 = .ok (.iadd, 1) := by decide +kernel
theorem dL_law_276 : decode cL_law 276 = .ok (.iaload, 1) := by decide +kernel
theorem dL_law_277 : decode cL_law 277 = .ok (.invokevirtual 58, 3) := by decide +kernel
theorem dL_law_280 : decode cL_law 280 = .ok (.aload_n 2, 1) := by decide +kernel
theorem dL_law_281 : decode cL_law 281 = .ok (.aload_n 0, 1) := by decide +kernel
theorem dL_law_282 : decode cL_law 282 = .ok (.iload_n 3, 1) := by decide +kernel
theorem dL_law_283 : decode cL_law 283 = .ok (.iconst 1, 1) := by decide +kernel
theorem dL_law_284 : decode cL_law 284 = .ok (.iadd, 1) := by decide +kernel
theorem dL_law_285 : decode cL_law 285 = .ok (.iaload, 1) := by decide +kernel
theorem dL_law_286 : decode cL_law 286 = .ok (.aload_n 0, 1) := by decide +kernel
theorem dL_law_287 : decode cL_law 287 = .ok (.iload_n 3, 1) := by decide +kernel
end
section
set_option maxRecDepth 100000
theorem dL_law_288 : decode cL_law 288 = .ok (.iconst 2, 1) := by decide +kernel
theorem dL_law_289 : decode cL_law 289 = .ok (.iadd, 1) := by decide +kernel
theorem dL_law_290 : decode cL_law 290 = .ok (.iaload, 1) := by decide +kernel
theorem dL_law_291 : decode cL_law 291 = .ok (.invokevirtual 62, 3) := by decide +kernel
theorem dL_law_294 : decode cL_law 294 = .ok (.if_icmp .eq 100, 3) := by decide +kernel
theorem dL_law_297 : decode cL_law 297 = .ok (.iconst 0, 1) := by decide +kernel
theorem dL_law_298 : decode cL_law 298 = .ok (.ireturn, 1) := by decide +kernel
theorem dL_law_299 : decode cL_law 299 = .ok (.aload_n 1, 1) := by decide +kernel
theorem dL_law_300 : decode cL_law 300 = .ok (.aload_n 0, 1) := by decide +kernel
theorem dL_law_301 : decode cL_law 301 = .ok (.iload_n 3, 1) := by decide +kernel
theorem dL_law_302 : decode cL_law 302 = .ok (.iconst 1, 1) := by decide +kernel
theorem dL_law_303 : decode cL_law 303 = .ok (.iadd, 1) := by decide +kernel
theorem dL_law_304 : decode cL_law 304 = .ok (.iaload, 1) := by decide +kernel
theorem dL_law_305 : decode cL_law 305 = .ok (.invokevirtual 63, 3) := by decide +kernel
theorem dL_law_308 : decode cL_law 308 = .ok (.aload_n 2, 1) := by decide +kernel
theorem dL_law_309 : decode cL_law 309 = .ok (.aload_n 0, 1) := by decide +kernel
theorem dL_law_310 : decode cL_law 310 = .ok (.iload_n 3, 1) := by decide +kernel
theorem dL_law_311 : decode cL_law 311 = .ok (.iconst 1, 1) := by decide +kernel
theorem dL_law_312 : decode cL_law 312 = .ok (.iadd, 1) := by decide +kernel
theorem dL_law_313 : decode cL_law 313 = .ok (.iaload, 1) := by decide +kernel
theorem dL_law_314 : decode cL_law 314 = .ok (.invokevirtual 66, 3) := by decide +kernel
theorem dL_law_317 : decode cL_law 317 = .ok (.if_icmp .eq 77, 3) := by decide +kernel
theorem dL_law_320 : decode cL_law 320 = .ok (.iconst 0, 1) := by decide +kernel
theorem dL_law_321 : decode cL_law 321 = .ok (.ireturn, 1) := by decide +kernel
theorem dL_law_322 : decode cL_law 322 = .ok (.aload_n 1, 1) := by decide +kernel
theorem dL_law_323 : decode cL_law 323 = .ok (.aload_n 0, 1) := by decide +kernel
theorem dL_law_324 : decode cL_law 324 = .ok (.iload_n 3, 1) := by decide +kernel
theorem dL_law_325 : decode cL_law 325 = .ok (.iconst 1, 1) := by decide +kernel
theorem dL_law_326 : decode cL_law 326 = .ok (.iadd, 1) := by decide +kernel
theorem dL_law_327 : decode cL_law 327 = .ok (.iaload, 1) := by decide +kernel
theorem dL_law_328 : decode cL_law 328 = .ok (.invokevirtual 67, 3) := by decide +kernel
theorem dL_law_331 : decode cL_law 331 = .ok (.aload_n 2, 1) := by decide +kernel
theorem dL_law_332 : decode cL_law 332 = .ok (.aload_n 0, 1) := by decide +kernel
theorem dL_law_333 : decode cL_law 333 = .ok (.iload_n 3, 1) := by decide +kernel
theorem dL_law_334 : decode cL_law 334 = .ok (.iconst 1, 1) := by decide +kernel
theorem dL_law_335 : decode cL_law 335 = .ok (.iadd, 1) := by decide +kernel
theorem dL_law_336 : decode cL_law 336 = .ok (.iaload, 1) := by decide +kernel
theorem dL_law_337 : decode cL_law 337 = .ok (.invokevirtual 70, 3) := by decide +kernel
theorem dL_law_340 : decode cL_law 340 = .ok (.if_icmp .eq 54, 3) := by decide +kernel
theorem dL_law_343 : decode cL_law 343 = .ok (.iconst 0, 1) := by decide +kernel
theorem dL_law_344 : decode cL_law 344 = .ok (.ireturn, 1) := by decide +kernel
theorem dL_law_345 : decode cL_law 345 = .ok (.aload_n 1, 1) := by decide +kernel
theorem dL_law_346 : decode cL_law 346 = .ok (.aload_n 0, 1) := by decide +kernel
theorem dL_law_347 : decode cL_law 347 = .ok (.iload_n 3, 1) := by decide +kernel
theorem dL_law_348 : decode cL_law 348 = .ok (.iconst 1, 1) := by decide +kernel
theorem dL_law_349 : decode cL_law 349 = .ok (.iadd, 1) := by decide +kernel
theorem dL_law_350 : decode cL_law 350 = .ok (.iaload, 1) := by decide +kernel
theorem dL_law_351 : decode cL_law 351 = .ok (.invokevirtual 71, 3) := by decide +kernel
theorem dL_law_354 : decode cL_law 354 = .ok (.aload_n 2, 1) := by decide +kernel
theorem dL_law_355 : decode cL_law 355 = .ok (.aload_n 0, 1) := by decide +kernel
theorem dL_law_356 : decode cL_law 356 = .ok (.iload_n 3, 1) := by decide +kernel
theorem dL_law_357 : decode cL_law 357 = .ok (.iconst 1, 1) := by decide +kernel
theorem dL_law_358 : decode cL_law 358 = .ok (.iadd, 1) := by decide +kernel
theorem dL_law_359 : decode cL_law 359 = .ok (.iaload, 1) := by decide +kernel
theorem dL_law_360 : decode cL_law 360 = .ok (.invokevirtual 74, 3) := by decide +kernel
theorem dL_law_363 : decode cL_law 363 = .ok (.if_icmp .eq 31, 3) := by decide +kernel
theorem dL_law_366 : decode cL_law 366 = .ok (.iconst 0, 1) := by decide +kernel
theorem dL_law_367 : decode cL_law 367 = .ok (.ireturn, 1) := by decide +kernel
theorem dL_law_368 : decode cL_law 368 = .ok (.aload_n 1, 1) := by decide +kernel
theorem dL_law_369 : decode cL_law 369 = .ok (.invokevirtual 75, 3) := by decide +kernel
theorem dL_law_372 : decode cL_law 372 = .ok (.aload_n 2, 1) := by decide +kernel
theorem dL_law_373 : decode cL_law 373 = .ok (.invokevirtual 78, 3) := by decide +kernel
theorem dL_law_376 : decode cL_law 376 = .ok (.if_icmp .eq 18, 3) := by decide +kernel
theorem dL_law_379 : decode cL_law 379 = .ok (.iconst 0, 1) := by decide +kernel
theorem dL_law_380 : decode cL_law 380 = .ok (.ireturn, 1) := by decide +kernel
theorem dL_law_381 : decode cL_law 381 = .ok (.aload_n 1, 1) := by decide +kernel
theorem dL_law_382 : decode cL_law 382 = .ok (.invokevirtual 79, 3) := by decide +kernel
theorem dL_law_385 : decode cL_law 385 = .ok (.aload_n 2, 1) := by decide +kernel
theorem dL_law_386 : decode cL_law 386 = .ok (.invokevirtual 82, 3) := by decide +kernel
theorem dL_law_389 : decode cL_law 389 = .ok (.if_icmp .eq 5, 3) := by decide +kernel
theorem dL_law_392 : decode cL_law 392 = .ok (.iconst 0, 1) := by decide +kernel
theorem dL_law_393 : decode cL_law 393 = .ok (.ireturn, 1) := by decide +kernel
theorem dL_law_394 : decode cL_law 394 = .ok (.iinc 3 3, 3) := by decide +kernel
theorem dL_law_397 : decode cL_law 397 = .ok (.goto (-369), 3) := by decide +kernel
theorem dL_law_400 : decode cL_law 400 = .ok (.iconst 1, 1) := by decide +kernel
theorem dL_law_401 : decode cL_law 401 = .ok (.ireturn, 1) := by decide +kernel
end
section
/-! counting below a bound: how many, all, sums -/
def cn_ : Nat → (Nat → Bool) → Nat
  | 0, _ => 0
  | n + 1, f => cn_ n f + (f n).toNat
def al_ : Nat → (Nat → Bool) → Bool
  | 0, _ => true
  | n + 1, f => al_ n f && f n
def sm_ : Nat → (Nat → Nat) → Nat
  | 0, _ => 0
  | n + 1, f => sm_ n f + f n
def up_ (f : Nat → Nat) (k v : Nat) : Nat → Nat := fun j => if j = k then v else f j
theorem up_s {f : Nat → Nat} {k v : Nat} : up_ f k v k = v := by simp [up_]
theorem up_n {f : Nat → Nat} {k v j : Nat} (h : j ≠ k) : up_ f k v j = f j := by simp [up_, h]
theorem up_comm {f : Nat → Nat} {k v j w : Nat} (h : j ≠ k) : up_ (up_ f j w) k v = up_ (up_ f k v) j w := by
  funext i
  unfold up_
  by_cases h1 : i = k
  · by_cases h2 : i = j
    · exact absurd (h2.symm.trans h1) h
    · simp [h1, show ¬ k = j from fun e => h e.symm]
  · by_cases h2 : i = j
    · simp [h2, h]
    · simp [h1, h2]
theorem up_id {f : Nat → Nat} {k v : Nat} (h : f k = v) : up_ f k v = f := by
  funext i
  unfold up_
  by_cases h1 : i = k
  · simp [h1, h]
  · simp [h1]
theorem up_up {f : Nat → Nat} {k v w : Nat} : up_ (up_ f k v) k w = up_ f k w := by
  funext i
  unfold up_
  by_cases h1 : i = k
  · simp [h1]
  · simp [h1]
theorem up_lt {f : Nat → Nat} {k v n N : Nat} (h : ∀ i, i < n → f i < N) (hv : v < N) : ∀ i, i < n → up_ f k v i < N := by
  intro i hi
  unfold up_
  by_cases h1 : i = k
  · simp [h1, hv]
  · simp [h1, h i hi]
theorem cn_s (n : Nat) (f : Nat → Bool) : cn_ (n + 1) f = cn_ n f + (f n).toNat := rfl
theorem sm_s (n : Nat) (f : Nat → Nat) : sm_ (n + 1) f = sm_ n f + f n := rfl
theorem al_s (n : Nat) (f : Nat → Bool) : al_ (n + 1) f = (al_ n f && f n) := rfl
theorem cn_congr {f g : Nat → Bool} {n : Nat} (h : ∀ i, i < n → f i = g i) : cn_ n f = cn_ n g := by
  induction n with
  | zero => rfl
  | succ n ih =>
    rw [cn_s, cn_s, ih (fun i hi => h i (by omega)), h n (by omega)]
theorem cn_mono {f g : Nat → Bool} {n : Nat} (h : ∀ i, i < n → f i = true → g i = true) : cn_ n f ≤ cn_ n g := by
  induction n with
  | zero => exact Nat.le_refl _
  | succ n ih =>
    have h1 := ih (fun i hi => h i (by omega))
    have h2 := h n (by omega)
    have h3 : (f n).toNat ≤ (g n).toNat := by
      revert h2
      cases f n <;> cases g n <;> simp
    rw [cn_s, cn_s]
    omega
theorem cn_oa (f g : Nat → Bool) (n : Nat) : cn_ n (fun i => f i || g i) + cn_ n (fun i => f i && g i) = cn_ n f + cn_ n g := by
  induction n with
  | zero => rfl
  | succ n ih =>
    have h : (f n || g n).toNat + (f n && g n).toNat = (f n).toNat + (g n).toNat := by
      cases f n <;> cases g n <;> rfl
    simp only [cn_s]
    omega
theorem cn_le (f : Nat → Bool) (n : Nat) : cn_ n f ≤ n := by
  induction n with
  | zero => exact Nat.le_refl _
  | succ n ih =>
    have h : (f n).toNat ≤ 1 := by cases f n <;> simp
    rw [cn_s]
    omega
theorem cn_chg {f g : Nat → Bool} {k n : Nat} (hk : k < n) (h : ∀ i, i < n → i ≠ k → g i = f i) : cn_ n g + (f k).toNat = cn_ n f + (g k).toNat := by
  induction n with
  | zero => omega
  | succ n ih =>
    rw [cn_s, cn_s]
    by_cases e : k = n
    · subst e
      rw [cn_congr (fun i hi => h i (by omega) (by omega))]
      omega
    · have h1 := ih (by omega) (fun i hi hn => h i (by omega) hn)
      rw [h n (by omega) (fun q => e q.symm)]
      omega
theorem cn_pos {f : Nat → Bool} {n : Nat} (h : 1 ≤ cn_ n f) : ∃ i, i < n ∧ f i = true := by
  induction n with
  | zero => exact absurd h (by simp [cn_])
  | succ n ih =>
    cases hf : f n with
    | true => exact ⟨n, by omega, hf⟩
    | false =>
      rw [cn_s, hf] at h
      obtain ⟨i, hi, h2⟩ := ih (by simpa using h)
      exact ⟨i, by omega, h2⟩
theorem cn_one {f : Nat → Bool} {n k : Nat} (hk : k < n) (h : f k = true) : 1 ≤ cn_ n f := by
  induction n with
  | zero => omega
  | succ n ih =>
    rw [cn_s]
    by_cases e : k = n
    · subst e
      rw [h]
      simp
    · have := ih (by omega)
      omega
theorem cn_two {f : Nat → Bool} {n i j : Nat} (hij : i ≠ j) (hi : i < n) (hj : j < n) (h1 : f i = true) (h2 : f j = true) : 2 ≤ cn_ n f := by
  induction n with
  | zero => omega
  | succ n ih =>
    rw [cn_s]
    by_cases e : i = n
    · subst e
      have := cn_one (f := f) (n := i) (k := j) (by omega) h2
      rw [h1]
      simp
      omega
    · by_cases e2 : j = n
      · subst e2
        have := cn_one (f := f) (n := j) (k := i) (by omega) h1
        rw [h2]
        simp
        omega
      · have := ih (by omega) (by omega)
        omega
theorem cn_lt {f : Nat → Bool} {n k : Nat} (hk : k < n) (h : f k = false) : cn_ n f < n := by
  induction n with
  | zero => omega
  | succ n ih =>
    rw [cn_s]
    have hb : (f n).toNat ≤ 1 := by cases f n <;> simp
    by_cases e : k = n
    · subst e
      have := cn_le f k
      rw [h]
      simp
      omega
    · have := ih (by omega)
      omega
theorem cn_zero {f : Nat → Bool} {n : Nat} (h : ∀ i, i < n → f i = false) : cn_ n f = 0 := by
  rcases Nat.eq_zero_or_pos (cn_ n f) with e | e
  · exact e
  · obtain ⟨i, hi, h2⟩ := cn_pos e
    rw [h i hi] at h2
    cases h2
theorem al_iff {n : Nat} {f : Nat → Bool} : al_ n f = true ↔ ∀ i, i < n → f i = true := by
  induction n with
  | zero => exact ⟨fun _ i hi => by omega, fun _ => rfl⟩
  | succ n ih =>
    rw [al_s, Bool.and_eq_true, ih]
    constructor
    · intro h i hi
      by_cases e : i = n
      · subst e
        exact h.2
      · exact h.1 i (by omega)
    · intro h
      exact ⟨fun i hi => h i (by omega), h n (by omega)⟩
theorem al_stop {n i : Nat} {f : Nat → Bool} (hi : i < n) (h : f i = false) : al_ n f = false := by
  cases e : al_ n f with
  | false => rfl
  | true =>
    rw [al_iff.mp e i hi] at h
    cases h
theorem al_congr {f g : Nat → Bool} {n : Nat} (h : ∀ i, i < n → f i = g i) : al_ n f = al_ n g := by
  induction n with
  | zero => rfl
  | succ n ih =>
    rw [al_s, al_s, ih (fun i hi => h i (by omega)), h n (by omega)]
theorem sm_congr {f g : Nat → Nat} {n : Nat} (h : ∀ i, i < n → f i = g i) : sm_ n f = sm_ n g := by
  induction n with
  | zero => rfl
  | succ n ih =>
    rw [sm_s, sm_s, ih (fun i hi => h i (by omega)), h n (by omega)]
theorem sm_le {f g : Nat → Nat} {n : Nat} (h : ∀ i, i < n → f i ≤ g i) : sm_ n f ≤ sm_ n g := by
  induction n with
  | zero => exact Nat.le_refl _
  | succ n ih =>
    have h1 := ih (fun i hi => h i (by omega))
    have h2 := h n (by omega)
    rw [sm_s, sm_s]
    omega
theorem sm_add (f g : Nat → Nat) (n : Nat) : sm_ n (fun i => f i + g i) = sm_ n f + sm_ n g := by
  induction n with
  | zero => rfl
  | succ n ih =>
    rw [sm_s, sm_s, sm_s, ih]
    omega
theorem sm_0 (n : Nat) : sm_ n (fun _ => 0) = 0 := by
  induction n with
  | zero => rfl
  | succ n ih => rw [sm_s, ih]
theorem sm_pick {n c x : Nat} (hc : c < n) : sm_ n (fun v => if v = c then x else 0) = x := by
  induction n with
  | zero => omega
  | succ n ih =>
    rw [sm_s]
    by_cases e : c = n
    · subst e
      rw [sm_congr (g := fun _ => 0) (fun i hi => by simp [show i ≠ c by omega]), sm_0]
      simp
    · rw [ih (by omega)]
      simp [show n ≠ c by omega]
theorem sm_two (g : Nat → Bool) (n : Nat) : sm_ n (fun v => if g v = true then 2 else 0) = 2 * cn_ n g := by
  induction n with
  | zero => rfl
  | succ n ih =>
    rw [sm_s, cn_s, ih]
    cases g n <;> simp <;> omega
/-- bars by the joint that they go out from -/
theorem sm_out {N : Nat} (g t : Nat → Bool) (fr : Nat → Nat) {n : Nat} (h : ∀ i, i < n → t i = true → fr i < N) : sm_ N (fun v => if g v = true then cn_ n (fun i => t i && (fr i == v)) else 0) = cn_ n (fun i => t i && g (fr i)) := by
  induction n with
  | zero =>
    rw [sm_congr (g := fun _ => 0) (fun i hi => by simp [cn_]), sm_0]
    rfl
  | succ n ih =>
    have h1 := ih (fun i hi => h i (by omega))
    have e : sm_ N (fun v => if g v = true then cn_ (n + 1) (fun i => t i && (fr i == v)) else 0) = sm_ N (fun v => (if g v = true then cn_ n (fun i => t i && (fr i == v)) else 0) + (if v = fr n then (t n && g (fr n)).toNat else 0)) := by
      refine sm_congr (fun v hv => ?_)
      rw [cn_s]
      by_cases q : v = fr n
      · subst q
        cases g (fr n) <;> cases t n <;> simp
      · have q2 : (fr n == v) = false := by simp [show ¬ fr n = v from fun z => q z.symm]
        simp [q, q2]
    rw [e, sm_add, h1, cn_s]
    cases ht : t n with
    | true => rw [sm_pick (h n (by omega) ht)]
    | false =>
      have : sm_ N (fun v => if v = fr n then (false && g (fr n)).toNat else 0) = 0 := by
        rw [sm_congr (g := fun _ => 0) (fun i hi => by simp), sm_0]
      rw [this]
      simp
theorem sm_swap (n m : Nat) (f : Nat → Nat → Nat) : sm_ n (fun i => sm_ m (fun j => f i j)) = sm_ m (fun j => sm_ n (fun i => f i j)) := by
  induction n with
  | zero => exact (sm_0 m).symm
  | succ n ih =>
    rw [sm_s, ih, ← sm_add]
    rfl
theorem cn_sm (n : Nat) (f : Nat → Bool) : cn_ n f = sm_ n (fun i => (f i).toNat) := by
  induction n with
  | zero => rfl
  | succ n ih => rw [cn_s, sm_s, ih]
end
section
/-! sets of bars as bits: bars inside a group, loose sets, the bars that are taken -/
theorem tb_p (k i : Nat) : (2 ^ k).testBit i = decide (k = i) := Nat.testBit_two_pow
theorem tb_or (T k i : Nat) : (T ||| 2 ^ k).testBit i = (T.testBit i || decide (k = i)) := by rw [Nat.testBit_or, tb_p]
/-- a set without the bars of another -/
def an_ (S M : Nat) : Nat := S ^^^ (S &&& M)
theorem an_tb (S M i : Nat) : (an_ S M).testBit i = (S.testBit i && !(M.testBit i)) := by
  unfold an_
  rw [Nat.testBit_xor, Nat.testBit_and]
  cases S.testBit i <;> cases M.testBit i <;> rfl
theorem lt_tb {S n : Nat} (h : ∀ i, n ≤ i → S.testBit i = false) : S < 2 ^ n := Nat.lt_pow_two_of_testBit S (fun i hi => h i hi)
theorem tb_lt {S n i : Nat} (h : S < 2 ^ n) (hi : n ≤ i) : S.testBit i = false := Nat.testBit_lt_two_pow (Nat.lt_of_lt_of_le h (Nat.pow_le_pow_right (by decide) hi))
theorem tb_in {S n i : Nat} (h : S < 2 ^ n) (hi : S.testBit i = true) : i < n := by
  rcases Nat.lt_or_ge i n with q | q
  · exact q
  · rw [tb_lt h q] at hi
    cases hi
theorem an_lt {S M n : Nat} (h : S < 2 ^ n) : an_ S M < 2 ^ n := lt_tb (fun i hi => by rw [an_tb, tb_lt h hi]; rfl)
theorem or_lt {S M n : Nat} (h : S < 2 ^ n) (h2 : M < 2 ^ n) : S ||| M < 2 ^ n := Nat.or_lt_two_pow h h2
theorem p_lt {k n : Nat} (h : k < n) : 2 ^ k < 2 ^ n := Nat.pow_lt_pow_right (by decide) h
def bi_ (A B : Nat → Nat) (S G : Nat) : Nat := cn_ 13 (fun k => S.testBit k && (G.testBit (A k) && G.testBit (B k)))
def sz_ (G : Nat) : Nat := cn_ 13 (fun k => G.testBit k)
def lo_ (J : Nat) (A B : Nat → Nat) (S : Nat) : Bool := al_ (2 ^ J) (fun G => decide (sz_ G < 2) || decide (bi_ A B S G + 3 ≤ 2 * sz_ G))
def ft_ (J : Nat) (A B : Nat → Nat) (T a b : Nat) : Bool := al_ (2 ^ J) (fun G => !(G.testBit a && G.testBit b) || decide (bi_ A B T G + 4 ≤ 2 * sz_ G))
def tk_ (J : Nat) (A B : Nat → Nat) (S : Nat) : Nat → Nat
  | 0 => 0
  | k + 1 => if S.testBit k && lo_ J A B (tk_ J A B S k ||| 2 ^ k) then tk_ J A B S k ||| 2 ^ k else tk_ J A B S k
theorem tk_s (J : Nat) (A B : Nat → Nat) (S k : Nat) : tk_ J A B S (k + 1) = if S.testBit k && lo_ J A B (tk_ J A B S k ||| 2 ^ k) then tk_ J A B S k ||| 2 ^ k else tk_ J A B S k := rfl
theorem lo_iff {J : Nat} {A B : Nat → Nat} {S : Nat} : lo_ J A B S = true ↔ ∀ G, G < 2 ^ J → 2 ≤ sz_ G → bi_ A B S G + 3 ≤ 2 * sz_ G := by
  unfold lo_
  rw [al_iff]
  constructor
  · intro h G hG h2
    have h3 := h G hG
    simp only [Bool.or_eq_true, decide_eq_true_eq] at h3
    omega
  · intro h G hG
    simp only [Bool.or_eq_true, decide_eq_true_eq]
    have h3 := h G hG
    omega
theorem ft_iff {J : Nat} {A B : Nat → Nat} {T a b : Nat} : ft_ J A B T a b = true ↔ ∀ G, G < 2 ^ J → G.testBit a = true → G.testBit b = true → bi_ A B T G + 4 ≤ 2 * sz_ G := by
  unfold ft_
  rw [al_iff]
  constructor
  · intro h G hG h1 h2
    have h3 := h G hG
    rw [h1, h2] at h3
    simpa using h3
  · intro h G hG
    have h3 := h G hG
    cases h1 : G.testBit a with
    | false => simp
    | true =>
      cases h2 : G.testBit b with
      | false => simp
      | true => simpa using h3 h1 h2
theorem ft_sym (J : Nat) (A B : Nat → Nat) (T a b : Nat) : ft_ J A B T a b = ft_ J A B T b a := by
  unfold ft_
  refine al_congr (fun G _ => ?_)
  cases G.testBit a <;> cases G.testBit b <;> rfl
theorem bi_mono {A B : Nat → Nat} {S S' G : Nat} (h : ∀ i, S.testBit i = true → S'.testBit i = true) : bi_ A B S G ≤ bi_ A B S' G := by
  refine cn_mono (fun i _ => ?_)
  simp only [Bool.and_eq_true]
  exact fun q => ⟨h i q.1, q.2⟩
theorem bi_or {A B : Nat → Nat} {T k G : Nat} (hk : k < 13) (h : T.testBit k = false) : bi_ A B (T ||| 2 ^ k) G = bi_ A B T G + (G.testBit (A k) && G.testBit (B k)).toNat := by
  have h1 := cn_chg (f := fun i => T.testBit i && (G.testBit (A i) && G.testBit (B i))) (g := fun i => (T ||| 2 ^ k).testBit i && (G.testBit (A i) && G.testBit (B i))) hk (fun i hi hn => by
    try dsimp only
    rw [tb_or]
    simp [show ¬ k = i from fun q => hn q.symm])
  try dsimp only at h1
  rw [h, tb_or] at h1
  simp only [Bool.false_and, Bool.toNat_false, Nat.add_zero, decide_true, Bool.or_true, Bool.true_and] at h1
  unfold bi_
  rw [h1]
theorem bi_congr {A B A' B' : Nat → Nat} {S G : Nat} (h : ∀ i, i < 13 → S.testBit i = true → A i = A' i ∧ B i = B' i) : bi_ A B S G = bi_ A' B' S G := by
  refine cn_congr (fun i hi => ?_)
  cases e : S.testBit i with
  | false => rfl
  | true => rw [(h i hi e).1, (h i hi e).2]
theorem lo_congr {J : Nat} {A B A' B' : Nat → Nat} {S : Nat} (h : ∀ i, i < 13 → S.testBit i = true → A i = A' i ∧ B i = B' i) : lo_ J A B S = lo_ J A' B' S := by
  unfold lo_
  refine al_congr (fun G _ => ?_)
  rw [bi_congr h]
theorem ft_congr {J : Nat} {A B A' B' : Nat → Nat} {T a b : Nat} (h : ∀ i, i < 13 → T.testBit i = true → A i = A' i ∧ B i = B' i) : ft_ J A B T a b = ft_ J A' B' T a b := by
  unfold ft_
  refine al_congr (fun G _ => ?_)
  rw [bi_congr h]
theorem lo_mono {J : Nat} {A B : Nat → Nat} {S S' : Nat} (h : ∀ i, S.testBit i = true → S'.testBit i = true) (hl : lo_ J A B S' = true) : lo_ J A B S = true := by
  rw [lo_iff] at hl ⊢
  intro G hG h2
  have := hl G hG h2
  have := bi_mono (A := A) (B := B) (G := G) h
  omega
theorem sz_two {G a b : Nat} (hab : a ≠ b) (ha : a < 13) (hb : b < 13) (h1 : G.testBit a = true) (h2 : G.testBit b = true) : 2 ≤ sz_ G := cn_two hab ha hb h1 h2
theorem lo_0 (J : Nat) (A B : Nat → Nat) : lo_ J A B 0 = true := by
  rw [lo_iff]
  intro G hG h2
  have : bi_ A B 0 G = 0 := cn_zero (fun i _ => by simp)
  omega
/-- one bar more -/
theorem lo_add {J : Nat} {A B : Nat → Nat} {T k : Nat} (hk : k < 13) (h : T.testBit k = false) (hn : A k ≠ B k) (ha : A k < 13) (hb : B k < 13) : lo_ J A B (T ||| 2 ^ k) = (lo_ J A B T && ft_ J A B T (A k) (B k)) := by
  rw [Bool.eq_iff_iff, Bool.and_eq_true, lo_iff, lo_iff, ft_iff]
  constructor
  · intro q
    refine ⟨fun G hG h2 => ?_, fun G hG h1 h2 => ?_⟩
    · have := q G hG h2
      rw [bi_or hk h] at this
      omega
    · have := q G hG (sz_two hn ha hb h1 h2)
      rw [bi_or hk h, h1, h2] at this
      simp at this
      omega
  · intro q G hG h2
    rw [bi_or hk h]
    have q1 := q.1 G hG h2
    cases h1 : G.testBit (A k) with
    | false => simpa using q1
    | true =>
      cases h2 : G.testBit (B k) with
      | false => simpa using q1
      | true =>
        have q2 := q.2 G hG h1 h2
        simp
        omega
theorem tk_lt (J : Nat) (A B : Nat → Nat) (S k : Nat) : tk_ J A B S k < 2 ^ k := by
  induction k with
  | zero => exact Nat.lt_of_lt_of_le (show tk_ J A B S 0 < 1 from Nat.lt_succ_self 0) (Nat.le_refl _)
  | succ k ih =>
    have h1 : tk_ J A B S k < 2 ^ (k + 1) := Nat.lt_trans ih (p_lt (Nat.lt_succ_self k))
    rw [tk_s]
    split
    · exact or_lt h1 (p_lt (Nat.lt_succ_self k))
    · exact h1
theorem tk_sub (J : Nat) (A B : Nat → Nat) (S k i : Nat) (h : (tk_ J A B S k).testBit i = true) : S.testBit i = true := by
  induction k with
  | zero =>
    rw [show tk_ J A B S 0 = 0 from rfl] at h
    simp at h
  | succ k ih =>
    rw [tk_s] at h
    split at h
    · next q =>
      rw [tb_or, Bool.or_eq_true, decide_eq_true_eq] at h
      rcases h with h | h
      · exact ih h
      · rw [← h]
        exact (Bool.and_eq_true _ _ ▸ q).1
    · exact ih h
theorem tk_lo (J : Nat) (A B : Nat → Nat) (S k : Nat) : lo_ J A B (tk_ J A B S k) = true := by
  induction k with
  | zero => exact lo_0 J A B
  | succ k ih =>
    rw [tk_s]
    split
    · next q => exact (Bool.and_eq_true _ _ ▸ q).2
    · exact ih
theorem tk_no {J : Nat} {A B : Nat → Nat} {S k : Nat} : (tk_ J A B S k).testBit k = false := tb_lt (tk_lt J A B S k) (Nat.le_refl k)
/-- a bar of the set is taken when four pebbles can be had for it -/
theorem tk_step {J : Nat} {A B : Nat → Nat} {S k : Nat} (hk : k < 13) (hs : S.testBit k = true) (hn : A k ≠ B k) (ha : A k < 13) (hb : B k < 13) : tk_ J A B S (k + 1) = if ft_ J A B (tk_ J A B S k) (A k) (B k) = true then tk_ J A B S k ||| 2 ^ k else tk_ J A B S k := by
  rw [tk_s, lo_add hk tk_no hn ha hb, tk_lo, hs]
  simp
theorem tk_skip {J : Nat} {A B : Nat → Nat} {S k : Nat} (hs : S.testBit k = false) : tk_ J A B S (k + 1) = tk_ J A B S k := by
  rw [tk_s, hs]
  simp
theorem tk_12 {J : Nat} {A B : Nat → Nat} {S : Nat} (hS : S < 4096) : tk_ J A B S 13 = tk_ J A B S 12 := tk_skip (tb_lt (n := 12) hS (Nat.le_refl 12))
theorem tk_all {J : Nat} {A B : Nat → Nat} {S : Nat} (h : lo_ J A B S = true) (k i : Nat) : (tk_ J A B S k).testBit i = (decide (i < k) && S.testBit i) := by
  induction k generalizing i with
  | zero =>
    rw [show tk_ J A B S 0 = 0 from rfl]
    simp
  | succ k ih =>
    cases hs : S.testBit k with
    | false =>
      rw [tk_skip hs, ih]
      by_cases e : i = k
      · subst e
        simp [hs]
      · have : (i < k + 1) ↔ (i < k) := by omega
        simp [this]
    | true =>
      have hm : lo_ J A B (tk_ J A B S k ||| 2 ^ k) = true := by
        refine lo_mono (S' := S) (fun j hj => ?_) h
        rw [tb_or, Bool.or_eq_true, decide_eq_true_eq] at hj
        rcases hj with hj | hj
        · exact tk_sub J A B S k j hj
        · rw [← hj]
          exact hs
      rw [tk_s, hs, hm]
      simp only [Bool.and_self, ↓reduceIte]
      rw [tb_or, ih]
      by_cases e : i = k
      · subst e
        simp [hs]
      · have h1 : (i < k + 1) ↔ (i < k) := by omega
        have h2 : ¬ k = i := fun q => e q.symm
        simp [h1, h2]
theorem tk_free {J : Nat} {A B : Nat → Nat} {S n : Nat} (hS : S < 2 ^ n) : tk_ J A B S n = S ↔ lo_ J A B S = true := by
  constructor
  · intro h
    rw [← h]
    exact tk_lo J A B S n
  · intro h
    apply Nat.eq_of_testBit_eq
    intro i
    rw [tk_all h]
    rcases Nat.lt_or_ge i n with q | q
    · simp [q]
    · rw [tb_lt hS q]
      simp
theorem tk_congr {J : Nat} {A B A' B' : Nat → Nat} {S : Nat} (h : ∀ i, i < 13 → S.testBit i = true → A i = A' i ∧ B i = B' i) (k : Nat) : tk_ J A B S k = tk_ J A' B' S k := by
  induction k with
  | zero => rfl
  | succ k ih =>
    cases hs : S.testBit k with
    | false => rw [tk_skip hs, tk_skip hs, ih]
    | true =>
      rw [tk_s, tk_s, ih, lo_congr (S := tk_ J A' B' S k ||| 2 ^ k) (A := A) (B := B) (A' := A') (B' := B') (fun i hi hb => by
        rw [tb_or, Bool.or_eq_true, decide_eq_true_eq] at hb
        rcases hb with hb | hb
        · exact h i hi (tk_sub J A' B' S k i hb)
        · exact h i hi (by rw [← hb]; exact hs))]
/-- what bar 12 is makes no difference to sets of the first 12 -/
theorem up12 {A B : Nat → Nat} {S x y : Nat} (hS : S < 4096) : ∀ i, i < 13 → S.testBit i = true → up_ A 12 x i = A i ∧ up_ B 12 y i = B i := by
  intro i _ hb
  have := tb_in (n := 12) hS hb
  exact ⟨up_n (by omega), up_n (by omega)⟩
/-- only the bars below k of the set count for the first k steps -/
theorem tk_low {J : Nat} {A B : Nat → Nat} {S S' : Nat} (k : Nat) (h : ∀ i, i < k → S.testBit i = S'.testBit i) : tk_ J A B S k = tk_ J A B S' k := by
  induction k with
  | zero => rfl
  | succ k ih =>
    rw [tk_s, tk_s, ih (fun i hi => h i (by omega)), h k (by omega)]
/-- the thought-of bar: it counts when four pebbles can be had for it -/
theorem tk_held {J : Nat} {A B : Nat → Nat} {P a b : Nat} (hP : P < 4096) (hn : a ≠ b) (ha : a < 13) (hb : b < 13) :
    (sz_ (tk_ J (up_ A 12 a) (up_ B 12 b) (P ||| 4096) 13) = sz_ (tk_ J (up_ A 12 a) (up_ B 12 b) P 13)) ↔ ft_ J A B (tk_ J A B P 12) a b = false := by
  have e1 : tk_ J (up_ A 12 a) (up_ B 12 b) P 13 = tk_ J A B P 12 := by
    rw [tk_congr (up12 hP), tk_12 hP]
  have e2 : tk_ J (up_ A 12 a) (up_ B 12 b) (P ||| 4096) 12 = tk_ J A B P 12 := by
    rw [tk_low (S' := P) 12 (fun i hi => by
      rw [show (4096 : Nat) = 2 ^ 12 from rfl, tb_or]
      simp [show ¬ 12 = i by omega]), tk_congr (up12 hP)]
  have hb12 : (P ||| 4096).testBit 12 = true := by
    rw [show (4096 : Nat) = 2 ^ 12 from rfl, tb_or]
    simp
  rw [e1, tk_step (k := 12) (by omega) hb12 (by rw [up_s, up_s]; exact hn) (by rw [up_s]; exact ha) (by rw [up_s]; exact hb), e2, up_s, up_s]
  have e3 : ft_ J (up_ A 12 a) (up_ B 12 b) (tk_ J A B P 12) a b = ft_ J A B (tk_ J A B P 12) a b := ft_congr (up12 (tk_lt J A B P 12))
  rw [e3]
  cases e : ft_ J A B (tk_ J A B P 12) a b with
  | false => simp
  | true =>
    simp only [↓reduceIte]
    have h1 := cn_chg (f := fun i => (tk_ J A B P 12).testBit i) (g := fun i => (tk_ J A B P 12 ||| 2 ^ 12).testBit i) (k := 12) (n := 13) (by omega) (fun i hi hq => by
      try dsimp only
      rw [tb_or]
      simp [show ¬ 12 = i by omega])
    try dsimp only at h1
    rw [tk_no, tb_or] at h1
    simp only [Bool.toNat_false, Nat.add_zero, decide_true, Bool.or_true, Bool.toNat_true] at h1
    unfold sz_
    constructor
    · intro q
      omega
    · intro q
      cases q
end
section
/-! the pebble game: its count, what four pebbles at two joints say, what a stuck search says, turning bars around -/
theorem cn_ext {f : Nat → Bool} {n m : Nat} (hnm : n ≤ m) (h : ∀ i, n ≤ i → i < m → f i = false) : cn_ m f = cn_ n f := by
  induction m with
  | zero =>
    rw [show n = 0 by omega]
  | succ m ih =>
    by_cases e : n = m + 1
    · rw [e]
    · rw [cn_s, ih (by omega) (fun i h1 h2 => h i h1 (by omega)), h m (by omega) (by omega)]
      rfl
theorem sz_6 {G : Nat} (h : G < 64) : sz_ G = cn_ 6 (fun k => G.testBit k) := cn_ext (by decide) (fun i hi _ => tb_lt (n := 6) h hi)
theorem bi_12 {A B : Nat → Nat} {T G : Nat} (h : T < 4096) : bi_ A B T G = cn_ 12 (fun k => T.testBit k && (G.testBit (A k) && G.testBit (B k))) := cn_ext (by decide) (fun i hi _ => by rw [tb_lt (n := 12) h hi]; rfl)
/-- the taken bars lie as they were given, or turned around -/
def pi_ (J : Nat) (A B : Nat → Nat) (T : Nat) (fr to : Nat → Nat) : Prop :=
  T < 4096 ∧ ∀ i, i < 12 → T.testBit i = true → ((fr i = A i ∧ to i = B i) ∨ (fr i = B i ∧ to i = A i)) ∧ A i < J ∧ B i < J ∧ A i ≠ B i
/-- two pebbles a joint: on it, on a bar out of it, or owed (d) -/
def df_ (T : Nat) (fr pb d : Nat → Nat) : Prop := ∀ v, v < 6 → pb v + cn_ 12 (fun i => T.testBit i && (fr i == v)) + d v = 2
theorem pb_sum {T : Nat} {fr pb : Nat → Nat} (h : df_ T fr pb (fun _ => 0)) (hf : ∀ i, i < 12 → T.testBit i = true → fr i < 6) (G : Nat) :
    sm_ 6 (fun v => if G.testBit v = true then pb v else 0) + cn_ 12 (fun i => T.testBit i && G.testBit (fr i)) = 2 * cn_ 6 (fun v => G.testBit v) := by
  rw [← sm_out (fun v => G.testBit v) (fun i => T.testBit i) fr (N := 6) hf, ← sm_two, ← sm_add]
  refine sm_congr (fun v hv => ?_)
  have := h v hv
  cases G.testBit v with
  | false => simp
  | true =>
    simp
    simp at this
    exact this
theorem pi_fr {J : Nat} {A B : Nat → Nat} {T : Nat} {fr to : Nat → Nat} (hJ : J ≤ 6) (h : pi_ J A B T fr to) : ∀ i, i < 12 → T.testBit i = true → fr i < 6 ∧ fr i < J ∧ to i < J := by
  intro i hi ht
  obtain ⟨h1, h2, h3, -⟩ := h.2 i hi ht
  rcases h1 with ⟨e1, e2⟩ | ⟨e1, e2⟩
  · rw [e1, e2]; omega
  · rw [e1, e2]; omega
theorem pw_64 {J G : Nat} (hJ : J ≤ 6) (h : G < 2 ^ J) : G < 64 := Nat.lt_of_lt_of_le h (Nat.pow_le_pow_right (n := 2) (by decide) hJ)
/-- four pebbles at a and b -/
theorem pb_fit {J : Nat} {A B : Nat → Nat} {T : Nat} {fr to pb : Nat → Nat} {a b : Nat} (hJ : J ≤ 6) (h : pi_ J A B T fr to) (hd : df_ T fr pb (fun _ => 0)) (hab : a ≠ b) (ha : a < 6) (hb : b < 6) (pa : pb a = 2) (pb' : pb b = 2) : ft_ J A B T a b = true := by
  rw [ft_iff]
  intro G hG h1 h2
  have hs := pb_sum hd (fun i hi ht => (pi_fr hJ h i hi ht).1) G
  have h64 := pw_64 hJ hG
  rw [sz_6 h64, bi_12 h.1]
  have hm : cn_ 12 (fun k => T.testBit k && (G.testBit (A k) && G.testBit (B k))) ≤ cn_ 12 (fun i => T.testBit i && G.testBit (fr i)) := by
    refine cn_mono (fun i hi => ?_)
    simp only [Bool.and_eq_true]
    intro q
    refine ⟨q.1, ?_⟩
    rcases (h.2 i hi q.1).1 with ⟨e1, -⟩ | ⟨e1, -⟩
    · rw [e1]; exact q.2.1
    · rw [e1]; exact q.2.2
  have hp : sm_ 6 (fun v => (if v = a then 2 else 0) + (if v = b then 2 else 0)) ≤ sm_ 6 (fun v => if G.testBit v = true then pb v else 0) := by
    refine sm_le (fun v hv => ?_)
    by_cases e1 : v = a
    · subst e1
      simp [hab, h1, pa]
    · by_cases e2 : v = b
      · subst e2
        simp [e1, h2, pb']
      · simp [e1, e2]
  rw [sm_add, sm_pick ha, sm_pick hb] at hp
  omega
/-- a set of joints that no taken bar leaves, with no pebble in it but at a and b -/
def st_ (J T : Nat) (fr to pb : Nat → Nat) (a b R : Nat) : Prop := R < 2 ^ J ∧ R.testBit a = true ∧ (∀ i, i < 12 → T.testBit i = true → R.testBit (fr i) = true → R.testBit (to i) = true) ∧ ∀ v, R.testBit v = true → v ≠ a → v ≠ b → pb v = 0
theorem pb_stuck {J : Nat} {A B : Nat → Nat} {T : Nat} {fr to pb : Nat → Nat} {a b R : Nat} (hJ : J ≤ 6) (h : pi_ J A B T fr to) (hd : df_ T fr pb (fun _ => 0)) (hl : lo_ J A B T = true) (hab : a ≠ b) (ha : a < 6) (hb : b < 6) (pa : pb a ≤ 1) (hR : st_ J T fr to pb a b R) : ft_ J A B T a b = false := by
  cases hf : ft_ J A B T a b with
  | false => rfl
  | true =>
    exfalso
    rw [ft_iff] at hf
    rw [lo_iff] at hl
    obtain ⟨r1, r2, r3, r4⟩ := hR
    have hs := pb_sum hd (fun i hi ht => (pi_fr hJ h i hi ht).1) R
    have h64 := pw_64 hJ r1
    have hm : cn_ 12 (fun i => T.testBit i && R.testBit (fr i)) ≤ cn_ 12 (fun k => T.testBit k && (R.testBit (A k) && R.testBit (B k))) := by
      refine cn_mono (fun i hi => ?_)
      simp only [Bool.and_eq_true]
      intro q
      have q2 := r3 i hi q.1 q.2
      refine ⟨q.1, ?_⟩
      rcases (h.2 i hi q.1).1 with ⟨e1, e2⟩ | ⟨e1, e2⟩
      · rw [← e1, ← e2]; exact ⟨q.2, q2⟩
      · rw [← e1, ← e2]; exact ⟨q2, q.2⟩
    have hbi := bi_12 (A := A) (B := B) (G := R) h.1
    have hsz := sz_6 h64
    have hpb : pb b ≤ 2 := by
      have := hd b hb
      omega
    cases hRb : R.testBit b with
    | true =>
      have hq := hf R r1 r2 hRb
      have hp : sm_ 6 (fun v => if R.testBit v = true then pb v else 0) ≤ sm_ 6 (fun v => (if v = a then pb a else 0) + (if v = b then pb b else 0)) := by
        refine sm_le (fun v hv => ?_)
        by_cases e1 : v = a
        · subst e1
          simp [r2]
        · by_cases e2 : v = b
          · subst e2
            simp [hRb]
          · cases e3 : R.testBit v with
            | false => simp
            | true =>
              rw [r4 v e3 e1 e2]
              simp
      rw [sm_add, sm_pick ha, sm_pick hb] at hp
      omega
    | false =>
      have hp : sm_ 6 (fun v => if R.testBit v = true then pb v else 0) ≤ sm_ 6 (fun v => if v = a then pb a else 0) := by
        refine sm_le (fun v hv => ?_)
        by_cases e1 : v = a
        · subst e1
          simp [r2]
        · cases e3 : R.testBit v with
          | false => simp
          | true =>
            have e2 : v ≠ b := by
              intro q
              rw [q, hRb] at e3
              cases e3
            rw [r4 v e3 e1 e2]
            simp
      rw [sm_pick ha] at hp
      have h1 : 1 ≤ cn_ 6 (fun k => R.testBit k) := cn_one ha r2
      obtain ⟨i, hi, hq⟩ := cn_pos (n := 12) (f := fun k => T.testBit k && (R.testBit (A k) && R.testBit (B k))) (by omega)
      simp only [Bool.and_eq_true] at hq
      obtain ⟨-, g2, g3, g4⟩ := h.2 i hi hq.1
      have h2 := sz_two g4 (by omega) (by omega) hq.2.1 hq.2.2
      have h3 := hl R r1 h2
      omega
theorem pb_le {T : Nat} {fr pb d : Nat → Nat} (h : df_ T fr pb d) : ∀ v, v < 6 → pb v ≤ 2 := by
  intro v hv
  have := h v hv
  omega
/-! turning a path around -/
theorem df_take {T : Nat} {fr pb : Nat → Nat} {v : Nat} (h : df_ T fr pb (fun _ => 0)) (hv : 1 ≤ pb v) : df_ T fr (up_ pb v (pb v - 1)) (fun u => if u = v then 1 else 0) := by
  intro u hu
  have := h u hu
  by_cases e : u = v
  · subst e
    rw [up_s]
    simp
    simp at this
    omega
  · rw [up_n e]
    simp [e]
    simp at this
    exact this
theorem df_give {T : Nat} {fr pb : Nat → Nat} {a : Nat} (h : df_ T fr pb (fun u => if u = a then 1 else 0)) : df_ T fr (up_ pb a (pb a + 1)) (fun _ => 0) := by
  intro u hu
  have := h u hu
  by_cases e : u = a
  · subst e
    rw [up_s]
    simp at this
    simp
    omega
  · rw [up_n e]
    simp [e] at this
    simp
    exact this
theorem df_flip {T : Nat} {fr pb : Nat → Nat} {i w : Nat} (hi : i < 12) (ht : T.testBit i = true) (hw : fr i ≠ w) (h : df_ T fr pb (fun u => if u = w then 1 else 0)) : df_ T (up_ fr i w) pb (fun u => if u = fr i then 1 else 0) := by
  intro v hv
  have h0 := h v hv
  have h1 := cn_chg (f := fun k => T.testBit k && (fr k == v)) (g := fun k => T.testBit k && (up_ fr i w k == v)) hi (fun k _ hk => by
    try dsimp only
    rw [up_n hk])
  try dsimp only at h1 h0 ⊢
  rw [up_s, ht] at h1
  by_cases e1 : v = w
  · subst e1
    have e2 : ¬ v = fr i := fun q => hw q.symm
    have b1 : (fr i == v) = false := beq_false_of_ne hw
    rw [b1] at h1
    simp only [Bool.and_false, Bool.toNat_false, Nat.add_zero, beq_self_eq_true, Bool.and_true, Bool.toNat_true] at h1
    rw [if_pos rfl] at h0
    rw [if_neg e2]
    omega
  · by_cases e2 : v = fr i
    · subst e2
      have b1 : (w == fr i) = false := beq_false_of_ne (fun q => hw q.symm)
      rw [b1] at h1
      simp only [Bool.and_false, Bool.toNat_false, Nat.add_zero, beq_self_eq_true, Bool.and_true, Bool.toNat_true] at h1
      rw [if_neg hw] at h0
      rw [if_pos rfl]
      omega
    · have b1 : (w == v) = false := beq_false_of_ne (fun q => e1 q.symm)
      have b2 : (fr i == v) = false := beq_false_of_ne (fun q => e2 q.symm)
      rw [b1, b2] at h1
      rw [if_neg e1] at h0
      rw [if_neg e2]
      omega
theorem pi_flip {J : Nat} {A B : Nat → Nat} {T : Nat} {fr to : Nat → Nat} {i : Nat} (h : pi_ J A B T fr to) : pi_ J A B T (up_ fr i (to i)) (up_ to i (fr i)) := by
  refine ⟨h.1, fun k hk ht => ?_⟩
  obtain ⟨h1, h2⟩ := h.2 k hk ht
  refine ⟨?_, h2⟩
  by_cases e : k = i
  · subst e
    rw [up_s, up_s]
    rcases h1 with ⟨e1, e2⟩ | ⟨e1, e2⟩
    · exact Or.inr ⟨e2, e1⟩
    · exact Or.inl ⟨e2, e1⟩
  · rw [up_n e, up_n e]
    exact h1
/-- the way back from the joint w, at place j of the line, to a -/
def tr_ (T : Nat) (fr to bY ln : Nat → Nat) (a w j : Nat) : Prop := ln 0 = a ∧ ln j = w ∧ (∀ i i', i ≤ j → i' ≤ j → ln i = ln i' → i = i') ∧ ∀ x, 1 ≤ x → x ≤ j → bY (ln x) < 12 ∧ T.testBit (bY (ln x)) = true ∧ to (bY (ln x)) = ln x ∧ ∃ y, y < x ∧ fr (bY (ln x)) = ln y
theorem tr_step {T : Nat} {fr to bY ln : Nat → Nat} {a w j : Nat} (h : tr_ T fr to bY ln a w j) (hw : w ≠ a) : 1 ≤ j ∧ bY w < 12 ∧ T.testBit (bY w) = true ∧ to (bY w) = w ∧ fr (bY w) ≠ w ∧ ∃ y, y < j ∧ tr_ T (up_ fr (bY w) (to (bY w))) (up_ to (bY w) (fr (bY w))) bY ln a (fr (bY w)) y := by
  obtain ⟨h1, h2, h3, h4⟩ := h
  have hj : 1 ≤ j := by
    rcases Nat.eq_zero_or_pos j with e | e
    · exact absurd (by rw [← h2, e, h1]) hw
    · exact e
  obtain ⟨g1, g2, g3, y, g4, g5⟩ := h4 j hj (Nat.le_refl j)
  rw [h2] at g1 g2 g3 g5
  refine ⟨hj, g1, g2, g3, ?_, y, g4, h1, g5.symm, fun i i' hi hi' => h3 i i' (by omega) (by omega), fun x hx hxy => ?_⟩
  · intro q
    rw [g5, ← h2] at q
    have := h3 y j (by omega) (Nat.le_refl j) q
    omega
  · obtain ⟨k1, k2, k3, z, k4, k5⟩ := h4 x hx (by omega)
    have hne : bY (ln x) ≠ bY w := by
      intro q
      rw [q, g3, ← h2] at k3
      have := h3 j x (Nat.le_refl j) (by omega) k3
      omega
    rw [up_n hne, up_n hne]
    exact ⟨k1, k2, k3, z, k4, k5⟩
/-! the search -/
/-- the line has e joints, each reached by a taken bar from an earlier one -/
def bf_ (J T : Nat) (fr to : Nat → Nat) (a re : Nat) (bY ln : Nat → Nat) (e : Nat) : Prop :=
  1 ≤ e ∧ ln 0 = a ∧ cn_ 6 (fun w => re.testBit w) = e ∧ (∀ w, re.testBit w = true → w < J ∧ ∃ j, j < e ∧ ln j = w) ∧ (∀ j, j < e → re.testBit (ln j) = true) ∧ (∀ i j, i < e → j < e → ln i = ln j → i = j) ∧ ∀ x, 1 ≤ x → x < e → bY (ln x) < 12 ∧ T.testBit (bY (ln x)) = true ∧ to (bY (ln x)) = ln x ∧ ∃ y, y < x ∧ fr (bY (ln x)) = ln y
theorem bf_0 {J T : Nat} {fr to : Nat → Nat} {a : Nat} {bY ln : Nat → Nat} (hJ : J ≤ 6) (ha : a < J) : bf_ J T fr to a (2 ^ a) bY (up_ ln 0 a) 1 := by
  refine ⟨Nat.le_refl 1, up_s, ?_, fun w hw => ?_, fun j hj => ?_, fun i j hi hj _ => by omega, fun x h1 h2 => by omega⟩
  · have h1 := cn_chg (f := fun _ => false) (g := fun w => (2 ^ a).testBit w) (k := a) (n := 6) (by omega) (fun i hi hn => by
      try dsimp only
      rw [tb_p]
      simp [show ¬ a = i from fun q => hn q.symm])
    try dsimp only at h1
    rw [cn_zero (f := fun _ => false) (fun _ _ => rfl), tb_p] at h1
    simpa using h1
  · rw [tb_p, decide_eq_true_eq] at hw
    exact ⟨by omega, 0, by omega, by rw [up_s]; exact hw⟩
  · rw [show j = 0 by omega, up_s, tb_p]
    simp
theorem bf_le {J T : Nat} {fr to : Nat → Nat} {a re : Nat} {bY ln : Nat → Nat} {e : Nat} (h : bf_ J T fr to a re bY ln e) : e ≤ 6 := by
  rw [← h.2.2.1]
  exact cn_le _ _
theorem bf_add {J T : Nat} {fr to : Nat → Nat} {a re : Nat} {bY ln : Nat → Nat} {e i k : Nat} (hJ : J ≤ 6) (h : bf_ J T fr to a re bY ln e) (hi : i < 12) (ht : T.testBit i = true) (hk : k < e) (hf : fr i = ln k) (hr : re.testBit (to i) = false) (ho : to i < J) : e < 6 ∧ bf_ J T fr to a (re ||| 2 ^ (to i)) (up_ bY (to i) i) (up_ ln e (to i)) (e + 1) := by
  obtain ⟨h1, h2, h3, h4, h5, h6, h7⟩ := h
  have he : e < 6 := by
    rw [← h3]
    exact cn_lt (k := to i) (by omega) hr
  have hne : ∀ j, j < e → ln j ≠ to i := by
    intro j hj q
    have := h5 j hj
    rw [q, hr] at this
    cases this
  refine ⟨he, by omega, by rw [up_n (by omega)]; exact h2, ?_, fun w hw => ?_, fun j hj => ?_, fun x y hx hy q => ?_, fun x hx1 hx2 => ?_⟩
  · have c := cn_chg (f := fun w => re.testBit w) (g := fun w => (re ||| 2 ^ (to i)).testBit w) (k := to i) (n := 6) (by omega) (fun w hw hn => by
      try dsimp only
      rw [tb_or]
      simp [show ¬ to i = w from fun q => hn q.symm])
    try dsimp only at c
    rw [hr, tb_or] at c
    simp only [Bool.toNat_false, Nat.add_zero, decide_true, Bool.or_true, Bool.toNat_true] at c
    omega
  · rw [tb_or, Bool.or_eq_true, decide_eq_true_eq] at hw
    rcases hw with hw | hw
    · obtain ⟨g1, j, g2, g3⟩ := h4 w hw
      exact ⟨g1, j, by omega, by rw [up_n (by omega)]; exact g3⟩
    · exact ⟨by omega, e, by omega, by rw [up_s]; exact hw⟩
  · rw [tb_or]
    by_cases q : j = e
    · rw [q, up_s]
      simp
    · rw [up_n q, h5 j (by omega)]
      rfl
  · by_cases ex : x = e
    · by_cases ey : y = e
      · rw [ex, ey]
      · rw [ex, up_s, up_n ey] at q
        exact absurd q.symm (hne y (by omega))
    · by_cases ey : y = e
      · rw [ey, up_s, up_n ex] at q
        exact absurd q (hne x (by omega))
      · rw [up_n ex, up_n ey] at q
        exact h6 x y (by omega) (by omega) q
  · by_cases ex : x = e
    · rw [ex, up_s, up_s]
      exact ⟨hi, ht, rfl, k, hk, by rw [up_n (by omega)]; exact hf⟩
    · rw [up_n ex, up_n (hne x (by omega))]
      obtain ⟨g1, g2, g3, y, g4, g5⟩ := h7 x hx1 (by omega)
      exact ⟨g1, g2, g3, y, g4, by rw [up_n (by omega)]; exact g5⟩
/-- the joints of the line below k have no pebble to give, and all that they lead to is reached -/
def pr_ (T : Nat) (fr to pb : Nat → Nat) (a b re : Nat) (ln : Nat → Nat) (k : Nat) : Prop := ∀ j, j < k → (ln j = a ∨ ln j = b ∨ pb (ln j) = 0) ∧ ∀ i, i < 12 → T.testBit i = true → fr i = ln j → re.testBit (to i) = true
/-- the same of the joint v at k, as far as the bars below n go -/
def pn_ (T : Nat) (fr to pb : Nat → Nat) (a b re v n : Nat) : Prop := (v = a ∨ v = b ∨ pb v = 0) ∧ ∀ i, i < n → T.testBit i = true → fr i = v → re.testBit (to i) = true
theorem pr_add {T : Nat} {fr to pb : Nat → Nat} {a b re : Nat} {ln : Nat → Nat} {k e x : Nat} (hk : k ≤ e) (h : pr_ T fr to pb a b re ln k) : pr_ T fr to pb a b (re ||| 2 ^ x) (up_ ln e x) k := by
  intro j hj
  obtain ⟨h1, h2⟩ := h j hj
  rw [up_n (by omega)]
  refine ⟨h1, fun i hi ht hf => ?_⟩
  rw [tb_or, h2 i hi ht hf]
  rfl
theorem pn_add {T : Nat} {fr to pb : Nat → Nat} {a b re v n : Nat} (h : pn_ T fr to pb a b re v n) : pn_ T fr to pb a b (re ||| 2 ^ (to n)) v (n + 1) := by
  refine ⟨h.1, fun i hi ht hf => ?_⟩
  rw [tb_or]
  by_cases e : i = n
  · rw [e]
    simp
  · rw [h.2 i (by omega) ht hf]
    rfl
theorem pn_skip {T : Nat} {fr to pb : Nat → Nat} {a b re v n : Nat} (h : pn_ T fr to pb a b re v n) (hs : T.testBit n = true → fr n = v → re.testBit (to n) = true) : pn_ T fr to pb a b re v (n + 1) := by
  refine ⟨h.1, fun i hi ht hf => ?_⟩
  by_cases e : i = n
  · rw [e] at ht hf ⊢
    exact hs ht hf
  · exact h.2 i (by omega) ht hf
theorem pr_next {T : Nat} {fr to pb : Nat → Nat} {a b re : Nat} {ln : Nat → Nat} {k : Nat} (h : pr_ T fr to pb a b re ln k) (hn : pn_ T fr to pb a b re (ln k) 12) : pr_ T fr to pb a b re ln (k + 1) := by
  intro j hj
  by_cases e : j = k
  · rw [e]
    exact hn
  · exact h j (by omega)
theorem bf_stuck {J T : Nat} {fr to pb : Nat → Nat} {a b re : Nat} {bY ln : Nat → Nat} {e : Nat} (h : bf_ J T fr to a re bY ln e) (hp : pr_ T fr to pb a b re ln e) : st_ J T fr to pb a b re := by
  obtain ⟨h1, h2, h3, h4, h5, h6, h7⟩ := h
  refine ⟨lt_tb (fun i hi => ?_), ?_, fun i hi ht hf => ?_, fun v hv n1 n2 => ?_⟩
  · cases q : re.testBit i with
    | false => rfl
    | true =>
      have := (h4 i q).1
      omega
  · rw [← h2]
    exact h5 0 h1
  · obtain ⟨-, j, g1, g2⟩ := h4 _ hf
    exact (hp j g1).2 i hi ht g2.symm
  · obtain ⟨-, j, g1, g2⟩ := h4 v hv
    have := (hp j g1).1
    rw [g2] at this
    rcases this with q | q | q
    · exact absurd q n1
    · exact absurd q n2
    · exact q
theorem bf_tr {J T : Nat} {fr to : Nat → Nat} {a re : Nat} {bY ln : Nat → Nat} {e k : Nat} (h : bf_ J T fr to a re bY ln e) (hk : k < e) : tr_ T fr to bY ln a (ln k) k := by
  obtain ⟨h1, h2, h3, h4, h5, h6, h7⟩ := h
  exact ⟨h2, rfl, fun i i' hi hi' => h6 i i' (by omega) (by omega), fun x hx hxk => h7 x hx (by omega)⟩
/-- every number in the scratch arrays is small -/
def sf_ (T : Nat) (fr to pb : Nat → Nat) (re : Nat) (bY ln : Nat → Nat) : Prop := T < 4096 ∧ (∀ i, i < 12 → fr i < 6) ∧ (∀ i, i < 12 → to i < 6) ∧ (∀ v, v < 6 → pb v ≤ 2) ∧ re < 64 ∧ (∀ v, v < 6 → bY v < 12) ∧ ∀ k, k < 8 → ln k < 6
/-- offering a bar: four pebbles at its ends, and it is taken -/
theorem pi_put {J : Nat} {A B : Nat → Nat} {T : Nat} {fr to : Nat → Nat} {k : Nat} (h : pi_ J A B T fr to) (hk : k < 12) (ha : A k < J) (hb : B k < J) (hn : A k ≠ B k) : pi_ J A B (T ||| 2 ^ k) (up_ fr k (A k)) (up_ to k (B k)) := by
  refine ⟨or_lt (n := 12) h.1 (p_lt hk), fun i hi ht => ?_⟩
  by_cases e : i = k
  · rw [e, up_s, up_s]
    exact ⟨Or.inl ⟨rfl, rfl⟩, ha, hb, hn⟩
  · rw [up_n e, up_n e]
    rw [tb_or] at ht
    simp [show ¬ k = i from fun q => e q.symm] at ht
    exact h.2 i hi ht
theorem df_put {T : Nat} {fr pb : Nat → Nat} {k a : Nat} (hk : k < 12) (ht : T.testBit k = false) (h : df_ T fr pb (fun _ => 0)) (ha : 1 ≤ pb a) : df_ (T ||| 2 ^ k) (up_ fr k a) (up_ pb a (pb a - 1)) (fun _ => 0) := by
  intro v hv
  have h0 := h v hv
  have h1 := cn_chg (f := fun i => T.testBit i && (fr i == v)) (g := fun i => (T ||| 2 ^ k).testBit i && (up_ fr k a i == v)) hk (fun i _ hn => by
    try dsimp only
    rw [up_n hn, tb_or]
    simp [show ¬ k = i from fun q => hn q.symm])
  try dsimp only at h1 h0 ⊢
  rw [up_s, ht, tb_or] at h1
  simp only [Bool.false_and, Bool.toNat_false, Nat.add_zero, decide_true, Bool.or_true, Bool.true_and] at h1
  by_cases e : v = a
  · subst e
    rw [up_s]
    rw [beq_self_eq_true, Bool.toNat_true] at h1
    omega
  · have b1 : (a == v) = false := beq_false_of_ne (fun q => e q.symm)
    rw [up_n e]
    rw [b1, Bool.toNat_false] at h1
    omega
theorem df_0 {fr pb : Nat → Nat} (h : ∀ v, v < 6 → pb v = 2) : df_ 0 fr pb (fun _ => 0) := by
  intro v hv
  show pb v + _ + 0 = 2
  rw [h v hv, cn_zero (fun i _ => by simp)]
theorem pi_0 {J : Nat} {A B fr to : Nat → Nat} : pi_ J A B 0 fr to := ⟨by decide, fun i _ ht => by simp at ht⟩
end
section
/-! rigid groups of joints: joints that are held to each other in pairs lie in one -/
/-- the bars of T join different joints -/
def ev_ (A B : Nat → Nat) (T : Nat) : Prop := ∀ i, i < 13 → T.testBit i = true → A i < 6 ∧ B i < 6 ∧ A i ≠ B i
def tt_ (J : Nat) (A B : Nat → Nat) (T G : Nat) : Prop := G < 2 ^ J ∧ 2 ≤ sz_ G ∧ bi_ A B T G + 3 = 2 * sz_ G
theorem sz_oa (X Y : Nat) : sz_ (X ||| Y) + sz_ (X &&& Y) = sz_ X + sz_ Y := by
  unfold sz_
  rw [← cn_oa (fun k => X.testBit k) (fun k => Y.testBit k) 13]
  congr 1
  · exact cn_congr (fun i _ => Nat.testBit_or _ _ _)
  · exact cn_congr (fun i _ => Nat.testBit_and _ _ _)
theorem sz_mono {X Y : Nat} (h : ∀ i, X.testBit i = true → Y.testBit i = true) : sz_ X ≤ sz_ Y := cn_mono (fun i _ => h i)
theorem sz_one {G a : Nat} (ha : a < 13) (h : G.testBit a = true) : 1 ≤ sz_ G := cn_one (f := fun k => G.testBit k) ha h
/-- bars inside X, and inside Y -/
theorem bi_oa (A B : Nat → Nat) (T X Y : Nat) : bi_ A B T X + bi_ A B T Y ≤ bi_ A B T (X ||| Y) + bi_ A B T (X &&& Y) := by
  unfold bi_
  rw [← cn_oa (fun k => T.testBit k && (X.testBit (A k) && X.testBit (B k))) (fun k => T.testBit k && (Y.testBit (A k) && Y.testBit (B k))) 13]
  refine Nat.add_le_add (cn_mono (fun i _ => ?_)) (cn_mono (fun i _ => ?_))
  · simp only [Nat.testBit_or, Bool.or_eq_true, Bool.and_eq_true]
    rintro (q | q)
    · exact ⟨q.1, Or.inl q.2.1, Or.inl q.2.2⟩
    · exact ⟨q.1, Or.inr q.2.1, Or.inr q.2.2⟩
  · simp only [Nat.testBit_and, Bool.and_eq_true]
    exact fun q => ⟨q.1.1, ⟨q.1.2.1, q.2.2.1⟩, ⟨q.1.2.2, q.2.2.2⟩⟩
theorem bi_none {A B : Nat → Nat} {T G : Nat} (hv : ev_ A B T) (h : sz_ G ≤ 1) : bi_ A B T G = 0 := by
  rcases Nat.eq_zero_or_pos (bi_ A B T G) with e | e
  · exact e
  · obtain ⟨i, hi, q⟩ := cn_pos e
    simp only [Bool.and_eq_true] at q
    obtain ⟨g1, g2, g3⟩ := hv i hi q.1
    have := sz_two g3 (by omega) (by omega) q.2.1 q.2.2
    omega
theorem and_lt {X Y n : Nat} (h : X < 2 ^ n) : X &&& Y < 2 ^ n := lt_tb (fun i hi => by rw [Nat.testBit_and, tb_lt h hi]; rfl)
theorem tt_or {J : Nat} {A B : Nat → Nat} {T X Y : Nat} (hl : lo_ J A B T = true) (hX : tt_ J A B T X) (hY : tt_ J A B T Y) (h : 2 ≤ sz_ (X &&& Y)) : tt_ J A B T (X ||| Y) := by
  rw [lo_iff] at hl
  have h1 := sz_oa X Y
  have h2 := bi_oa A B T X Y
  have h3 := hl (X &&& Y) (and_lt hX.1) h
  have h4 : X ||| Y < 2 ^ J := or_lt hX.1 hY.1
  have h5 : sz_ X ≤ sz_ (X ||| Y) := sz_mono (fun i q => by rw [Nat.testBit_or, q]; rfl)
  have h6 := hX.2.1
  have h7 := hX.2.2
  have h8 := hY.2.2
  have h9 := hl (X ||| Y) h4 (by omega)
  exact ⟨h4, by omega, by omega⟩
theorem or_l {X Y a : Nat} (h : X.testBit a = true) : (X ||| Y).testBit a = true := by rw [Nat.testBit_or, h]; rfl
theorem or_r {X Y a : Nat} (h : Y.testBit a = true) : (X ||| Y).testBit a = true := by rw [Nat.testBit_or, h]; exact Bool.or_true _
theorem and_i {X Y a : Nat} (h1 : X.testBit a = true) (h2 : Y.testBit a = true) : (X &&& Y).testBit a = true := by rw [Nat.testBit_and, h1, h2]; rfl
/-- three groups that share a joint in pairs -/
theorem tt_tri {J : Nat} {A B : Nat → Nat} {T X Y Z a b c : Nat} (hl : lo_ J A B T = true) (hv : ev_ A B T) (hX : tt_ J A B T X) (hY : tt_ J A B T Y) (hZ : tt_ J A B T Z) (ha : a < 13) (hb : b < 13) (hc : c < 13) (hac : a ≠ c)
    (xa : X.testBit a = true) (xb : X.testBit b = true) (yb : Y.testBit b = true) (yc : Y.testBit c = true) (za : Z.testBit a = true) (zc : Z.testBit c = true) :
    ∃ W, tt_ J A B T W ∧ W.testBit a = true ∧ W.testBit b = true ∧ W.testBit c = true := by
  by_cases h1 : 2 ≤ sz_ (X &&& Y)
  · exact ⟨_, tt_or hl hX hY h1, or_l xa, or_l xb, or_r yc⟩
  by_cases h2 : 2 ≤ sz_ (X &&& Z)
  · exact ⟨_, tt_or hl hX hZ h2, or_l xa, or_l xb, or_r zc⟩
  by_cases h3 : 2 ≤ sz_ (Y &&& Z)
  · exact ⟨_, tt_or hl hY hZ h3, or_r za, or_l yb, or_l yc⟩
  refine ⟨(X ||| Y) ||| Z, ?_, or_l (or_l xa), or_l (or_l xb), or_r zc⟩
  have w1 : (X ||| Y) ||| Z < 2 ^ J := or_lt (or_lt hX.1 hY.1) hZ.1
  have b1 : bi_ A B T (X &&& Y) = 0 := bi_none hv (by omega)
  have b2 : bi_ A B T (X &&& Z) = 0 := bi_none hv (by omega)
  have b3 : bi_ A B T (Y &&& Z) = 0 := bi_none hv (by omega)
  have s1 := sz_oa X Y
  have s2 := sz_oa (X ||| Y) Z
  have s3 : 1 ≤ sz_ (X &&& Y) := sz_one hb (and_i xb yb)
  have s4 : 2 ≤ sz_ ((X ||| Y) &&& Z) := sz_two hac ha hc (and_i (or_l xa) za) (and_i (or_r yc) zc)
  have hsum : bi_ A B T X + bi_ A B T Y + bi_ A B T Z ≤ bi_ A B T ((X ||| Y) ||| Z) := by
    have c1 := cn_oa (fun k => T.testBit k && (X.testBit (A k) && X.testBit (B k))) (fun k => T.testBit k && (Y.testBit (A k) && Y.testBit (B k))) 13
    have c2 := cn_oa (fun k => (T.testBit k && (X.testBit (A k) && X.testBit (B k))) || (T.testBit k && (Y.testBit (A k) && Y.testBit (B k)))) (fun k => T.testBit k && (Z.testBit (A k) && Z.testBit (B k))) 13
    have z1 : cn_ 13 (fun k => (T.testBit k && (X.testBit (A k) && X.testBit (B k))) && (T.testBit k && (Y.testBit (A k) && Y.testBit (B k)))) ≤ bi_ A B T (X &&& Y) := by
      refine cn_mono (fun i _ => ?_)
      simp only [Nat.testBit_and, Bool.and_eq_true]
      exact fun q => ⟨q.1.1, ⟨q.1.2.1, q.2.2.1⟩, ⟨q.1.2.2, q.2.2.2⟩⟩
    have z2 : cn_ 13 (fun k => ((T.testBit k && (X.testBit (A k) && X.testBit (B k))) || (T.testBit k && (Y.testBit (A k) && Y.testBit (B k)))) && (T.testBit k && (Z.testBit (A k) && Z.testBit (B k)))) ≤ cn_ 13 (fun k => (T.testBit k && ((X &&& Z).testBit (A k) && (X &&& Z).testBit (B k))) || (T.testBit k && ((Y &&& Z).testBit (A k) && (Y &&& Z).testBit (B k)))) := by
      refine cn_mono (fun i _ => ?_)
      simp only [Nat.testBit_and, Bool.and_eq_true, Bool.or_eq_true]
      rintro ⟨q | q, r⟩
      · exact Or.inl ⟨q.1, ⟨q.2.1, r.2.1⟩, ⟨q.2.2, r.2.2⟩⟩
      · exact Or.inr ⟨q.1, ⟨q.2.1, r.2.1⟩, ⟨q.2.2, r.2.2⟩⟩
    have z3 := cn_oa (fun k => T.testBit k && ((X &&& Z).testBit (A k) && (X &&& Z).testBit (B k))) (fun k => T.testBit k && ((Y &&& Z).testBit (A k) && (Y &&& Z).testBit (B k))) 13
    have z4 : cn_ 13 (fun k => ((T.testBit k && (X.testBit (A k) && X.testBit (B k))) || (T.testBit k && (Y.testBit (A k) && Y.testBit (B k)))) || (T.testBit k && (Z.testBit (A k) && Z.testBit (B k)))) ≤ bi_ A B T ((X ||| Y) ||| Z) := by
      refine cn_mono (fun i _ => ?_)
      simp only [Nat.testBit_or, Bool.and_eq_true, Bool.or_eq_true]
      rintro ((q | q) | q)
      · exact ⟨q.1, Or.inl (Or.inl q.2.1), Or.inl (Or.inl q.2.2)⟩
      · exact ⟨q.1, Or.inl (Or.inr q.2.1), Or.inl (Or.inr q.2.2)⟩
      · exact ⟨q.1, Or.inr q.2.1, Or.inr q.2.2⟩
    unfold bi_ at b1 b2 b3 z1 z4 ⊢
    omega
  rw [lo_iff] at hl
  have h6 := hX.2.2
  have h7 := hY.2.2
  have h8 := hZ.2.2
  have h5 : sz_ X ≤ sz_ ((X ||| Y) ||| Z) := sz_mono (fun i q => or_l (or_l q))
  have h9 := hX.2.1
  have h10 := hl _ w1 (by omega)
  exact ⟨w1, by omega, by omega⟩
/-- held: no room for a bar between a and b -/
def hb_ (J : Nat) (A B : Nat → Nat) (T a b : Nat) : Bool := decide (a ≠ b) && !(ft_ J A B T a b)
theorem hb_sym (J : Nat) (A B : Nat → Nat) (T a b : Nat) : hb_ J A B T a b = hb_ J A B T b a := by
  unfold hb_
  rw [ft_sym]
  congr 1
  exact decide_eq_decide.mpr ⟨fun h q => h q.symm, fun h q => h q.symm⟩
theorem hb_ir (J : Nat) (A B : Nat → Nat) (T a : Nat) : hb_ J A B T a a = false := by
  simp [hb_]
theorem hb_iff {J : Nat} {A B : Nat → Nat} {T a b : Nat} (hl : lo_ J A B T = true) (ha : a < 13) (hb : b < 13) : hb_ J A B T a b = true ↔ a ≠ b ∧ ∃ G, tt_ J A B T G ∧ G.testBit a = true ∧ G.testBit b = true := by
  unfold hb_
  rw [Bool.and_eq_true, decide_eq_true_eq, Bool.not_eq_true']
  refine and_congr_right (fun hn => ?_)
  constructor
  · intro h
    have h1 : ¬ ∀ G, G < 2 ^ J → G.testBit a = true → G.testBit b = true → bi_ A B T G + 4 ≤ 2 * sz_ G := by
      rw [← ft_iff, h]
      exact Bool.false_ne_true
    rw [lo_iff] at hl
    apply Classical.byContradiction
    intro q
    apply h1
    intro G hG g1 g2
    have h2 := sz_two hn ha hb g1 g2
    have h3 := hl G hG h2
    rcases Nat.lt_or_ge (bi_ A B T G + 3) (2 * sz_ G) with h4 | h4
    · omega
    · exact absurd ⟨G, ⟨hG, h2, by omega⟩, g1, g2⟩ q
  · rintro ⟨G, g1, g2, g3⟩
    cases e : ft_ J A B T a b with
    | false => rfl
    | true =>
      rw [ft_iff] at e
      have := e G g1.1 g2 g3
      have := g1.2.2
      omega
/-- what is held to both of a held pair is held to each other -/
theorem hb_q {J : Nat} {A B : Nat → Nat} {T a b c d : Nat} (hl : lo_ J A B T = true) (hv : ev_ A B T) (ha : a < 13) (hb : b < 13) (hc : c < 13) (hd : d < 13) (hab : hb_ J A B T a b = true) (hac : hb_ J A B T a c = true) (hbc : hb_ J A B T b c = true) (had : hb_ J A B T a d = true) (hbd : hb_ J A B T b d = true) (hcd : c ≠ d) : hb_ J A B T c d = true := by
  rw [hb_iff hl ha hb] at hab
  rw [hb_iff hl ha hc] at hac
  rw [hb_iff hl hb hc] at hbc
  rw [hb_iff hl ha hd] at had
  rw [hb_iff hl hb hd] at hbd
  obtain ⟨nab, X, tX, xa, xb⟩ := hab
  obtain ⟨nac, Z, tZ, za, zc⟩ := hac
  obtain ⟨nbc, Y, tY, yb, yc⟩ := hbc
  obtain ⟨nad, V, tV, va, vd⟩ := had
  obtain ⟨nbd, U, tU, ub, ud⟩ := hbd
  obtain ⟨W1, t1, w1a, w1b, w1c⟩ := tt_tri hl hv tX tY tZ ha hb hc nac xa xb yb yc za zc
  obtain ⟨W2, t2, w2a, w2b, w2d⟩ := tt_tri hl hv tX tU tV ha hb hd nad xa xb ub ud va vd
  rw [hb_iff hl hc hd]
  exact ⟨hcd, W1 ||| W2, tt_or hl t1 t2 (sz_two nab ha hb (and_i w1a w2a) (and_i w1b w2b)), or_l w1c, or_r w2d⟩
end
section
/-! bodies: largest groups that are held in pairs, counted by group and by their first two joints -/
theorem cn_uniq {f : Nat → Bool} {n a : Nat} (ha : a < n) (h : f a = true) (hu : ∀ i, i < n → f i = true → i = a) : cn_ n f = 1 := by
  have h1 := cn_chg (f := fun _ => false) (g := f) ha (fun i hi hn => by
    cases e : f i with
    | false => rfl
    | true => exact absurd (hu i hi e) hn)
  rw [cn_zero (f := fun _ => false) (fun _ _ => rfl), h] at h1
  simpa using h1
theorem cn_uq {f : Nat → Bool} {n : Nat} (h : cn_ n f = 1) : ∃ a, a < n ∧ f a = true ∧ ∀ i, i < n → f i = true → i = a := by
  obtain ⟨a, ha, hf⟩ := cn_pos (f := f) (n := n) (by omega)
  refine ⟨a, ha, hf, fun i hi hq => ?_⟩
  by_cases e : i = a
  · exact e
  · have := cn_two e hi ha hq hf
    omega
/-- a and b are the first two places of g -/
def f2_ (g : Nat → Bool) (a b : Nat) : Bool := g a && g b && al_ b (fun i => !(g i) || i == a)
theorem f2_iff {g : Nat → Bool} {a b : Nat} : f2_ g a b = true ↔ g a = true ∧ g b = true ∧ ∀ i, i < b → g i = true → i = a := by
  unfold f2_
  rw [Bool.and_eq_true, Bool.and_eq_true, al_iff]
  constructor
  · rintro ⟨⟨h1, h2⟩, h3⟩
    refine ⟨h1, h2, fun i hi hg => ?_⟩
    have := h3 i hi
    rw [hg] at this
    simpa using this
  · rintro ⟨h1, h2, h3⟩
    refine ⟨⟨h1, h2⟩, fun i hi => ?_⟩
    cases e : g i with
    | false => rfl
    | true => simpa using h3 i hi e
/-- a set of two or more has just one pair of first two -/
theorem f2_one (g : Nat → Bool) (n : Nat) : sm_ n (fun a => cn_ n (fun b => decide (a < b) && f2_ g a b)) = if 2 ≤ cn_ n g then 1 else 0 := by
  induction n with
  | zero => rfl
  | succ n ih =>
    have e1 : sm_ n (fun a => cn_ (n + 1) (fun b => decide (a < b) && f2_ g a b)) = sm_ n (fun a => cn_ n (fun b => decide (a < b) && f2_ g a b)) + cn_ n (fun a => f2_ g a n) := by
      rw [cn_sm, ← sm_add]
      refine sm_congr (fun a ha => ?_)
      rw [cn_s]
      simp [ha]
    have e2 : cn_ (n + 1) (fun b => decide (n < b) && f2_ g n b) = 0 := cn_zero (fun i hi => by simp [show ¬ n < i by omega])
    have e3 : cn_ n (fun a => f2_ g a n) = if g n = true ∧ cn_ n g = 1 then 1 else 0 := by
      by_cases h : g n = true ∧ cn_ n g = 1
      · rw [if_pos h]
        obtain ⟨c, hc, h1, h2⟩ := cn_uq h.2
        refine cn_uniq (a := c) hc (f2_iff.mpr ⟨h1, h.1, h2⟩) (fun i hi hq => ?_)
        exact h2 i hi (f2_iff.mp hq).1
      · rw [if_neg h]
        refine cn_zero (fun i hi => ?_)
        cases e : f2_ g i n with
        | false => rfl
        | true =>
          obtain ⟨q1, q2, q3⟩ := f2_iff.mp e
          exact absurd ⟨q2, cn_uniq hi q1 q3⟩ h
    rw [sm_s, e1, e2, ih, e3, cn_s]
    cases hg : g n with
    | false => simp
    | true =>
      simp only [Bool.toNat_true, true_and, Nat.add_zero]
      by_cases h1 : 2 ≤ cn_ n g
      · rw [if_pos h1, if_neg (by omega), if_pos (by omega)]
      · by_cases h2 : cn_ n g = 1
        · rw [if_neg h1, if_pos h2, if_pos (by omega)]
        · rw [if_neg h1, if_neg h2, if_neg (by omega)]
/-- the reference's way: a group is a body -/
def bd_ (h : Nat → Nat → Bool) (J G : Nat) : Bool := decide (G < 2 ^ J) && al_ 36 (fun c => !(decide (c / 6 < c % 6) && (G.testBit (c / 6) && G.testBit (c % 6))) || h (c / 6) (c % 6))
def tp_ (h : Nat → Nat → Bool) (J G : Nat) : Bool := (decide (3 ≤ sz_ G) && bd_ h J G) && al_ J (fun a => G.testBit a || !(bd_ h J (G ||| 2 ^ a)))
def bm_ (h : Nat → Nat → Bool) (J : Nat) : Nat := cn_ (2 ^ J) (fun G => tp_ h J G)
/-- the class's way: what is held to a; a pair leads what is held to both -/
def ht_ (h : Nat → Nat → Bool) (a : Nat) : Nat → Nat
  | 0 => 2 ^ a
  | b + 1 => ht_ h a b ||| (if h a b = true then 2 ^ b else 0)
def bo_ (h : Nat → Nat → Bool) (J a b : Nat) : Nat := if (ht_ h a J).testBit b = true then ht_ h a J &&& ht_ h b J else 0
def ld_ (C a b : Nat) : Bool := decide (C &&& (2 ^ b - 1) = 2 ^ a) && decide (an_ (an_ C (C &&& (2 ^ b - 1))) (2 ^ b) ≠ 0)
def bf2_ (h : Nat → Nat → Bool) (J : Nat) : Nat := sm_ J (fun a => cn_ J (fun b => decide (a < b) && ld_ (bo_ h J a b) a b))
theorem bd_iff {h : Nat → Nat → Bool} {J G : Nat} (hJ : J ≤ 6) : bd_ h J G = true ↔ G < 2 ^ J ∧ ∀ a b, a < b → G.testBit a = true → G.testBit b = true → h a b = true := by
  unfold bd_
  rw [Bool.and_eq_true, decide_eq_true_eq, al_iff]
  refine and_congr_right (fun hG => ?_)
  constructor
  · intro q a b hab h1 h2
    have ha := tb_in hG h1
    have hb := tb_in hG h2
    have e1 : (6 * a + b) / 6 = a := by omega
    have e2 : (6 * a + b) % 6 = b := by omega
    have := q (6 * a + b) (by omega)
    rw [e1, e2, h1, h2] at this
    simpa [hab] using this
  · intro q c hc
    have := q (c / 6) (c % 6)
    by_cases e : c / 6 < c % 6
    · cases e1 : G.testBit (c / 6) with
      | false => simp
      | true =>
        cases e2 : G.testBit (c % 6) with
        | false => simp
        | true => simp [this e e1 e2]
    · simp [e]
theorem ht_tb (h : Nat → Nat → Bool) (a n i : Nat) : (ht_ h a n).testBit i = (decide (a = i) || (decide (i < n) && h a i)) := by
  induction n with
  | zero =>
    rw [show ht_ h a 0 = 2 ^ a from rfl, tb_p]
    simp
  | succ n ih =>
    rw [show ht_ h a (n + 1) = ht_ h a n ||| (if h a n = true then 2 ^ n else 0) from rfl, Nat.testBit_or, ih]
    by_cases e : i = n
    · subst e
      cases hh : h a i with
      | false => simp
      | true => simp [tb_p]
    · have h1 : (i < n + 1) ↔ (i < n) := by omega
      cases hh : h a n with
      | false => simp [h1]
      | true => simp [h1, tb_p, show ¬ n = i from fun q => e q.symm]
theorem low_iff {C a b : Nat} (hab : a < b) : C &&& (2 ^ b - 1) = 2 ^ a ↔ C.testBit a = true ∧ ∀ i, i < b → C.testBit i = true → i = a := by
  constructor
  · intro h
    have key : ∀ i, (C.testBit i && decide (i < b)) = decide (a = i) := by
      intro i
      rw [← tb_p, ← h, Nat.testBit_and, Nat.testBit_two_pow_sub_one]
    refine ⟨?_, fun i hi hc => ?_⟩
    · have := key a
      simpa [hab] using this
    · have := key i
      rw [hc] at this
      simp [hi] at this
      exact this.symm
  · rintro ⟨h1, h2⟩
    apply Nat.eq_of_testBit_eq
    intro i
    rw [Nat.testBit_and, Nat.testBit_two_pow_sub_one, tb_p]
    by_cases e : a = i
    · subst e
      simp [h1, hab]
    · cases hc : C.testBit i with
      | false => simp [e]
      | true =>
        by_cases q : i < b
        · exact absurd (h2 i q hc).symm e
        · simp [q, e]
theorem ld_iff {C a b : Nat} (hab : a < b) : ld_ C a b = true ↔ C.testBit a = true ∧ (∀ i, i < b → C.testBit i = true → i = a) ∧ ∃ c, C.testBit c = true ∧ c ≠ a ∧ c ≠ b := by
  unfold ld_
  rw [Bool.and_eq_true, decide_eq_true_eq, decide_eq_true_eq]
  constructor
  · rintro ⟨h1, h2⟩
    obtain ⟨g1, g2⟩ := (low_iff hab).mp h1
    refine ⟨g1, g2, ?_⟩
    obtain ⟨c, hc⟩ := Nat.exists_testBit_of_ne_zero h2
    rw [an_tb, an_tb, tb_p, h1, tb_p] at hc
    simp at hc
    exact ⟨c, hc.1.1, fun q => hc.1.2 q.symm, fun q => hc.2 q.symm⟩
  · rintro ⟨h1, h2, c, h3, h4, h5⟩
    have hl := (low_iff hab).mpr ⟨h1, h2⟩
    refine ⟨hl, fun h0 => ?_⟩
    have : (an_ (an_ C (C &&& (2 ^ b - 1))) (2 ^ b)).testBit c = true := by
      rw [an_tb, an_tb, tb_p, hl, tb_p, h3]
      simp [show ¬ a = c from fun q => h4 q.symm, show ¬ b = c from fun q => h5 q.symm]
    rw [h0] at this
    simp at this
/-- a relation of the held kind -/
def hr_ (h : Nat → Nat → Bool) (J : Nat) : Prop := (∀ a b, h a b = h b a) ∧ (∀ a, h a a = false) ∧ ∀ a b c d, a < J → b < J → c < J → d < J → h a b = true → h a c = true → h b c = true → h a d = true → h b d = true → c ≠ d → h c d = true
theorem sz_ab {C a b : Nat} (h : ∀ i, C.testBit i = true → i = a ∨ i = b) : sz_ C ≤ 2 := by
  have h1 : sz_ C ≤ cn_ 13 (fun i => (i == a) || (i == b)) := cn_mono (fun i _ q => by
    rcases h i q with e | e
    · simp [e]
    · simp [e])
  have h2 := cn_oa (fun i => i == a) (fun i => i == b) 13
  have h3 : ∀ x, cn_ 13 (fun i => i == x) ≤ 1 := by
    intro x
    rcases Nat.lt_or_ge x 13 with q | q
    · exact Nat.le_of_eq (cn_uniq q (by simp) (fun i _ e => by simpa using e))
    · rw [cn_zero (fun i hi => by simp; omega)]
      exact Nat.zero_le 1
  have h4 := h3 a
  have h5 := h3 b
  omega
theorem sz_three {C a b c : Nat} (ha : a < 13) (hb : b < 13) (hc : c < 13) (hab : a ≠ b) (hca : c ≠ a) (hcb : c ≠ b) (h1 : C.testBit a = true) (h2 : C.testBit b = true) (h3 : C.testBit c = true) : 3 ≤ sz_ C := by
  have e := cn_chg (f := fun i => C.testBit i) (g := fun i => C.testBit i && !(i == c)) hc (fun i _ hn => by simp [hn])
  have t := cn_two (f := fun i => C.testBit i && !(i == c)) hab ha hb (by simp [h1, show ¬ a = c from fun q => hca q.symm]) (by simp [h2, show ¬ b = c from fun q => hcb q.symm])
  try dsimp only at e
  rw [h3] at e
  simp at e
  unfold sz_
  omega
theorem bo_tb {h : Nat → Nat → Bool} {J a b : Nat} (hJ : J ≤ 6) (hab : a < b) (hb : b < J) (hh : h a b = true) (i : Nat) : (bo_ h J a b).testBit i = ((decide (a = i) || (decide (i < J) && h a i)) && (decide (b = i) || (decide (i < J) && h b i))) := by
  unfold bo_
  rw [if_pos (by rw [ht_tb]; simp [hb, hh]), Nat.testBit_and, ht_tb, ht_tb]
theorem bo_no {h : Nat → Nat → Bool} {J a b : Nat} (hab : a < b) (hh : h a b = false) : bo_ h J a b = 0 := by
  unfold bo_
  rw [if_neg (by rw [ht_tb]; simp [hh]; omega)]
/-- a largest body is what is held to its first two -/
theorem tp_bo {h : Nat → Nat → Bool} {J G a b : Nat} (hJ : J ≤ 6) (hr : hr_ h J) (hab : a < b) (hb : b < J) (hT : tp_ h J G = true) (hf : f2_ (fun i => G.testBit i) a b = true) : bo_ h J a b = G ∧ ld_ G a b = true := by
  unfold tp_ at hT
  rw [Bool.and_eq_true, Bool.and_eq_true, decide_eq_true_eq, bd_iff hJ, al_iff] at hT
  obtain ⟨⟨h3, hG, hp⟩, hm⟩ := hT
  obtain ⟨ga, gb, gl⟩ := f2_iff.mp hf
  try dsimp only at ga gb gl
  obtain ⟨sy, ir, qu⟩ := hr
  have hab' := hp a b hab ga gb
  have pr : ∀ x y, x ≠ y → G.testBit x = true → G.testBit y = true → h x y = true := by
    intro x y hn gx gy
    rcases Nat.lt_or_ge x y with q | q
    · exact hp x y q gx gy
    · rw [sy]
      exact hp y x (by omega) gy gx
  have hsub : ∀ i, G.testBit i = true → (bo_ h J a b).testBit i = true := by
    intro i hi
    have hiJ := tb_in hG hi
    rw [bo_tb hJ hab hb hab']
    by_cases e1 : a = i
    · subst e1
      simp [hiJ, sy b a, hab']
    · by_cases e2 : b = i
      · subst e2
        simp [hb, hab']
      · simp [hiJ, pr a i e1 ga hi, pr b i e2 gb hi]
  have hsup : ∀ i, (bo_ h J a b).testBit i = true → G.testBit i = true := by
    intro i hi
    cases hg : G.testBit i with
    | true => rfl
    | false =>
      exfalso
      have na : a ≠ i := fun q => by rw [q, hg] at ga; cases ga
      have nb : b ≠ i := fun q => by rw [q, hg] at gb; cases gb
      rw [bo_tb hJ hab hb hab'] at hi
      simp [na, nb] at hi
      obtain ⟨⟨hiJ, hai⟩, -, hbi⟩ := hi
      have hmi := hm i hiJ
      rw [hg] at hmi
      simp at hmi
      have hbd : bd_ h J (G ||| 2 ^ i) = true := by
        rw [bd_iff hJ]
        have key : ∀ g, G.testBit g = true → h g i = true := by
          intro g hgg
          by_cases e1 : g = a
          · rw [e1]; exact hai
          · by_cases e2 : g = b
            · rw [e2]; exact hbi
            · have ni : g ≠ i := fun q => by rw [q, hg] at hgg; cases hgg
              exact qu a b g i (by omega) hb (tb_in hG hgg) hiJ hab' (pr a g (fun q => e1 q.symm) ga hgg) (pr b g (fun q => e2 q.symm) gb hgg) hai hbi ni
        refine ⟨or_lt hG (p_lt hiJ), fun x y hxy hx hy => ?_⟩
        rw [tb_or, Bool.or_eq_true, decide_eq_true_eq] at hx hy
        rcases hx with hx | hx
        · rcases hy with hy | hy
          · exact hp x y hxy hx hy
          · rw [← hy]; exact key x hx
        · rcases hy with hy | hy
          · rw [← hx, sy]; exact key y hy
          · omega
      rw [hmi] at hbd
      cases hbd
  have hE : bo_ h J a b = G := by
    apply Nat.eq_of_testBit_eq
    intro i
    rw [Bool.eq_iff_iff]
    exact ⟨hsup i, hsub i⟩
  refine ⟨hE, (ld_iff hab).mpr ⟨ga, gl, ?_⟩⟩
  apply Classical.byContradiction
  intro q
  have := sz_ab (C := G) (a := a) (b := b) (fun i hi => by
    by_cases e1 : i = a
    · exact Or.inl e1
    · by_cases e2 : i = b
      · exact Or.inr e2
      · exact absurd ⟨i, hi, e1, e2⟩ q)
  omega
/-- and what a pair leads is a largest body -/
theorem bo_tp {h : Nat → Nat → Bool} {J a b : Nat} (hJ : J ≤ 6) (hr : hr_ h J) (hab : a < b) (hb : b < J) (hL : ld_ (bo_ h J a b) a b = true) : bo_ h J a b < 2 ^ J ∧ tp_ h J (bo_ h J a b) = true ∧ f2_ (fun i => (bo_ h J a b).testBit i) a b = true := by
  obtain ⟨sy, ir, qu⟩ := hr
  obtain ⟨l1, l2, c, l3, l4, l5⟩ := (ld_iff hab).mp hL
  have hh : h a b = true := by
    cases e : h a b with
    | true => rfl
    | false =>
      rw [bo_no hab e] at l1
      simp at l1
  have tb := bo_tb hJ hab hb hh
  have inJ : ∀ i, (bo_ h J a b).testBit i = true → i < J := by
    intro i hi
    rw [tb] at hi
    by_cases e1 : a = i
    · omega
    · by_cases e2 : b = i
      · omega
      · simp [e1, e2] at hi
        exact hi.1.1
  have hlt : bo_ h J a b < 2 ^ J := lt_tb (fun i hi => by
    cases e : (bo_ h J a b).testBit i with
    | false => rfl
    | true =>
      have := inJ i e
      omega)
  have cb : (bo_ h J a b).testBit b = true := by
    rw [tb]
    simp [hb, hh]
  have cA : ∀ i, (bo_ h J a b).testBit i = true → i ≠ a → h a i = true := by
    intro i hi hn
    rw [tb] at hi
    simp [show ¬ a = i from fun q => hn q.symm] at hi
    exact hi.1.2
  have cB : ∀ i, (bo_ h J a b).testBit i = true → i ≠ b → h b i = true := by
    intro i hi hn
    rw [tb] at hi
    simp [show ¬ b = i from fun q => hn q.symm] at hi
    exact hi.2.2
  have hbd : bd_ h J (bo_ h J a b) = true := by
    rw [bd_iff hJ]
    refine ⟨hlt, fun x y hxy hx hy => ?_⟩
    by_cases e1 : x = a
    · rw [e1]
      exact cA y hy (by omega)
    · by_cases e2 : x = b
      · rw [e2]
        exact cB y hy (by omega)
      · by_cases e3 : y = a
        · rw [e3, sy]
          exact cA x hx e1
        · by_cases e4 : y = b
          · rw [e4, sy]
            exact cB x hx e2
          · exact qu a b x y (by omega) hb (inJ x hx) (inJ y hy) hh (cA x hx e1) (cB x hx e2) (cA y hy e3) (cB y hy e4) (by omega)
  refine ⟨hlt, ?_, f2_iff.mpr ⟨l1, cb, l2⟩⟩
  unfold tp_
  rw [Bool.and_eq_true, Bool.and_eq_true, decide_eq_true_eq, al_iff]
  refine ⟨⟨sz_three (by omega) (by omega) (by have := inJ c l3; omega) (by omega) l4 l5 l1 cb l3, hbd⟩, fun i hi => ?_⟩
  cases e : (bo_ h J a b).testBit i with
  | true => rfl
  | false =>
    cases e2 : bd_ h J (bo_ h J a b ||| 2 ^ i) with
    | false => rfl
    | true =>
      exfalso
      rw [bd_iff hJ] at e2
      have na : a ≠ i := fun q => by rw [← q, l1] at e; cases e
      have nb : b ≠ i := fun q => by rw [← q, cb] at e; cases e
      have ii : (bo_ h J a b ||| 2 ^ i).testBit i = true := by rw [tb_or]; simp
      have pr : ∀ x, x ≠ i → (bo_ h J a b).testBit x = true → h x i = true := by
        intro x hn hx
        have hx' : (bo_ h J a b ||| 2 ^ i).testBit x = true := by rw [tb_or, hx]; rfl
        rcases Nat.lt_or_ge x i with q | q
        · exact e2.2 x i q hx' ii
        · rw [sy]
          exact e2.2 i x (by omega) ii hx'
      have : (bo_ h J a b).testBit i = true := by
        rw [tb]
        simp [hi, pr a na l1, pr b nb cb]
      rw [e] at this
      cases this
theorem bm_bf {h : Nat → Nat → Bool} {J : Nat} (hJ : J ≤ 6) (hr : hr_ h J) : bm_ h J = bf2_ h J := by
  unfold bm_ bf2_
  have e1 : cn_ (2 ^ J) (fun G => tp_ h J G) = sm_ (2 ^ J) (fun G => sm_ J (fun a => cn_ J (fun b => decide (a < b) && (tp_ h J G && f2_ (fun i => G.testBit i) a b)))) := by
    rw [cn_sm]
    refine sm_congr (fun G hG => ?_)
    cases hT : tp_ h J G with
    | false =>
      rw [sm_congr (g := fun _ => 0) (fun a _ => cn_zero (fun b _ => by simp)), sm_0]
      rfl
    | true =>
      have h1 := f2_one (fun i => G.testBit i) J
      have h2 : 2 ≤ cn_ J (fun i => G.testBit i) := by
        unfold tp_ at hT
        rw [Bool.and_eq_true, Bool.and_eq_true, decide_eq_true_eq] at hT
        have h3 := hT.1.1
        have h4 : sz_ G = cn_ J (fun i => G.testBit i) := cn_ext (by omega) (fun i hi _ => tb_lt hG hi)
        omega
      rw [if_pos h2] at h1
      simp only [Bool.true_and]
      rw [h1]
      rfl
  rw [e1, sm_swap]
  refine sm_congr (fun a ha => ?_)
  have e2 : sm_ (2 ^ J) (fun G => cn_ J (fun b => decide (a < b) && (tp_ h J G && f2_ (fun i => G.testBit i) a b))) = sm_ J (fun b => sm_ (2 ^ J) (fun G => (decide (a < b) && (tp_ h J G && f2_ (fun i => G.testBit i) a b)).toNat)) := by
    rw [← sm_swap]
    exact sm_congr (fun G _ => cn_sm _ _)
  rw [e2, cn_sm]
  refine sm_congr (fun b hb => ?_)
  rw [← cn_sm]
  by_cases hab : a < b
  · simp only [hab, decide_true, Bool.true_and]
    cases hL : ld_ (bo_ h J a b) a b with
    | true =>
      obtain ⟨g1, g2, g3⟩ := bo_tp hJ hr hab hb hL
      refine cn_uniq (a := bo_ h J a b) g1 (by rw [g2, g3]; rfl) (fun G _ hq => ?_)
      rw [Bool.and_eq_true] at hq
      exact (tp_bo hJ hr hab hb hq.1 hq.2).1.symm
    | false =>
      refine cn_zero (fun G _ => ?_)
      cases hq : (tp_ h J G && f2_ (fun i => G.testBit i) a b) with
      | false => rfl
      | true =>
        rw [Bool.and_eq_true] at hq
        obtain ⟨g1, g2⟩ := tp_bo hJ hr hab hb hq.1 hq.2
        rw [g1, g2] at hL
        cases hL
  · simp only [hab, decide_false, Bool.false_and]
    exact cn_zero (fun _ _ => rfl)
end
section
/-! ints as bits and small numbers -/
theorem wd_and (a b : Nat) : nI a &&& nI b = nI (a &&& b) := by
  apply Int32.toBitVec_inj.1
  show BitVec.ofNat 32 a &&& BitVec.ofNat 32 b = BitVec.ofNat 32 (a &&& b)
  apply BitVec.eq_of_getLsbD_eq
  intro i hi
  simp [hi]
theorem wd_or (a b : Nat) : nI a ||| nI b = nI (a ||| b) := by
  apply Int32.toBitVec_inj.1
  show BitVec.ofNat 32 a ||| BitVec.ofNat 32 b = BitVec.ofNat 32 (a ||| b)
  apply BitVec.eq_of_getLsbD_eq
  intro i hi
  simp [hi]
theorem wd_m1 : (-1 : Int32).toBitVec = BitVec.allOnes 32 := by decide +kernel
theorem wd_not (S M : Nat) : nI S &&& (nI M ^^^ (-1)) = nI (an_ S M) := by
  apply Int32.toBitVec_inj.1
  show BitVec.ofNat 32 S &&& (BitVec.ofNat 32 M ^^^ (-1 : Int32).toBitVec) = BitVec.ofNat 32 (an_ S M)
  rw [wd_m1]
  apply BitVec.eq_of_getLsbD_eq
  intro i hi
  simp only [BitVec.getLsbD_and, BitVec.getLsbD_xor, BitVec.getLsbD_allOnes, BitVec.getLsbD_ofNat, hi, decide_true, Bool.true_and, an_tb, Bool.xor_true]
theorem wd_sh : ∀ k, k < 32 → ((nI k &&& 31).toBitVec.smod 32).toNat = k := by decide +kernel
theorem wd_shl {k : Nat} (h : k < 31) : nI 1 <<< (nI k &&& 31) = nI (2 ^ k) := by
  have h1 : 1 * 2 ^ k < 2 ^ 32 := by
    rw [Nat.one_mul]
    exact Nat.pow_lt_pow_right (by decide) (by omega)
  rw [pk_shlN _ k (wd_sh k (by omega)) h1, Nat.one_mul]
theorem wd_shr {n k : Nat} (hn : n < 2 ^ 31) (hk : k < 32) : nI n >>> (nI k &&& 31) = nI (n / 2 ^ k) := pk_shrN hn _ k (wd_sh k hk)
theorem wd_bit {n k : Nat} (hn : n < 2 ^ 31) (hk : k < 32) : (nI n >>> (nI k &&& 31)) &&& nI 1 = nI (n.testBit k).toNat := by
  rw [wd_shr hn hk, wd_and, Nat.and_one_is_mod, Nat.testBit_eq_decide_div_mod_eq]
  congr 1
  generalize n / 2 ^ k = z
  rcases Nat.mod_two_eq_zero_or_one z with h | h <;> simp [h]
/-- an int's bits as a number -/
def un_ (x : Int32) : Nat := x.toBitVec.toNat
theorem un_eq (x : Int32) : x = nI (un_ x) := by
  apply Int32.toBitVec_inj.1
  show x.toBitVec = BitVec.ofNat 32 x.toBitVec.toNat
  simp
theorem wd_i2b : ∀ a, a < 128 → (nI a).toInt8.toInt32 = nI a := by decide +kernel
theorem wd_nb {a : Nat} (h : a < 128) : vp_nar .byte (nI a) = nI a := by rw [vp_nar_byte, wd_i2b a h]
theorem wd_nz (b : Bool) : vp_nar .boolean (nI b.toNat) = nI b.toNat := by cases b <;> rfl
theorem wd_rz (b : Bool) : narrow .boolean (.int (nI b.toNat)) = .int (nI b.toNat) := by cases b <;> rfl
theorem wd_b0 {b : Bool} : nI b.toNat = 0 ↔ b = false := by cases b <;> decide
theorem wd_b1 {b : Bool} : nI b.toNat = nI 1 ↔ b = true := by cases b <;> decide
theorem wd_bl (b : Bool) : b.toNat < 2 := by cases b <;> decide
/-- an array's numbers -/
def nF (f : Nat → Nat) : Nat → Int32 := fun k => nI (f k)
def zF (P : Nat) : Nat → Int32 := fun k => nI (P.testBit k).toNat
theorem nF_up {f : Nat → Nat} {k v : Nat} (hk : k < 2 ^ 31) : upd (nF f) (nI k).toNatClampNeg (nI v) = nF (up_ f k v) := by
  funext j
  rw [nI_clamp hk]
  unfold upd nF up_
  by_cases h : j = k
  · simp [h]
  · simp [h]
theorem zF_set {P k : Nat} (hk : k < 2 ^ 31) : upd (zF P) (nI k).toNatClampNeg (nI 1) = zF (P ||| 2 ^ k) := by
  funext j
  rw [nI_clamp hk]
  unfold upd zF
  rw [tb_or]
  by_cases h : j = k
  · simp [h]
  · simp [h, show ¬ k = j from fun q => h q.symm]
theorem zF_clr {P k : Nat} (hk : k < 2 ^ 31) : upd (zF P) (nI k).toNatClampNeg (nI 0) = zF (an_ P (2 ^ k)) := by
  funext j
  rw [nI_clamp hk]
  unfold upd zF
  rw [an_tb, tb_p]
  by_cases h : j = k
  · simp [h]
  · simp [h, show ¬ k = j from fun q => h q.symm]
/-- a raw int names a joint -/
def jo_ (J : Nat) (x : Int32) : Bool := decide (0 ≤ x) && decide (x < nI J)
theorem jo_iff {J : Nat} {x : Int32} (hJ : J < 2 ^ 31) : jo_ J x = true ↔ ∃ a, a < J ∧ x = nI a := by
  unfold jo_
  rw [Bool.and_eq_true, decide_eq_true_eq, decide_eq_true_eq]
  constructor
  · rintro ⟨h1, h2⟩
    rw [Int32.le_iff_toInt_le] at h1
    rw [Int32.lt_iff_toInt_lt, nI_toInt hJ] at h2
    obtain ⟨j, hj, e⟩ := vp_in_of (x := x) (n := J) (vp_in_iff.mpr ⟨by simpa using h1, h2⟩) hJ
    exact ⟨j, hj, e⟩
  · rintro ⟨a, ha, rfl⟩
    exact ⟨nI_pos' (by omega), nI_lt ha hJ⟩
theorem jo_no {J : Nat} {x : Int32} (h : x < 0 ∨ nI J ≤ x) : jo_ J x = false := by
  unfold jo_
  rw [Int32.lt_iff_toInt_lt, Int32.le_iff_toInt_le] at h
  cases e : (decide (0 ≤ x) && decide (x < nI J)) with
  | false => rfl
  | true =>
    rw [Bool.and_eq_true, decide_eq_true_eq, decide_eq_true_eq, Int32.le_iff_toInt_le, Int32.lt_iff_toInt_lt] at e
    omega
theorem jo_yes {J : Nat} {x : Int32} (h1 : ¬ x < 0) (h2 : ¬ nI J ≤ x) : jo_ J x = true := by
  unfold jo_
  rw [Int32.lt_iff_toInt_lt] at h1
  rw [Int32.le_iff_toInt_le] at h2
  rw [Bool.and_eq_true, decide_eq_true_eq, decide_eq_true_eq, Int32.le_iff_toInt_le, Int32.lt_iff_toInt_lt]
  omega
theorem jo_nI {J a : Nat} (hJ : J < 2 ^ 31) (h : a < J) : jo_ J (nI a) = true := (jo_iff hJ).mpr ⟨a, h, rfl⟩
end
section
/-! rows over small numbers; a method's start, end and call over a whole world -/
set_option maxRecDepth 100000
abbrev vwCl : List vw_C := [(RX1, TX1, 11), (RX2, TX2, 4)]
abbrev rr_ (f n : Nat) : Room := { frames := f, cells := 0, slots := 0, locals := n }
def pw_ (D : va_G) (tys : List (ClassId × FieldType)) (w : va_W) (sz : Nat) (U : State) : Prop := U.heap.size = sz ∧ va_P D vwCl w U.heap ∧ va_K D vwCl tys U ∧ va_D (fun _ => True) w
def bw_ (D : va_G) (tys : List (ClassId × FieldType)) (A : Nat → Prop) (w : va_W) (t : State) : Prop := va_P D vwCl w t.heap ∧ va_K D vwCl tys t ∧ va_D A w
/-- a contract over a whole world w: int answer; no answer -/
def mt_i (l : Launch) (y : MethodName) (b : ByteArray) (L : Nat) (ty : FieldType) (rm : Room) (D : va_G) (tys : List (ClassId × FieldType)) (w : va_W) (sz : Nat) (as : List Value) {S : Type} (post : Int32 → S → Prop) (w' : S → va_W) : Prop :=
  Met l y (ws_ y b L (some ty)) rm (va_Pc as (pw_ D tys w sz)) (va_Qi post (fun u => bw_ D tys (va_A w sz) (w' u)) (va_A w sz)) 0 0 (va_A w sz)
def mt_v (l : Launch) (y : MethodName) (b : ByteArray) (L : Nat) (rm : Room) (D : va_G) (tys : List (ClassId × FieldType)) (w : va_W) (sz : Nat) (as : List Value) {S : Type} (post : S → Prop) (w' : S → va_W) : Prop :=
  Met l y (ws_ y b L none) rm (va_Pc as (pw_ D tys w sz)) (va_Qv post (fun u => bw_ D tys (va_A w sz) (w' u)) (va_A w sz)) 0 0 (va_A w sz)
theorem en_i {l : Launch} {y : MethodName} {cc : ByteArray} {L : Nat} {ty : FieldType} {rm : Room} {D : va_G} {tys : List (ClassId × FieldType)} {w : va_W} {sz : Nat} {as : List Value} {S : Type} {post : Int32 → S → Prop} {w' : S → va_W} (hy : plainName y.cls = true) (hlen : (lg_sl as).length ≤ L)
    (body : ∀ (p : Program) (e : Env) (s : State) (m : MethodId) (args : Array Value) (below : List Frame) (meth : Method) (c : Code) (A : Nat → Prop) (H0 : Heap) (Q : State → Prop), p.tables.exec = Jvm.exec → c.code = cc → c.maxLocals = L → s.vm.findClass y.cls = some m.cls → (∀ w ∈ lw_all, w.before args s = true) → va_K D vwCl tys s → va_P D vwCl w H0 → va_D A w → (∀ q, H0.size ≤ q → A q) → va_S A H0 H0 [] →
      (∀ (H : Heap) (locs : List Loc) (ls : Array Slot) (pc : Nat) (v : Int32) (u : S), decode cc pc = .ok (.ireturn, 1) → narrow ty (.int v) = .int v → post v u → va_P D vwCl (w' u) H → va_D A (w' u) → va_S A H0 H locs → W p l e rm s m args below meth c H locs 0 0 Q (F0 m pc ls [.int v])) →
      ∀ ls : Array Slot, lv_has ls L (lv_args 0 as) → W p l e rm s m args below meth c H0 [] 0 0 Q (F0 m 0 ls [])) : mt_i l y cc L ty rm D tys w sz as post w' := by
  refine Met.ofW (cc := cc) (maxL := L) (ret := some ty) hy rfl ?_
  intro p e s m args below meth c s₁ B hml hv
  obtain ⟨rfl, hsz, hP, hK, hD0⟩ := hv
  have hts := atoms_spec (ws := ws_ y cc L (some ty)) B.pre
  have hts : ∀ w ∈ lw_all, w.before _ s = true := fun w h => hts w (List.mem_cons_of_mem _ h)
  have hown : s.vm.findClass y.cls = some m.cls := findClass_of_methodNamed B.named
  subst hsz
  have hD := hD0.self (sz := s.heap.size)
  have hl := lv_entry as (n := L) hlen
  rw [lg_entry_eq]
  exact body p e s m as.toArray below meth c (va_A w s.heap.size) s.heap _ B.exec B.bytes hml hown hts hK hP hD (fun q h => Or.inr h) va_S.rf
    (fun H locs ls pc v u hdg hn hp hP hD hS => W.zret B.exec B.bytes B.returns hn (fun t ht hW => ⟨⟨v, u, rfl, hp, by rw [ht]; exact hP, va_K.moved hW.alike hK, hD⟩, hS.F ht⟩) hS.2.2 hdg B.notSynchronized) _ hl
theorem en_v {l : Launch} {y : MethodName} {cc : ByteArray} {L : Nat} {rm : Room} {D : va_G} {tys : List (ClassId × FieldType)} {w : va_W} {sz : Nat} {as : List Value} {S : Type} {post : S → Prop} {w' : S → va_W} (hy : plainName y.cls = true) (hlen : (lg_sl as).length ≤ L)
    (body : ∀ (p : Program) (e : Env) (s : State) (m : MethodId) (args : Array Value) (below : List Frame) (meth : Method) (c : Code) (A : Nat → Prop) (H0 : Heap) (Q : State → Prop), p.tables.exec = Jvm.exec → c.code = cc → c.maxLocals = L → s.vm.findClass y.cls = some m.cls → (∀ w ∈ lw_all, w.before args s = true) → va_K D vwCl tys s → va_P D vwCl w H0 → va_D A w → (∀ q, H0.size ≤ q → A q) → va_S A H0 H0 [] →
      (∀ (H : Heap) (locs : List Loc) (ls : Array Slot) (pc : Nat) (u : S), decode cc pc = .ok (.return_, 1) → post u → va_P D vwCl (w' u) H → va_D A (w' u) → va_S A H0 H locs → W p l e rm s m args below meth c H locs 0 0 Q (F0 m pc ls [])) →
      ∀ ls : Array Slot, lv_has ls L (lv_args 0 as) → W p l e rm s m args below meth c H0 [] 0 0 Q (F0 m 0 ls [])) : mt_v l y cc L rm D tys w sz as post w' := by
  refine Met.ofW (cc := cc) (maxL := L) (ret := none) hy rfl ?_
  intro p e s m args below meth c s₁ B hml hv
  obtain ⟨rfl, hsz, hP, hK, hD0⟩ := hv
  have hts := atoms_spec (ws := ws_ y cc L none) B.pre
  have hts : ∀ w ∈ lw_all, w.before _ s = true := fun w h => hts w (List.mem_cons_of_mem _ h)
  have hown : s.vm.findClass y.cls = some m.cls := findClass_of_methodNamed B.named
  subst hsz
  have hD := hD0.self (sz := s.heap.size)
  have hl := lv_entry as (n := L) hlen
  rw [lg_entry_eq]
  exact body p e s m as.toArray below meth c (va_A w s.heap.size) s.heap _ B.exec B.bytes hml hown hts hK hP hD (fun q h => Or.inr h) va_S.rf
    (fun H locs ls pc u hdg hp hP hD hS => W.vret B.exec B.bytes B.returns (fun t ht hW => ⟨⟨u, rfl, hp, by rw [ht]; exact hP, va_K.moved hW.alike hK, hD⟩, hS.F ht⟩) hS.2.2 hdg B.notSynchronized) _ hl
section NR
variable {p : Program} {l : Launch} {e : Env} {R : Room} {s : State} {m : MethodId} {args : Array Value} {below : List Frame} {meth : Method} {c : Code} {H : Heap} {locs : List Loc} {cells slots : Nat} {Q : State → Prop}
variable {cc : ByteArray} {pc : Nat} {ls : Array Slot} {rest : List Value} {D : va_G} {cl : List vw_C} {A : Nat → Prop} {a : Nat} {tys : List (ClassId × FieldType)} {ws : va_W} {H0 : Heap}
theorem nr_top {x y : Int32} (h : x = y) (k : W p l e R s m args below meth c H locs cells slots Q (F0 m pc ls (.int y :: rest))) : W p l e R s m args below meth c H locs cells slots Q (F0 m pc ls (.int x :: rest)) := h ▸ k
/-- a call's common part: the callee's world is the caller's -/
theorem cl_A (hD : va_D A ws) (hS : va_S A H0 H locs) (hA : ∀ q, H0.size ≤ q → A q) : ∀ q, va_A ws H.size q → A q := by
  intro q h
  rcases h with ⟨k, e, h⟩ | h
  · exact hD.2 k (q, e) h
  · exact hA q (Nat.le_trans hS.1 h)
theorem pw_blind {av : List Value} {w : va_W} {sz : Nat} : FrameBlind (va_Pc av (pw_ D tys w sz)) := by
  intro a U g mk q
  obtain ⟨q0, q1, qP, qK, qD⟩ := q
  exact ⟨q0, q1, qP, va_K.moved (u := U) (U := U.calling g mk a) (Vm.Alike.refl U.vm) qK, qD⟩
theorem cl_i {y : MethodName} {b : ByteArray} {L nL n index ci : Nat} {ty : FieldType} {rm : Room} {S : Type} {post : Int32 → S → Prop} {w' : S → va_W} {As st0 : List Value} {own : String} {q : vw_C} {fs : List Value} (fx : CallFix p m c cc nL s args lw_all own) (hK : va_K D vwCl tys s) (hP : va_P D vwCl ws H) (hD : va_D A ws) (hA : ∀ q, H0.size ≤ q → A q) (hS : va_S A H0 H locs) (he : ws[0]? = some (a, .inr (ci, fs))) (hc : vwCl[ci]? = some q)
    (hM : mt_i l y b L ty rm D tys ws H.size (.ref a :: As) post w') (cw : CallW R s args own q.1 index y b L (some ty) (ws_ y b L (some ty)) rm 0 0 n) (hn : As.length = n) (hsize : ls.size = nL) (hst : st0 = As.reverse ++ .ref a :: rest) (hroom : (rest.map fun v => v.category).sum ≤ 8) (hcs : cells ≤ R.cells ∧ slots ≤ R.slots) (hdg : decode cc pc = .ok (.invokevirtual index, 3))
    (kk : ∀ (r : Int32) (u : S) (H1 : Heap) (locs1 : List Loc), post r u → va_P D vwCl (w' u) H1 → va_D A (w' u) → va_S A H0 H1 locs1 → W p l e R s m args below meth c H1 locs1 cells slots Q (F0 m (pc + 3) ls (.int r :: rest))) : W p l e R s m args below meth c H locs cells slots Q (F0 m pc ls st0) := by
  have hF := cl_A hD hS hA
  refine va_calli (va_runV (As := As) (rest := rest) (b := a) fx hM cw ⟨pw_blind, va_recv hK hP hc he, fun U hU hW => ⟨rfl, by rw [hU], by rw [hU]; exact hP, va_K.moved hW.alike hK, hD.weaken (fun _ _ _ _ => trivial)⟩⟩ rfl hn hsize hst (lv_room hroom) hdg hcs) hS (fun q _ h => hF q h) hF (fun r u t H1 locs1 ht hvm hw hB hz1 hk1 hS1 => ?_)
  obtain ⟨hP1, hK1, hD1⟩ := hB
  rw [ht] at hP1
  exact kk r u H1 locs1 hw hP1 (hD1.weaken (fun _ _ _ h => hF _ h)) hS1
theorem cl_v {y : MethodName} {b : ByteArray} {L nL n index ci : Nat} {rm : Room} {S : Type} {post : S → Prop} {w' : S → va_W} {As st0 : List Value} {own : String} {q : vw_C} {fs : List Value} (fx : CallFix p m c cc nL s args lw_all own) (hK : va_K D vwCl tys s) (hP : va_P D vwCl ws H) (hD : va_D A ws) (hA : ∀ q, H0.size ≤ q → A q) (hS : va_S A H0 H locs) (he : ws[0]? = some (a, .inr (ci, fs))) (hc : vwCl[ci]? = some q)
    (hM : mt_v l y b L rm D tys ws H.size (.ref a :: As) post w') (cw : CallW R s args own q.1 index y b L none (ws_ y b L none) rm 0 0 n) (hn : As.length = n) (hsize : ls.size = nL) (hst : st0 = As.reverse ++ .ref a :: rest) (hroom : (rest.map fun v => v.category).sum ≤ 8) (hcs : cells ≤ R.cells ∧ slots ≤ R.slots) (hdg : decode cc pc = .ok (.invokevirtual index, 3))
    (kk : ∀ (u : S) (H1 : Heap) (locs1 : List Loc), post u → va_P D vwCl (w' u) H1 → va_D A (w' u) → va_S A H0 H1 locs1 → W p l e R s m args below meth c H1 locs1 cells slots Q (F0 m (pc + 3) ls rest)) : W p l e R s m args below meth c H locs cells slots Q (F0 m pc ls st0) := by
  have hF := cl_A hD hS hA
  refine va_callv (va_runV (As := As) (rest := rest) (b := a) fx hM cw ⟨pw_blind, va_recv hK hP hc he, fun U hU hW => ⟨rfl, by rw [hU], by rw [hU]; exact hP, va_K.moved hW.alike hK, hD.weaken (fun _ _ _ _ => trivial)⟩⟩ rfl hn hsize hst (lv_room hroom) hdg hcs) hS (fun q _ h => hF q h) hF (fun u t H1 locs1 ht hvm hw hB hz1 hk1 hS1 => ?_)
  obtain ⟨hP1, hK1, hD1⟩ := hB
  rw [ht] at hP1
  exact kk u H1 locs1 hw hP1 (hD1.weaken (fun _ _ _ h => hF _ h)) hS1
/-- a static method without a world -/
theorem cl_s {y : MethodName} {b : ByteArray} {L nL n index : Nat} {ty : FieldType} {rm : Room} {S : Type} {post : Int32 → S → Prop} {w' : S → va_W} {As st0 : List Value} {own : String} (fx : CallFix p m c cc nL s args lw_all own) (hK : va_K D vwCl tys s) (hP : va_P D vwCl ws H) (hD : va_D A ws) (hA : ∀ q, H0.size ≤ q → A q) (hS : va_S A H0 H locs)
    (hM : mt_i l y b L ty rm D tys [] H.size As post w') (cw : CallB R s args own index y b L (some ty) (ws_ y b L (some ty)) rm 0 0 n ∧ (Cond.static y).before args s = true) (hn : As.length = n) (hsize : ls.size = nL) (hst : st0 = As.reverse ++ rest) (hroom : (rest.map fun v => v.category).sum ≤ 8) (hcs : cells ≤ R.cells ∧ slots ≤ R.slots) (hdg : decode cc pc = .ok (.invokestatic index, 3))
    (kk : ∀ (r : Int32) (u : S) (H1 : Heap) (locs1 : List Loc), post r u → va_P D vwCl ws H1 → va_D A ws → va_S A H0 H1 locs1 → W p l e R s m args below meth c H1 locs1 cells slots Q (F0 m (pc + 3) ls (.int r :: rest))) : W p l e R s m args below meth c H locs cells slots Q (F0 m pc ls st0) := by
  have hF : ∀ q, va_A [] H.size q → A q := by
    intro q h
    rcases h with ⟨k, e, h⟩ | h
    · simp at h
    · exact hA q (Nat.le_trans hS.1 h)
  refine va_calli (va_runS (As := As) (rest := rest) fx hM cw ⟨pw_blind, fun U hU hW => ⟨rfl, by rw [hU], fun k q h => by simp at h, va_K.moved hW.alike hK, ⟨fun i j x z h => by simp at h, fun k q h => by simp at h⟩⟩⟩ rfl hn hsize hst (lv_room hroom) hdg hcs) hS (fun q _ h => hF q h) hF (fun r u t H1 locs1 ht hvm hw hB hz1 hk1 hS1 => ?_)
  refine kk r u H1 locs1 hw (hP.kept (fun k x hx => hk1 x.1 ((hP k x hx).lt) (fun h => ?_))) hD hS1
  rcases h with ⟨k2, e2, h⟩ | h
  · simp at h
  · have := (hP k x hx).lt
    omega
/-- fields of the class and of the reference -/
theorem gf1 (hx : p.tables.exec = Jvm.exec) (hb : c.code = cc) (hts : ∀ w ∈ lw_all, w.before args s = true) (hown : s.vm.findClass RX1 = some m.cls) (hK : va_K D vwCl tys s) (hP : va_P D vwCl ws H) {fs : List Value} (he : ws[0]? = some (a, .inr (0, fs))) (k : Nat) (hk : k < 11) {index : Nat} (hq : Cond.fieldLink RX1 index "PebbleFrame" (TX1 k).2.1 (TX1 k).2.2.1 ∈ lw_all) (hT : (TX1 k).1 = "PebbleFrame") {v : Value} (hv : fs[k]? = some v) (hdg : decode cc pc = .ok (.getfield index, 3))
    (kk : W p l e R s m args below meth c H locs cells slots Q (F0 m (pc + 3) ls (v :: rest))) : W p l e R s m args below meth c H locs cells slots Q (F0 m pc ls (.ref a :: rest)) :=
  va_get (ci := 0) (C := RX1) (T := TX1) (N := 11) hx hb hts in_X1 hown hK hP 0 he rfl k hk (hts _ hq) (fun _ h9 => by rw [hT] at h9; exact h9) hv hdg kk
theorem gf2 (hx : p.tables.exec = Jvm.exec) (hb : c.code = cc) (hts : ∀ w ∈ lw_all, w.before args s = true) (hown : s.vm.findClass RX2 = some m.cls) (hK : va_K D vwCl tys s) (hP : va_P D vwCl ws H) {fs : List Value} (he : ws[0]? = some (a, .inr (1, fs))) (k : Nat) (hk : k < 4) {index : Nat} (hq : Cond.fieldLink RX2 index "PebbleFrameModel" (TX2 k).2.1 (TX2 k).2.2.1 ∈ lw_all) (hT : (TX2 k).1 = "PebbleFrameModel") {v : Value} (hv : fs[k]? = some v) (hdg : decode cc pc = .ok (.getfield index, 3))
    (kk : W p l e R s m args below meth c H locs cells slots Q (F0 m (pc + 3) ls (v :: rest))) : W p l e R s m args below meth c H locs cells slots Q (F0 m pc ls (.ref a :: rest)) :=
  va_get (ci := 1) (C := RX2) (T := TX2) (N := 4) hx hb hts in_X2 hown hK hP 0 he rfl k hk (hts _ hq) (fun _ h9 => by rw [hT] at h9; exact h9) hv hdg kk
theorem pf1 (hx : p.tables.exec = Jvm.exec) (hb : c.code = cc) (hts : ∀ w ∈ lw_all, w.before args s = true) (hown : s.vm.findClass RX1 = some m.cls) (hK : va_K D vwCl tys s) (hP : va_P D vwCl ws H) (hD : va_D A ws) (hS : va_S A H0 H locs) {fs : List Value} (he : ws[0]? = some (a, .inr (0, fs))) (k : Nat) (hk : k < 11) {index : Nat} (hq : Cond.fieldLink RX1 index "PebbleFrame" (TX1 k).2.1 (TX1 k).2.2.1 ∈ lw_all) (hT : (TX1 k).1 = "PebbleFrame") (hfin : (TX1 k).2.2.2 = false) (hd : parseFieldDescriptor (TX1 k).2.2.1 = some .int) (hl : k < fs.length) {x : Int32} (hdg : decode cc pc = .ok (.putfield index, 3))
    (kk : ∀ (H1 : Heap) (locs1 : List Loc), va_P D vwCl (ws.set 0 (a, .inr (0, fs.set k (.int x)))) H1 → va_D A (ws.set 0 (a, .inr (0, fs.set k (.int x)))) → va_S A H0 H1 locs1 → W p l e R s m args below meth c H1 locs1 cells slots Q (F0 m (pc + 3) ls rest)) : W p l e R s m args below meth c H locs cells slots Q (F0 m pc ls (.int x :: .ref a :: rest)) :=
  va_put (ci := 0) (C := RX1) (T := TX1) (N := 11) (ty := .int) hx hb hts in_X1 tyX1 tyX1_ok nmX1 hown hK hP hD hS 0 he rfl k hk (hts _ hq) (fun _ h9 => by rw [hT] at h9; exact h9) hfin hd rfl rfl hl hdg kk
/-- arrays -/
theorem nr_bald (hx : p.tables.exec = Jvm.exec) (hb : c.code = cc) (hK : va_K D cl tys s) (hP : va_P D cl ws H) (q0 t0 : Nat) {cA : ClassId} {n : Nat} {f : Nat → Nat} (ha : ws[q0]? = some (a, .inl (cA, n, .inl (nF f)))) (ht : tys[t0]? = some (cA, .byte)) {k : Nat} (hn : n < 2 ^ 31) (hk : k < n) (hdg : decode cc pc = .ok (.baload, 1))
    (kk : W p l e R s m args below meth c H locs cells slots Q (F0 m (pc + 1) ls (.int (nI (f k)) :: rest))) : W p l e R s m args below meth c H locs cells slots Q (F0 m pc ls (.int (nI k) :: .ref a :: rest)) := by
  refine va_bald hx hb hK hP q0 t0 ha ht (i := nI k) (vp_in_nI hk hn) hdg ?_
  rw [nI_clamp (Nat.lt_trans hk hn)]
  exact kk
theorem nr_iald (hx : p.tables.exec = Jvm.exec) (hb : c.code = cc) (hK : va_K D cl tys s) (hP : va_P D cl ws H) (q0 t0 : Nat) {cA : ClassId} {n : Nat} {f : Nat → Nat} (ha : ws[q0]? = some (a, .inl (cA, n, .inl (nF f)))) (ht : tys[t0]? = some (cA, .int)) {k : Nat} (hn : n < 2 ^ 31) (hk : k < n) (hdg : decode cc pc = .ok (.iaload, 1))
    (kk : W p l e R s m args below meth c H locs cells slots Q (F0 m (pc + 1) ls (.int (nI (f k)) :: rest))) : W p l e R s m args below meth c H locs cells slots Q (F0 m pc ls (.int (nI k) :: .ref a :: rest)) := by
  refine va_iald hx hb hK hP q0 t0 ha ht (i := nI k) (vp_in_nI hk hn) hdg ?_
  rw [nI_clamp (Nat.lt_trans hk hn)]
  exact kk
theorem nr_zald (hx : p.tables.exec = Jvm.exec) (hb : c.code = cc) (hK : va_K D cl tys s) (hP : va_P D cl ws H) (q0 t0 : Nat) {cA : ClassId} {n P : Nat} (ha : ws[q0]? = some (a, .inl (cA, n, .inl (zF P)))) (ht : tys[t0]? = some (cA, .boolean)) {k : Nat} (hn : n < 2 ^ 31) (hk : k < n) (hdg : decode cc pc = .ok (.baload, 1))
    (kk : W p l e R s m args below meth c H locs cells slots Q (F0 m (pc + 1) ls (.int (nI (P.testBit k).toNat) :: rest))) : W p l e R s m args below meth c H locs cells slots Q (F0 m pc ls (.int (nI k) :: .ref a :: rest)) := by
  refine va_zald hx hb hK hP q0 t0 ha ht (i := nI k) (vp_in_nI hk hn) hdg ?_
  rw [nI_clamp (Nat.lt_trans hk hn)]
  exact kk
theorem nr_bast (hx : p.tables.exec = Jvm.exec) (hb : c.code = cc) (hK : va_K D cl tys s) (hP : va_P D cl ws H) (hD : va_D A ws) (hS : va_S A H0 H locs) (q0 t0 : Nat) {cA : ClassId} {n : Nat} {f : Nat → Nat} (ha : ws[q0]? = some (a, .inl (cA, n, .inl (nF f)))) (ht : tys[t0]? = some (cA, .byte)) {k v : Nat} (hn : n < 2 ^ 31) (hk : k < n) (hv : v < 128) (hdg : decode cc pc = .ok (.bastore, 1))
    (kk : ∀ (H1 : Heap) (locs1 : List Loc), va_P D cl (ws.set q0 (a, .inl (cA, n, .inl (nF (up_ f k v))))) H1 → va_D A (ws.set q0 (a, .inl (cA, n, .inl (nF (up_ f k v))))) → va_S A H0 H1 locs1 → W p l e R s m args below meth c H1 locs1 cells slots Q (F0 m (pc + 1) ls rest)) : W p l e R s m args below meth c H locs cells slots Q (F0 m pc ls (.int (nI v) :: .int (nI k) :: .ref a :: rest)) := by
  refine va_bast hx hb hK hP hD hS q0 t0 ha ht (i := nI k) (x := nI v) (vp_in_nI hk hn) hdg (fun H1 locs1 h1 h2 h3 => ?_)
  rw [wd_nb hv, nF_up (Nat.lt_trans hk hn)] at h1 h2
  exact kk H1 locs1 h1 h2 h3
theorem nr_iast (hx : p.tables.exec = Jvm.exec) (hb : c.code = cc) (hK : va_K D cl tys s) (hP : va_P D cl ws H) (hD : va_D A ws) (hS : va_S A H0 H locs) (q0 t0 : Nat) {cA : ClassId} {n : Nat} {f : Nat → Nat} (ha : ws[q0]? = some (a, .inl (cA, n, .inl (nF f)))) (ht : tys[t0]? = some (cA, .int)) {k v : Nat} (hn : n < 2 ^ 31) (hk : k < n) (hdg : decode cc pc = .ok (.iastore, 1))
    (kk : ∀ (H1 : Heap) (locs1 : List Loc), va_P D cl (ws.set q0 (a, .inl (cA, n, .inl (nF (up_ f k v))))) H1 → va_D A (ws.set q0 (a, .inl (cA, n, .inl (nF (up_ f k v))))) → va_S A H0 H1 locs1 → W p l e R s m args below meth c H1 locs1 cells slots Q (F0 m (pc + 1) ls rest)) : W p l e R s m args below meth c H locs cells slots Q (F0 m pc ls (.int (nI v) :: .int (nI k) :: .ref a :: rest)) := by
  refine va_iast hx hb hK hP hD hS q0 t0 ha ht (i := nI k) (x := nI v) (vp_in_nI hk hn) hdg (fun H1 locs1 h1 h2 h3 => ?_)
  rw [nF_up (Nat.lt_trans hk hn)] at h1 h2
  exact kk H1 locs1 h1 h2 h3
theorem nr_zset (hx : p.tables.exec = Jvm.exec) (hb : c.code = cc) (hK : va_K D cl tys s) (hP : va_P D cl ws H) (hD : va_D A ws) (hS : va_S A H0 H locs) (q0 t0 : Nat) {cA : ClassId} {n P : Nat} (ha : ws[q0]? = some (a, .inl (cA, n, .inl (zF P)))) (ht : tys[t0]? = some (cA, .boolean)) {k : Nat} (hn : n < 2 ^ 31) (hk : k < n) (hdg : decode cc pc = .ok (.bastore, 1))
    (kk : ∀ (H1 : Heap) (locs1 : List Loc), va_P D cl (ws.set q0 (a, .inl (cA, n, .inl (zF (P ||| 2 ^ k))))) H1 → va_D A (ws.set q0 (a, .inl (cA, n, .inl (zF (P ||| 2 ^ k))))) → va_S A H0 H1 locs1 → W p l e R s m args below meth c H1 locs1 cells slots Q (F0 m (pc + 1) ls rest)) : W p l e R s m args below meth c H locs cells slots Q (F0 m pc ls (.int (nI 1) :: .int (nI k) :: .ref a :: rest)) := by
  refine va_zast hx hb hK hP hD hS q0 t0 ha ht (i := nI k) (x := nI 1) (vp_in_nI hk hn) hdg (fun H1 locs1 h1 h2 h3 => ?_)
  rw [show vp_nar .boolean (nI 1) = nI 1 from wd_nz true, zF_set (Nat.lt_trans hk hn)] at h1 h2
  exact kk H1 locs1 h1 h2 h3
theorem nr_zclr (hx : p.tables.exec = Jvm.exec) (hb : c.code = cc) (hK : va_K D cl tys s) (hP : va_P D cl ws H) (hD : va_D A ws) (hS : va_S A H0 H locs) (q0 t0 : Nat) {cA : ClassId} {n P : Nat} (ha : ws[q0]? = some (a, .inl (cA, n, .inl (zF P)))) (ht : tys[t0]? = some (cA, .boolean)) {k : Nat} (hn : n < 2 ^ 31) (hk : k < n) (hdg : decode cc pc = .ok (.bastore, 1))
    (kk : ∀ (H1 : Heap) (locs1 : List Loc), va_P D cl (ws.set q0 (a, .inl (cA, n, .inl (zF (an_ P (2 ^ k)))))) H1 → va_D A (ws.set q0 (a, .inl (cA, n, .inl (zF (an_ P (2 ^ k)))))) → va_S A H0 H1 locs1 → W p l e R s m args below meth c H1 locs1 cells slots Q (F0 m (pc + 1) ls rest)) : W p l e R s m args below meth c H locs cells slots Q (F0 m pc ls (.int (nI 0) :: .int (nI k) :: .ref a :: rest)) := by
  refine va_zast hx hb hK hP hD hS q0 t0 ha ht (i := nI k) (x := nI 0) (vp_in_nI hk hn) hdg (fun H1 locs1 h1 h2 h3 => ?_)
  rw [show vp_nar .boolean (nI 0) = nI 0 from wd_nz false, zF_clr (Nat.lt_trans hk hn)] at h1 h2
  exact kk H1 locs1 h1 h2 h3
/-- numbers -/
theorem nr_bit (hx : p.tables.exec = Jvm.exec) (hb : c.code = cc) {S k : Nat} (hS : S < 2 ^ 31) (hk : k < 32) (d1 : decode cc pc = .ok (.ishr, 1)) (d2 : decode cc (pc + 1) = .ok (.iconst 1, 1)) (d3 : decode cc (pc + 1 + 1) = .ok (.iand, 1))
    (kk : W p l e R s m args below meth c H locs cells slots Q (F0 m (pc + 3) ls (.int (nI (S.testBit k).toNat) :: rest))) : W p l e R s m args below meth c H locs cells slots Q (F0 m pc ls (.int (nI k) :: .int (nI S) :: rest)) := by
  refine lv_ishr hx hb d1 (lv_iconst (v := nI 1) hx hb d2 (by decide) (lv_iand hx hb d3 ?_))
  rw [wd_bit hS hk]
  exact kk
theorem nr_shl (hx : p.tables.exec = Jvm.exec) (hb : c.code = cc) {k : Nat} (hk : k < 31) (hdg : decode cc pc = .ok (.ishl, 1))
    (kk : W p l e R s m args below meth c H locs cells slots Q (F0 m (pc + 1) ls (.int (nI (2 ^ k)) :: rest))) : W p l e R s m args below meth c H locs cells slots Q (F0 m pc ls (.int (nI k) :: .int (nI 1) :: rest)) := by
  refine lv_ishl hx hb hdg ?_
  rw [wd_shl hk]
  exact kk
theorem nr_or (hx : p.tables.exec = Jvm.exec) (hb : c.code = cc) {x y : Nat} (hdg : decode cc pc = .ok (.ior, 1))
    (kk : W p l e R s m args below meth c H locs cells slots Q (F0 m (pc + 1) ls (.int (nI (x ||| y)) :: rest))) : W p l e R s m args below meth c H locs cells slots Q (F0 m pc ls (.int (nI y) :: .int (nI x) :: rest)) := by
  refine lv_ior hx hb hdg ?_
  rw [wd_or]
  exact kk
theorem nr_and (hx : p.tables.exec = Jvm.exec) (hb : c.code = cc) {x y : Nat} (hdg : decode cc pc = .ok (.iand, 1))
    (kk : W p l e R s m args below meth c H locs cells slots Q (F0 m (pc + 1) ls (.int (nI (x &&& y)) :: rest))) : W p l e R s m args below meth c H locs cells slots Q (F0 m pc ls (.int (nI y) :: .int (nI x) :: rest)) := by
  refine lv_iand hx hb hdg ?_
  rw [wd_and]
  exact kk
theorem nr_andn (hx : p.tables.exec = Jvm.exec) (hb : c.code = cc) {S M : Nat} (d1 : decode cc pc = .ok (.iconst (-1), 1)) (d2 : decode cc (pc + 1) = .ok (.ixor, 1)) (d3 : decode cc (pc + 1 + 1) = .ok (.iand, 1))
    (kk : W p l e R s m args below meth c H locs cells slots Q (F0 m (pc + 3) ls (.int (nI (an_ S M)) :: rest))) : W p l e R s m args below meth c H locs cells slots Q (F0 m pc ls (.int (nI M) :: .int (nI S) :: rest)) := by
  refine lv_iconst (v := -1) hx hb d1 (by decide) (lv_ixor hx hb d2 (lv_iand hx hb d3 ?_))
  rw [wd_not]
  exact kk
theorem nr_add (hx : p.tables.exec = Jvm.exec) (hb : c.code = cc) {x y : Nat} (hdg : decode cc pc = .ok (.iadd, 1))
    (kk : W p l e R s m args below meth c H locs cells slots Q (F0 m (pc + 1) ls (.int (nI (x + y)) :: rest))) : W p l e R s m args below meth c H locs cells slots Q (F0 m pc ls (.int (nI y) :: .int (nI x) :: rest)) := by
  refine lv_iadd hx hb hdg ?_
  rw [nI_add]
  exact kk
theorem nr_sub (hx : p.tables.exec = Jvm.exec) (hb : c.code = cc) {x y : Nat} (h : y ≤ x) (hdg : decode cc pc = .ok (.isub, 1))
    (kk : W p l e R s m args below meth c H locs cells slots Q (F0 m (pc + 1) ls (.int (nI (x - y)) :: rest))) : W p l e R s m args below meth c H locs cells slots Q (F0 m pc ls (.int (nI y) :: .int (nI x) :: rest)) := by
  refine lv_isub hx hb hdg ?_
  rw [pk_sub h]
  exact kk
theorem nr_mul (hx : p.tables.exec = Jvm.exec) (hb : c.code = cc) {x y : Nat} (hdg : decode cc pc = .ok (.imul, 1))
    (kk : W p l e R s m args below meth c H locs cells slots Q (F0 m (pc + 1) ls (.int (nI (x * y)) :: rest))) : W p l e R s m args below meth c H locs cells slots Q (F0 m pc ls (.int (nI y) :: .int (nI x) :: rest)) := by
  refine lv_imul hx hb hdg ?_
  rw [pk_mul]
  exact kk
theorem nr_i2b (hx : p.tables.exec = Jvm.exec) (hb : c.code = cc) {x : Nat} (h : x < 128) (hdg : decode cc pc = .ok (.i2b, 1))
    (kk : W p l e R s m args below meth c H locs cells slots Q (F0 m (pc + 1) ls (.int (nI x) :: rest))) : W p l e R s m args below meth c H locs cells slots Q (F0 m pc ls (.int (nI x) :: rest)) :=
  lv_i2b hx hb hdg (wd_i2b x h) kk
/-- branches -/
theorem nr_icmp_ge (hx : p.tables.exec = Jvm.exec) (hb : c.code = cc) {x y : Nat} (h1 : x < 2 ^ 31) (h2 : y < 2 ^ 31) {off : Int} {tgt : Nat} (hdg : decode cc pc = .ok (.if_icmp .ge off, 3)) (ht : (pc : Int) + off = (tgt : Int))
    (kt : y ≤ x → W p l e R s m args below meth c H locs cells slots Q (F0 m tgt ls rest)) (kf : x < y → W p l e R s m args below meth c H locs cells slots Q (F0 m (pc + 3) ls rest)) : W p l e R s m args below meth c H locs cells slots Q (F0 m pc ls (.int (nI y) :: .int (nI x) :: rest)) :=
  lv_icmp_ge hx hb hdg ht (fun h => kt ((nI_leI h2 h1).mp h)) (fun h => kf (Nat.not_le.mp (fun q => h ((nI_leI h2 h1).mpr q))))
theorem nr_icmp_lt (hx : p.tables.exec = Jvm.exec) (hb : c.code = cc) {x y : Nat} (h1 : x < 2 ^ 31) (h2 : y < 2 ^ 31) {off : Int} {tgt : Nat} (hdg : decode cc pc = .ok (.if_icmp .lt off, 3)) (ht : (pc : Int) + off = (tgt : Int))
    (kt : x < y → W p l e R s m args below meth c H locs cells slots Q (F0 m tgt ls rest)) (kf : y ≤ x → W p l e R s m args below meth c H locs cells slots Q (F0 m (pc + 3) ls rest)) : W p l e R s m args below meth c H locs cells slots Q (F0 m pc ls (.int (nI y) :: .int (nI x) :: rest)) :=
  lv_icmp_lt hx hb hdg ht (fun h => kt ((nI_ltI h1 h2).mp h)) (fun h => kf (Nat.not_lt.mp (fun q => h ((nI_ltI h1 h2).mpr q))))
theorem nr_icmp_gt (hx : p.tables.exec = Jvm.exec) (hb : c.code = cc) {x y : Nat} (h1 : x < 2 ^ 31) (h2 : y < 2 ^ 31) {off : Int} {tgt : Nat} (hdg : decode cc pc = .ok (.if_icmp .gt off, 3)) (ht : (pc : Int) + off = (tgt : Int))
    (kt : y < x → W p l e R s m args below meth c H locs cells slots Q (F0 m tgt ls rest)) (kf : x ≤ y → W p l e R s m args below meth c H locs cells slots Q (F0 m (pc + 3) ls rest)) : W p l e R s m args below meth c H locs cells slots Q (F0 m pc ls (.int (nI y) :: .int (nI x) :: rest)) :=
  lv_icmp_gt hx hb hdg ht (fun h => kt ((nI_ltI h2 h1).mp h)) (fun h => kf (Nat.not_lt.mp (fun q => h ((nI_ltI h2 h1).mpr q))))
theorem nr_icmp_le (hx : p.tables.exec = Jvm.exec) (hb : c.code = cc) {x y : Nat} (h1 : x < 2 ^ 31) (h2 : y < 2 ^ 31) {off : Int} {tgt : Nat} (hdg : decode cc pc = .ok (.if_icmp .le off, 3)) (ht : (pc : Int) + off = (tgt : Int))
    (kt : x ≤ y → W p l e R s m args below meth c H locs cells slots Q (F0 m tgt ls rest)) (kf : y < x → W p l e R s m args below meth c H locs cells slots Q (F0 m (pc + 3) ls rest)) : W p l e R s m args below meth c H locs cells slots Q (F0 m pc ls (.int (nI y) :: .int (nI x) :: rest)) :=
  lv_icmp_le hx hb hdg ht (fun h => kt ((nI_leI h1 h2).mp h)) (fun h => kf (Nat.not_le.mp (fun q => h ((nI_leI h1 h2).mpr q))))
theorem nr_icmp_eq (hx : p.tables.exec = Jvm.exec) (hb : c.code = cc) {x y : Nat} (h1 : x < 2 ^ 31) (h2 : y < 2 ^ 31) {off : Int} {tgt : Nat} (hdg : decode cc pc = .ok (.if_icmp .eq off, 3)) (ht : (pc : Int) + off = (tgt : Int))
    (kt : x = y → W p l e R s m args below meth c H locs cells slots Q (F0 m tgt ls rest)) (kf : x ≠ y → W p l e R s m args below meth c H locs cells slots Q (F0 m (pc + 3) ls rest)) : W p l e R s m args below meth c H locs cells slots Q (F0 m pc ls (.int (nI y) :: .int (nI x) :: rest)) :=
  lv_icmp_eq hx hb hdg ht (fun h => kt ((nI_eq h1 h2).mp h)) (fun h => kf (fun q => h ((nI_eq h1 h2).mpr q)))
theorem nr_icmp_ne (hx : p.tables.exec = Jvm.exec) (hb : c.code = cc) {x y : Nat} (h1 : x < 2 ^ 31) (h2 : y < 2 ^ 31) {off : Int} {tgt : Nat} (hdg : decode cc pc = .ok (.if_icmp .ne off, 3)) (ht : (pc : Int) + off = (tgt : Int))
    (kt : x ≠ y → W p l e R s m args below meth c H locs cells slots Q (F0 m tgt ls rest)) (kf : x = y → W p l e R s m args below meth c H locs cells slots Q (F0 m (pc + 3) ls rest)) : W p l e R s m args below meth c H locs cells slots Q (F0 m pc ls (.int (nI y) :: .int (nI x) :: rest)) :=
  lv_icmp_ne hx hb hdg ht (fun h => kt (fun q => h ((nI_eq h1 h2).mpr q))) (fun h => kf ((nI_eq h1 h2).mp h))
/-- branches on a truth value -/
theorem nr_bne1 (hx : p.tables.exec = Jvm.exec) (hb : c.code = cc) {b : Bool} {off : Int} {tgt : Nat} (hdg : decode cc pc = .ok (.if_icmp .ne off, 3)) (ht : (pc : Int) + off = (tgt : Int))
    (kt : b = false → W p l e R s m args below meth c H locs cells slots Q (F0 m tgt ls rest)) (kf : b = true → W p l e R s m args below meth c H locs cells slots Q (F0 m (pc + 3) ls rest)) : W p l e R s m args below meth c H locs cells slots Q (F0 m pc ls (.int (nI 1) :: .int (nI b.toNat) :: rest)) :=
  lv_icmp_ne hx hb hdg ht (fun h => kt (by cases b with
    | false => rfl
    | true => exact absurd rfl h)) (fun h => kf (wd_b1.mp h))
theorem nr_beq (hx : p.tables.exec = Jvm.exec) (hb : c.code = cc) {b : Bool} {off : Int} {tgt : Nat} (hdg : decode cc pc = .ok (.ifCond .eq off, 3)) (ht : (pc : Int) + off = (tgt : Int))
    (kt : b = false → W p l e R s m args below meth c H locs cells slots Q (F0 m tgt ls rest)) (kf : b = true → W p l e R s m args below meth c H locs cells slots Q (F0 m (pc + 3) ls rest)) : W p l e R s m args below meth c H locs cells slots Q (F0 m pc ls (.int (nI b.toNat) :: rest)) :=
  lv_if_eq hx hb hdg ht (fun h => kt (wd_b0.mp h)) (fun h => kf (by cases b with
    | false => exact absurd rfl h
    | true => rfl))
theorem nr_bne (hx : p.tables.exec = Jvm.exec) (hb : c.code = cc) {b : Bool} {off : Int} {tgt : Nat} (hdg : decode cc pc = .ok (.ifCond .ne off, 3)) (ht : (pc : Int) + off = (tgt : Int))
    (kt : b = true → W p l e R s m args below meth c H locs cells slots Q (F0 m tgt ls rest)) (kf : b = false → W p l e R s m args below meth c H locs cells slots Q (F0 m (pc + 3) ls rest)) : W p l e R s m args below meth c H locs cells slots Q (F0 m pc ls (.int (nI b.toNat) :: rest)) :=
  lv_if_ne hx hb hdg ht (fun h => kt (by cases b with
    | false => exact absurd rfl h
    | true => rfl)) (fun h => kf (wd_b0.mp h))
/-- the same on numbers -/
theorem nr_neq (hx : p.tables.exec = Jvm.exec) (hb : c.code = cc) {x : Nat} (h1 : x < 2 ^ 31) {off : Int} {tgt : Nat} (hdg : decode cc pc = .ok (.ifCond .eq off, 3)) (ht : (pc : Int) + off = (tgt : Int))
    (kt : x = 0 → W p l e R s m args below meth c H locs cells slots Q (F0 m tgt ls rest)) (kf : x ≠ 0 → W p l e R s m args below meth c H locs cells slots Q (F0 m (pc + 3) ls rest)) : W p l e R s m args below meth c H locs cells slots Q (F0 m pc ls (.int (nI x) :: rest)) :=
  lv_if_eq hx hb hdg ht (fun h => kt ((nI_eq h1 (by decide)).mp (h.trans nI_0.symm))) (fun h => kf (fun q => h (by rw [q]; exact nI_0)))
theorem nr_nle (hx : p.tables.exec = Jvm.exec) (hb : c.code = cc) {x : Nat} (h1 : x < 2 ^ 31) {off : Int} {tgt : Nat} (hdg : decode cc pc = .ok (.ifCond .le off, 3)) (ht : (pc : Int) + off = (tgt : Int))
    (kt : x = 0 → W p l e R s m args below meth c H locs cells slots Q (F0 m tgt ls rest)) (kf : x ≠ 0 → W p l e R s m args below meth c H locs cells slots Q (F0 m (pc + 3) ls rest)) : W p l e R s m args below meth c H locs cells slots Q (F0 m pc ls (.int (nI x) :: rest)) :=
  lv_if_le hx hb hdg ht (fun h => kt (by
    rcases Nat.eq_zero_or_pos x with q | q
    · exact q
    · exact absurd h (nI_nle q h1))) (fun h => kf (fun q => h (by rw [q, nI_0]; decide)))
end NR
/-! the worlds of the class and of the reference -/
abbrev wF (d : ClassId) (ad : Nat → Nat) (J P : Nat) (eA eB : Nat → Nat) (T : Nat) (fr to pb : Nat → Nat) (re : Nat) (bY ln : Nat → Nat) : va_W :=
  [(ad 0, .inr (0, [.int (nI J), .int (nI P), .ref (ad 1), .ref (ad 2), .int (nI T), .ref (ad 3), .ref (ad 4), .ref (ad 5), .int (nI re), .ref (ad 6), .ref (ad 7)])), (ad 1, .inl (d, 12, .inl (nF eA))), (ad 2, .inl (d, 12, .inl (nF eB))), (ad 3, .inl (d, 12, .inl (nF fr))), (ad 4, .inl (d, 12, .inl (nF to))), (ad 5, .inl (d, 6, .inl (nF pb))), (ad 6, .inl (d, 6, .inl (nF bY))), (ad 7, .inl (d, 8, .inl (nF ln)))]
abbrev ps_ : Type := Nat × (Nat → Nat) × (Nat → Nat) × (Nat → Nat) × Nat × (Nat → Nat) × (Nat → Nat)
abbrev wU (d : ClassId) (ad : Nat → Nat) (J P : Nat) (eA eB : Nat → Nat) (u : ps_) : va_W := wF d ad J P eA eB u.1 u.2.1 u.2.2.1 u.2.2.2.1 u.2.2.2.2.1 u.2.2.2.2.2.1 u.2.2.2.2.2.2
abbrev wM (dZ dN : ClassId) (ad : Nat → Nat) (J P : Nat) (mA mB : Nat → Nat) : va_W :=
  [(ad 0, .inr (1, [.int (nI J), .ref (ad 1), .ref (ad 2), .ref (ad 3)])), (ad 1, .inl (dZ, 13, .inl (zF P))), (ad 2, .inl (dN, 13, .inl (nF mA))), (ad 3, .inl (dN, 13, .inl (nF mB)))]
end
section
/-! what the methods answer, as plain functions of joints J, bars present P and their ends A, B -/
theorem up_acc {f : Nat → Nat} {k v : Nat} (h : ∀ i, i < k → f i = v) : ∀ i, i < k + 1 → up_ f k v i = v := by
  intro i hi
  by_cases e : i = k
  · rw [e, up_s]
  · rw [up_n e]
    exact h i (by omega)
theorem sz_12 {T : Nat} (h : T < 4096) : cn_ 12 (fun i => T.testBit i) = sz_ T := (cn_ext (n := 12) (m := 13) (by decide) (fun i hi _ => tb_lt (n := 12) h hi)).symm
/-- a raw int names a bar that is present -/
def ha_ (P : Nat) (x : Int32) : Bool := jo_ 12 x && P.testBit x.toNatClampNeg
theorem ha_nI {P k : Nat} (h : k < 12) : ha_ P (nI k) = P.testBit k := by
  unfold ha_
  rw [jo_nI (by decide) h, nI_clamp (by omega)]
  rfl
theorem ha_no {P : Nat} {x : Int32} (h : jo_ 12 x = false) : ha_ P x = false := by
  unfold ha_
  rw [h]
  rfl
theorem ha_ex {P : Nat} {x : Int32} (h : ha_ P x = true) : ∃ k, k < 12 ∧ x = nI k ∧ P.testBit k = true := by
  have h1 : jo_ 12 x = true := by
    unfold ha_ at h
    exact (Bool.and_eq_true _ _ ▸ h).1
  obtain ⟨k, hk, rfl⟩ := (jo_iff (by decide)).mp h1
  rw [ha_nI hk] at h
  exact ⟨k, hk, rfl, h⟩
/-- two raw ints that can't be the ends of a bar -/
def ba_ (J : Nat) (x y : Int32) : Bool := decide (x = y) || !(jo_ J x) || !(jo_ J y)
theorem ba_eq {J : Nat} {x y : Int32} (h : x = y) : ba_ J x y = true := by simp [ba_, h]
theorem ba_x {J : Nat} {x y : Int32} (h : jo_ J x = false) : ba_ J x y = true := by simp [ba_, h]
theorem ba_y {J : Nat} {x y : Int32} (h : jo_ J y = false) : ba_ J x y = true := by simp [ba_, h]
theorem ba_no {J : Nat} {x y : Int32} (h1 : ¬ x = y) (h2 : jo_ J x = true) (h3 : jo_ J y = true) : ba_ J x y = false := by simp [ba_, h1, h2, h3]
theorem ba_ex {J : Nat} {x y : Int32} (hJ : J < 2 ^ 31) (h : ba_ J x y = false) : ∃ a b, a < J ∧ b < J ∧ a ≠ b ∧ x = nI a ∧ y = nI b := by
  unfold ba_ at h
  rw [Bool.or_eq_false_iff, Bool.or_eq_false_iff, decide_eq_false_iff_not, Bool.not_eq_false', Bool.not_eq_false'] at h
  obtain ⟨a, ha, rfl⟩ := (jo_iff hJ).mp h.1.2
  obtain ⟨b, hb, rfl⟩ := (jo_iff hJ).mp h.2
  exact ⟨a, b, ha, hb, fun e => h.1.1 (by rw [e]), rfl, rfl⟩
theorem ba_nI {J a b : Nat} (hJ : J < 2 ^ 31) (ha : a < J) (hb : b < J) : ba_ J (nI a) (nI b) = decide (a = b) := by
  unfold ba_
  rw [jo_nI hJ ha, jo_nI hJ hb]
  by_cases e : a = b
  · simp [e]
  · have : ¬ nI a = nI b := fun q => e ((nI_eq (by omega) (by omega)).mp q)
    simp [e, this]
/-- the first bar that is free -/
def ff_ (P : Nat) : Nat → Nat → Nat
  | 0, k => k
  | n + 1, k => if P.testBit k = true then ff_ P n (k + 1) else k
def fw_ (P : Nat) : Nat := ff_ P 12 0
theorem ff_end {P : Nat} : ff_ P (12 - 12) 12 = 12 := rfl
theorem ff_go {P k : Nat} (hk : k < 12) (h : P.testBit k = true) : ff_ P (12 - k) k = ff_ P (12 - (k + 1)) (k + 1) := by
  rw [show 12 - k = (12 - (k + 1)) + 1 by omega]
  show (if P.testBit k = true then _ else _) = _
  rw [if_pos h]
theorem ff_hit {P k : Nat} (hk : k < 12) (h : P.testBit k = false) : ff_ P (12 - k) k = k := by
  rw [show 12 - k = (12 - (k + 1)) + 1 by omega]
  show (if P.testBit k = true then _ else _) = _
  rw [h]
  rfl
def aR_ (J P : Nat) (x y : Int32) : Int32 := if ba_ J x y = true then -1 else if fw_ P = 12 then -2 else nI (fw_ P)
def aP_ (J P : Nat) (x y : Int32) : Nat := if ba_ J x y = true then P else if fw_ P = 12 then P else P ||| 2 ^ (fw_ P)
def aA_ (J P : Nat) (x y : Int32) (A : Nat → Nat) (z : Int32) : Nat → Nat := if ba_ J x y = true then A else if fw_ P = 12 then A else up_ A (fw_ P) z.toNatClampNeg
def rP_ (P : Nat) (x : Int32) : Nat := if ha_ P x = true then an_ P (2 ^ x.toNatClampNeg) else P
def fd_ (J : Nat) (A B : Nat → Nat) (P : Nat) : Int32 := nI (2 * J - 3) - nI (sz_ (tk_ J A B P 12))
def he_ (J : Nat) (A B : Nat → Nat) (P : Nat) (x y : Int32) : Bool := !(ba_ J x y) && !(ft_ J A B (tk_ J A B P 12) x.toNatClampNeg y.toNatClampNeg)
def rd_ (J : Nat) (A B : Nat → Nat) (P : Nat) (x : Int32) : Bool := ha_ P x && decide (sz_ (tk_ J A B (an_ P (2 ^ x.toNatClampNeg)) 12) = sz_ (tk_ J A B P 12))
def rn_ (J : Nat) (A B : Nat → Nat) (F k : Nat) : Nat → Nat
  | 0 => 2 ^ k
  | f + 1 => if (F.testBit f && lo_ J A B (an_ F (2 ^ f) ||| 2 ^ k)) = true then rn_ J A B F k f ||| 2 ^ f else rn_ J A B F k f
theorem rn_lt {J : Nat} {A B : Nat → Nat} {F k n : Nat} (hk : k < 12) (hn : n ≤ 12) : rn_ J A B F k n < 4096 := by
  induction n with
  | zero => exact p_lt (n := 12) hk
  | succ n ih =>
    have h := ih (by omega)
    show (if _ then _ else _) < 4096
    split
    · exact or_lt (n := 12) h (p_lt (by omega))
    · exact h
def rg_ (J : Nat) (A B : Nat → Nat) (P : Nat) (x : Int32) : Nat := if (ha_ P x && !((tk_ J A B P 12).testBit x.toNatClampNeg)) = true then rn_ J A B (tk_ J A B P 12) x.toNatClampNeg 12 else 0
def hT_ (J : Nat) (A B : Nat → Nat) (P : Nat) (x : Int32) : Nat := if jo_ J x = true then ht_ (hb_ J A B (tk_ J A B P 12)) x.toNatClampNeg J else 0
def bN_ (J : Nat) (A B : Nat → Nat) (P : Nat) : Nat := bf2_ (hb_ J A B (tk_ J A B P 12)) J
def dh_ (J : Nat) (A B : Nat → Nat) (P : Nat) : Bool := decide (fd_ J A B P = 0) && al_ 12 (fun k => !(P.testBit k) || rd_ J A B P (nI k))
/-- bars present have different ends -/
def ok_ (J P : Nat) (A B : Nat → Nat) : Prop := 2 ≤ J ∧ J ≤ 6 ∧ P < 4096 ∧ ∀ i, i < 12 → P.testBit i = true → A i < J ∧ B i < J ∧ A i ≠ B i
theorem ok_ev {J P : Nat} {A B : Nat → Nat} (h : ok_ J P A B) : ev_ A B (tk_ J A B P 12) := by
  intro i hi ht
  have hp := tk_sub J A B P 12 i ht
  have := tb_in (n := 12) h.2.2.1 hp
  obtain ⟨g1, g2, g3⟩ := h.2.2.2 i this hp
  have := h.2.1
  exact ⟨by omega, by omega, g3⟩
theorem ok_hr {J P : Nat} {A B : Nat → Nat} (h : ok_ J P A B) : hr_ (hb_ J A B (tk_ J A B P 12)) J := by
  have := h.2.1
  exact ⟨hb_sym J A B _, hb_ir J A B _, fun a b c d ha hb hc hd => hb_q (tk_lo J A B P 12) (ok_ev h) (by omega) (by omega) (by omega) (by omega)⟩
theorem ok_add {J P : Nat} {A B : Nat → Nat} {x y : Int32} (h : ok_ J P A B) : ok_ J (aP_ J P x y) (aA_ J P x y A x) (aA_ J P x y B y) := by
  unfold aP_ aA_
  by_cases h1 : ba_ J x y = true
  · rw [if_pos h1, if_pos h1, if_pos h1]
    exact h
  · rw [if_neg h1, if_neg h1, if_neg h1]
    by_cases h2 : fw_ P = 12
    · rw [if_pos h2, if_pos h2, if_pos h2]
      exact h
    · rw [if_neg h2, if_neg h2, if_neg h2]
      obtain ⟨g1, g2, g3, g4⟩ := h
      have hf : fw_ P ≤ 12 := by
        have key : ∀ n k, k + n ≤ 12 → ff_ P n k ≤ 12 := by
          intro n
          induction n with
          | zero => intro k hk; exact hk
          | succ n ih =>
            intro k hk
            show (if P.testBit k = true then _ else _) ≤ 12
            split
            · exact ih (k + 1) (by omega)
            · omega
        exact key 12 0 (by omega)
      obtain ⟨a, b, ha, hb, hab, rfl, rfl⟩ := ba_ex (by omega) (Bool.eq_false_iff.mpr h1)
      rw [nI_clamp (by omega), nI_clamp (by omega)]
      refine ⟨g1, g2, or_lt (n := 12) g3 (p_lt (by omega)), fun i hi hp => ?_⟩
      by_cases e : i = fw_ P
      · rw [e, up_s, up_s]
        exact ⟨ha, hb, hab⟩
      · rw [up_n e, up_n e]
        rw [tb_or] at hp
        simp [show ¬ fw_ P = i from fun q => e q.symm] at hp
        exact g4 i hi hp
theorem ok_rem {J P : Nat} {A B : Nat → Nat} {x : Int32} (h : ok_ J P A B) : ok_ J (rP_ P x) A B := by
  unfold rP_
  by_cases h1 : ha_ P x = true
  · rw [if_pos h1]
    refine ⟨h.1, h.2.1, an_lt (n := 12) h.2.2.1, fun i hi hp => h.2.2.2 i hi ?_⟩
    rw [an_tb] at hp
    exact (Bool.and_eq_true _ _ ▸ hp).1
  · rw [if_neg h1]
    exact h
end
section
set_option maxHeartbeats 4000000 in
set_option maxRecDepth 100000 in
/-- isJoint -/
theorem mX1_isJoint (l : Launch) (D : va_G) (d : ClassId) (ad : Nat → Nat) (sz : Nat) (J P : Nat) (eA eB : Nat → Nat) (T : Nat) (fr to pb : Nat → Nat) (re : Nat) (bY ln : Nat → Nat) (x : Int32)  : mt_i l yX1_isJoint cX1_isJoint 2 .boolean (rr_ 0 0) D [(d, .byte)] (wF d ad J P eA eB T fr to pb re bY ln) sz [.ref (ad 0), .int x] (fun (r : Int32) (_ : Unit) => r = nI (jo_ J x).toNat) (fun _ => wF d ad J P eA eB T fr to pb re bY ln) := by
  refine en_i (by decide +kernel) (Nat.le_of_ble_eq_true rfl) ?_
  intro p e s m args below meth c A H0 Q hx hb hml hown hts hK hP hD hA hS ret ls hl
  have hown : s.vm.findClass RX1 = some m.cls := hown
  have hl : lv_has ls 2 [(0, .ref (ad 0)), (1, .int x)] := hl
  refine lv_iload_n hx hb dX1_isJoint_0 rfl (lv_at hl 1 rfl) ?_
  refine lv_if_lt (tgt := 16) hx hb dX1_isJoint_1 (by decide) (fun c1 => ?_) (fun c1 => ?_)
  · refine lv_iconst (v := nI 0) hx hb dX1_isJoint_16 (by decide) ?_
    exact ret _ _ _ _ _ () dX1_isJoint_17 (rfl) (by first | (rw [jo_no (Or.inl c1)]; rfl) | (rw [jo_no (Or.inr c9)]; rfl) | (rw [jo_yes c1 c9]; rfl)) hP hD hS
  · refine lv_iload_n hx hb dX1_isJoint_4 rfl (lv_at hl 1 rfl) ?_
    refine lv_aload_n hx hb dX1_isJoint_5 rfl (lv_at hl 0 rfl) ?_
    refine gf1 hx hb hts hown hK hP rfl 0 (by decide) q28 rfl rfl dX1_isJoint_6 ?_
    refine lv_icmp_ge (tgt := 16) hx hb dX1_isJoint_9 (by decide) (fun c9 => ?_) (fun c9 => ?_)
    · refine lv_iconst (v := nI 0) hx hb dX1_isJoint_16 (by decide) ?_
      exact ret _ _ _ _ _ () dX1_isJoint_17 (rfl) (by first | (rw [jo_no (Or.inl c1)]; rfl) | (rw [jo_no (Or.inr c9)]; rfl) | (rw [jo_yes c1 c9]; rfl)) hP hD hS
    · refine lv_iconst (v := nI 1) hx hb dX1_isJoint_12 (by decide) ?_
      refine lv_goto (tgt := 17) hx hb dX1_isJoint_13 (by decide) ?_
      exact ret _ _ _ _ _ () dX1_isJoint_17 (rfl) (by first | (rw [jo_no (Or.inl c1)]; rfl) | (rw [jo_no (Or.inr c9)]; rfl) | (rw [jo_yes c1 c9]; rfl)) hP hD hS

set_option maxHeartbeats 4000000 in
set_option maxRecDepth 100000 in
/-- has -/
theorem mX1_has (l : Launch) (D : va_G) (d : ClassId) (ad : Nat → Nat) (sz : Nat) (J P : Nat) (eA eB : Nat → Nat) (T : Nat) (fr to pb : Nat → Nat) (re : Nat) (bY ln : Nat → Nat) (x : Int32) (hP4 : P < 4096) : mt_i l yX1_has cX1_has 2 .boolean (rr_ 0 0) D [(d, .byte)] (wF d ad J P eA eB T fr to pb re bY ln) sz [.ref (ad 0), .int x] (fun (r : Int32) (_ : Unit) => r = nI (ha_ P x).toNat) (fun _ => wF d ad J P eA eB T fr to pb re bY ln) := by
  refine en_i (by decide +kernel) (Nat.le_of_ble_eq_true rfl) ?_
  intro p e s m args below meth c A H0 Q hx hb hml hown hts hK hP hD hA hS ret ls hl
  have hown : s.vm.findClass RX1 = some m.cls := hown
  have hl : lv_has ls 2 [(0, .ref (ad 0)), (1, .int x)] := hl
  refine lv_iload_n hx hb dX1_has_0 rfl (lv_at hl 1 rfl) ?_
  refine lv_if_lt (tgt := 25) hx hb dX1_has_1 (by decide) (fun c1 => ?_) (fun c1 => ?_)
  · refine lv_iconst (v := nI 0) hx hb dX1_has_25 (by decide) ?_
    exact ret _ _ _ _ _ () dX1_has_26 (rfl) (by first | (rw [ha_no (jo_no (Or.inl c1))]; rfl) | (rw [ha_no (jo_no (Or.inr c7))]; rfl) | (rw [ha_nI hk, c18]; rfl)) hP hD hS
  · refine lv_iload_n hx hb dX1_has_4 rfl (lv_at hl 1 rfl) ?_
    refine lv_bipush (v := nI 12) hx hb dX1_has_5 (by decide) ?_
    refine lv_icmp_ge (tgt := 25) hx hb dX1_has_7 (by decide) (fun c7 => ?_) (fun c7 => ?_)
    · refine lv_iconst (v := nI 0) hx hb dX1_has_25 (by decide) ?_
      exact ret _ _ _ _ _ () dX1_has_26 (rfl) (by first | (rw [ha_no (jo_no (Or.inl c1))]; rfl) | (rw [ha_no (jo_no (Or.inr c7))]; rfl) | (rw [ha_nI hk, c18]; rfl)) hP hD hS
    · obtain ⟨k, hk, rfl⟩ := (jo_iff (by decide)).mp (jo_yes (J := 12) c1 c7)
      refine lv_aload_n hx hb dX1_has_10 rfl (lv_at hl 0 rfl) ?_
      refine gf1 hx hb hts hown hK hP rfl 1 (by decide) q29 rfl rfl dX1_has_11 ?_
      refine lv_iload_n hx hb dX1_has_14 rfl (lv_at hl 1 rfl) ?_
      refine nr_bit hx hb (by omega) (by omega) dX1_has_15 dX1_has_16 dX1_has_17 ?_
      refine nr_beq (tgt := 25) hx hb dX1_has_18 (by decide) (fun c18 => ?_) (fun c18 => ?_)
      · refine lv_iconst (v := nI 0) hx hb dX1_has_25 (by decide) ?_
        exact ret _ _ _ _ _ () dX1_has_26 (rfl) (by first | (rw [ha_no (jo_no (Or.inl c1))]; rfl) | (rw [ha_no (jo_no (Or.inr c7))]; rfl) | (rw [ha_nI hk, c18]; rfl)) hP hD hS
      · refine lv_iconst (v := nI 1) hx hb dX1_has_21 (by decide) ?_
        refine lv_goto (tgt := 26) hx hb dX1_has_22 (by decide) ?_
        exact ret _ _ _ _ _ () dX1_has_26 (rfl) (by first | (rw [ha_no (jo_no (Or.inl c1))]; rfl) | (rw [ha_no (jo_no (Or.inr c7))]; rfl) | (rw [ha_nI hk, c18]; rfl)) hP hD hS

set_option maxHeartbeats 4000000 in
set_option maxRecDepth 100000 in
/-- bars -/
theorem mX1_bars (l : Launch) (D : va_G) (d : ClassId) (ad : Nat → Nat) (sz : Nat) (J P : Nat) (eA eB : Nat → Nat) (T : Nat) (fr to pb : Nat → Nat) (re : Nat) (bY ln : Nat → Nat)   : mt_i l yX1_bars cX1_bars 1 .int (rr_ 0 0) D [(d, .byte)] (wF d ad J P eA eB T fr to pb re bY ln) sz [.ref (ad 0)] (fun (r : Int32) (_ : Unit) => r = nI P) (fun _ => wF d ad J P eA eB T fr to pb re bY ln) := by
  refine en_i (by decide +kernel) (Nat.le_of_ble_eq_true rfl) ?_
  intro p e s m args below meth c A H0 Q hx hb hml hown hts hK hP hD hA hS ret ls hl
  have hown : s.vm.findClass RX1 = some m.cls := hown
  have hl : lv_has ls 1 [(0, .ref (ad 0))] := hl
  refine lv_aload_n hx hb dX1_bars_0 rfl (lv_at hl 0 rfl) ?_
  refine gf1 hx hb hts hown hK hP rfl 1 (by decide) q29 rfl rfl dX1_bars_1 ?_
  exact ret _ _ _ _ _ () dX1_bars_4 (rfl) (rfl) hP hD hS

set_option maxHeartbeats 4000000 in
set_option maxRecDepth 100000 in
/-- remove -/
theorem mX1_remove (l : Launch) (D : va_G) (d : ClassId) (ad : Nat → Nat) (sz : Nat) (J P : Nat) (eA eB : Nat → Nat) (T : Nat) (fr to pb : Nat → Nat) (re : Nat) (bY ln : Nat → Nat) (x : Int32) (hP4 : P < 4096) : mt_i l yX1_remove cX1_remove 2 .boolean (rr_ 1 21) D [(d, .byte)] (wF d ad J P eA eB T fr to pb re bY ln) sz [.ref (ad 0), .int x] (fun (r : Int32) (u : Nat) => r = nI (ha_ P x).toNat ∧ u = rP_ P x) (fun u => wF d ad J u eA eB T fr to pb re bY ln) := by
  refine en_i (by decide +kernel) (Nat.le_of_ble_eq_true rfl) ?_
  intro p e s m args below meth c A H0 Q hx hb hml hown hts hK hP hD hA hS ret ls hl
  have hown : s.vm.findClass RX1 = some m.cls := hown
  have hl : lv_has ls 2 [(0, .ref (ad 0)), (1, .int x)] := hl
  refine lv_aload_n hx hb dX1_remove_0 rfl (lv_at hl 0 rfl) ?_
  refine lv_iload_n hx hb dX1_remove_1 rfl (lv_at hl 1 rfl) ?_
  refine cl_i ⟨hx, hb, hml, hown, hts⟩ hK hP hD hA hS rfl rfl (mX1_has l D d ad _ J P eA eB T fr to pb re bY ln x hP4) (cwV 1 hts (lw_V q71 q73 qs1 q18 q74) rfl rfl rfl (by decide +kernel) ⟨Nat.le_of_ble_eq_true rfl, Nat.le_of_ble_eq_true rfl⟩) rfl hl.1 rfl (Nat.le_of_ble_eq_true rfl) ⟨Nat.le_refl _, Nat.le_refl _⟩ dX1_remove_2 (fun r1 u1 H locs hw hP hD hS => ?_)
  subst hw
  refine nr_bne (tgt := 10) hx hb dX1_remove_5 (by decide) (fun c5 => ?_) (fun c5 => ?_)
  · obtain ⟨k, hk, rfl, hbit⟩ := ha_ex c5
    refine lv_aload_n hx hb dX1_remove_10 rfl (lv_at hl 0 rfl) ?_
    refine lv_dup hx hb dX1_remove_11 rfl ?_
    refine gf1 hx hb hts hown hK hP rfl 1 (by decide) q29 rfl rfl dX1_remove_12 ?_
    refine lv_iconst (v := nI 1) hx hb dX1_remove_15 (by decide) ?_
    refine lv_iload_n hx hb dX1_remove_16 rfl (lv_at hl 1 rfl) ?_
    refine nr_shl hx hb (by omega) dX1_remove_17 ?_
    refine nr_andn hx hb dX1_remove_18 dX1_remove_19 dX1_remove_20 ?_
    refine pf1 hx hb hts hown hK hP hD hS rfl 1 (by decide) q29 rfl rfl (by decide +kernel) (Nat.le_of_ble_eq_true rfl) dX1_remove_21 (fun H locs hP hD hS => ?_)
    have hP : va_P D vwCl (wF d ad J (an_ P (2 ^ k)) eA eB T fr to pb re bY ln) H := hP
    have hD : va_D A (wF d ad J (an_ P (2 ^ k)) eA eB T fr to pb re bY ln) := hD
    refine lv_iconst (v := nI 1) hx hb dX1_remove_24 (by decide) ?_
    exact ret _ _ _ _ _ (an_ P (2 ^ k)) dX1_remove_25 rfl ⟨by rw [c5]; rfl, by unfold rP_; rw [if_pos c5, nI_clamp (by omega)]⟩ hP hD hS
  · refine lv_iconst (v := nI 0) hx hb dX1_remove_8 (by decide) ?_
    exact ret _ _ _ _ _ P dX1_remove_9 rfl ⟨by rw [c5]; rfl, by unfold rP_; rw [if_neg (by rw [c5]; decide)]⟩ hP hD hS

set_option maxHeartbeats 4000000 in
set_option maxRecDepth 100000 in
/-- add -/
theorem mX1_add (l : Launch) (D : va_G) (d : ClassId) (ad : Nat → Nat) (sz : Nat) (J P : Nat) (eA eB : Nat → Nat) (T : Nat) (fr to pb : Nat → Nat) (re : Nat) (bY ln : Nat → Nat) (x y : Int32) (hP4 : P < 4096) (hJ : J ≤ 6) : mt_i l yX1_add cX1_add 4 .int (rr_ 1 21) D [(d, .byte)] (wF d ad J P eA eB T fr to pb re bY ln) sz [.ref (ad 0), .int x, .int y] (fun (r : Int32) (u : Nat × (Nat → Nat) × (Nat → Nat)) => r = aR_ J P x y ∧ u.1 = aP_ J P x y ∧ u.2.1 = aA_ J P x y eA x ∧ u.2.2 = aA_ J P x y eB y) (fun u => wF d ad J u.1 u.2.1 u.2.2 T fr to pb re bY ln) := by
  refine en_i (by decide +kernel) (Nat.le_of_ble_eq_true rfl) ?_
  intro p e s m args below meth c A H0 Q hx hb hml hown hts hK hP hD hA hS ret ls hl
  have hown : s.vm.findClass RX1 = some m.cls := hown
  have hl : lv_has ls 4 [(0, .ref (ad 0)), (1, .int x), (2, .int y)] := hl
  refine lv_iload_n hx hb dX1_add_0 rfl (lv_at hl 1 rfl) ?_
  refine lv_iload_n hx hb dX1_add_1 rfl (lv_at hl 2 rfl) ?_
  refine lv_icmp_eq (tgt := 21) hx hb dX1_add_2 (by decide) (fun c2 => ?_) (fun c2 => ?_)
  · refine lv_iconst (v := -1) hx hb dX1_add_21 (by decide) ?_
    have hba : ba_ J x y = true := by first | exact ba_eq c2 | exact ba_x c10 | exact ba_y c18
    exact ret _ _ _ _ _ (P, eA, eB) dX1_add_22 rfl ⟨by unfold aR_; rw [if_pos hba], by unfold aP_; rw [if_pos hba], by unfold aA_; rw [if_pos hba], by unfold aA_; rw [if_pos hba]⟩ hP hD hS
  · refine lv_aload_n hx hb dX1_add_5 rfl (lv_at hl 0 rfl) ?_
    refine lv_iload_n hx hb dX1_add_6 rfl (lv_at hl 1 rfl) ?_
    refine cl_i ⟨hx, hb, hml, hown, hts⟩ hK hP hD hA hS rfl rfl (mX1_isJoint l D d ad _ J P eA eB T fr to pb re bY ln x) (cwV 1 hts (lw_V q67 q69 qs0 q18 q70) rfl rfl rfl (by decide +kernel) ⟨Nat.le_of_ble_eq_true rfl, Nat.le_of_ble_eq_true rfl⟩) rfl hl.1 rfl (Nat.le_of_ble_eq_true rfl) ⟨Nat.le_refl _, Nat.le_refl _⟩ dX1_add_7 (fun r1 u1 H locs hw hP hD hS => ?_)
    subst hw
    refine nr_beq (tgt := 21) hx hb dX1_add_10 (by decide) (fun c10 => ?_) (fun c10 => ?_)
    · refine lv_iconst (v := -1) hx hb dX1_add_21 (by decide) ?_
      have hba : ba_ J x y = true := by first | exact ba_eq c2 | exact ba_x c10 | exact ba_y c18
      exact ret _ _ _ _ _ (P, eA, eB) dX1_add_22 rfl ⟨by unfold aR_; rw [if_pos hba], by unfold aP_; rw [if_pos hba], by unfold aA_; rw [if_pos hba], by unfold aA_; rw [if_pos hba]⟩ hP hD hS
    · refine lv_aload_n hx hb dX1_add_13 rfl (lv_at hl 0 rfl) ?_
      refine lv_iload_n hx hb dX1_add_14 rfl (lv_at hl 2 rfl) ?_
      refine cl_i ⟨hx, hb, hml, hown, hts⟩ hK hP hD hA hS rfl rfl (mX1_isJoint l D d ad _ J P eA eB T fr to pb re bY ln y) (cwV 1 hts (lw_V q67 q69 qs0 q18 q70) rfl rfl rfl (by decide +kernel) ⟨Nat.le_of_ble_eq_true rfl, Nat.le_of_ble_eq_true rfl⟩) rfl hl.1 rfl (Nat.le_of_ble_eq_true rfl) ⟨Nat.le_refl _, Nat.le_refl _⟩ dX1_add_15 (fun r1 u1 H locs hw hP hD hS => ?_)
      subst hw
      refine nr_bne (tgt := 23) hx hb dX1_add_18 (by decide) (fun c18 => ?_) (fun c18 => ?_)
      · obtain ⟨a, ha, rfl⟩ := (jo_iff (by omega)).mp c10
        obtain ⟨b, hb2, rfl⟩ := (jo_iff (by omega)).mp c18
        have hba := ba_no c2 c10 c18
        refine lv_iconst (v := nI 0) hx hb dX1_add_23 (by decide) ?_
        refine lv_istore_n (lv' := [(3, _), (0, _), (1, _), (2, _)]) hx hb dX1_add_24 rfl hl (by decide) rfl (fun ls hl => ?_)
        have loop : ∀ (n : Nat) (k : Nat), (12 + 1 ≤ k + n) → (k ≤ 12) → (ff_ P (12 - k) k = fw_ P) → ∀ (H : Heap) (locs : List Loc), va_P D vwCl (wF d ad J P eA eB T fr to pb re bY ln) H → va_D A (wF d ad J P eA eB T fr to pb re bY ln) → va_S A H0 H locs → ∀ ls : Array Slot, lv_has ls 4 [(0, .ref (ad 0)), (1, .int (nI a)), (2, .int (nI b)), (3, .int (nI k))] → W p l e (rr_ 1 21) s m args below meth c H locs 0 0 Q (F0 m 25 ls []) := by
          intro n
          induction n with
          | zero =>
            intro k hn hk hf
            exfalso
            omega
          | succ n ih_loop =>
            intro k hn hk hf H locs hP hD hS ls hl
            refine lv_iload_n hx hb dX1_add_25 rfl (lv_at hl 3 rfl) ?_
            refine lv_bipush (v := nI 12) hx hb dX1_add_26 (by decide) ?_
            refine nr_icmp_ge (tgt := 75) hx hb (by omega) (by omega) dX1_add_28 (by decide) (fun c28 => ?_) (fun c28 => ?_)
            · refine lv_bipush (v := -2) hx hb dX1_add_75 (by decide) ?_
              have hfw : fw_ P = 12 := by rw [← hf, show k = 12 by omega]; rfl
              have hba1 : ¬ ba_ J (nI a) (nI b) = true := by rw [hba]; decide
              exact ret _ _ _ _ _ (P, eA, eB) dX1_add_77 rfl ⟨by unfold aR_; rw [if_neg hba1, if_pos hfw], by unfold aP_; rw [if_neg hba1, if_pos hfw], by unfold aA_; rw [if_neg hba1, if_pos hfw], by unfold aA_; rw [if_neg hba1, if_pos hfw]⟩ hP hD hS
            · refine lv_aload_n hx hb dX1_add_31 rfl (lv_at hl 0 rfl) ?_
              refine lv_iload_n hx hb dX1_add_32 rfl (lv_at hl 3 rfl) ?_
              refine cl_i ⟨hx, hb, hml, hown, hts⟩ hK hP hD hA hS rfl rfl (mX1_has l D d ad _ J P eA eB T fr to pb re bY ln (nI k) hP4) (cwV 1 hts (lw_V q71 q73 qs1 q18 q74) rfl rfl rfl (by decide +kernel) ⟨Nat.le_of_ble_eq_true rfl, Nat.le_of_ble_eq_true rfl⟩) rfl hl.1 rfl (Nat.le_of_ble_eq_true rfl) ⟨Nat.le_refl _, Nat.le_refl _⟩ dX1_add_33 (fun r1 u1 H locs hw hP hD hS => ?_)
              rw [ha_nI c28] at hw
              subst hw
              refine nr_bne (tgt := 69) hx hb dX1_add_36 (by decide) (fun c36 => ?_) (fun c36 => ?_)
              · refine lv_iinc (v := nI (k + 1)) (lv' := [(3, _), (0, _), (1, _), (2, _)]) hx hb dX1_add_69 hl (k := 3) rfl (nI_1 _) (by decide) rfl (fun ls hl => ?_)
                refine lv_goto (tgt := 25) hx hb dX1_add_72 (by decide) ?_
                exact ih_loop (k + 1) (by omega) (by omega) (by rw [← ff_go c28 c36]; exact hf) _ _ hP hD hS _ (lv_sub hl [1, 2, 3, 0] rfl)
              · refine lv_aload_n hx hb dX1_add_39 rfl (lv_at hl 0 rfl) ?_
                refine lv_dup hx hb dX1_add_40 rfl ?_
                refine gf1 hx hb hts hown hK hP rfl 1 (by decide) q29 rfl rfl dX1_add_41 ?_
                refine lv_iconst (v := nI 1) hx hb dX1_add_44 (by decide) ?_
                refine lv_iload_n hx hb dX1_add_45 rfl (lv_at hl 3 rfl) ?_
                refine nr_shl hx hb (by omega) dX1_add_46 ?_
                refine nr_or hx hb dX1_add_47 ?_
                refine pf1 hx hb hts hown hK hP hD hS rfl 1 (by decide) q29 rfl rfl (by decide +kernel) (Nat.le_of_ble_eq_true rfl) dX1_add_48 (fun H locs hP hD hS => ?_)
                have hP : va_P D vwCl (wF d ad J (P ||| (2 ^ k)) eA eB T fr to pb re bY ln) H := hP
                have hD : va_D A (wF d ad J (P ||| (2 ^ k)) eA eB T fr to pb re bY ln) := hD
                refine lv_aload_n hx hb dX1_add_51 rfl (lv_at hl 0 rfl) ?_
                refine gf1 hx hb hts hown hK hP rfl 2 (by decide) q30 rfl rfl dX1_add_52 ?_
                refine lv_iload_n hx hb dX1_add_55 rfl (lv_at hl 3 rfl) ?_
                refine lv_iload_n hx hb dX1_add_56 rfl (lv_at hl 1 rfl) ?_
                refine nr_i2b hx hb (by omega) dX1_add_57 ?_
                refine nr_bast hx hb hK hP hD hS 1 0 rfl rfl (by decide) (by omega) (by omega) dX1_add_58 (fun H locs hP hD hS => ?_)
                have hP : va_P D vwCl (wF d ad J (P ||| (2 ^ k)) (up_ eA k a) eB T fr to pb re bY ln) H := hP
                have hD : va_D A (wF d ad J (P ||| (2 ^ k)) (up_ eA k a) eB T fr to pb re bY ln) := hD
                refine lv_aload_n hx hb dX1_add_59 rfl (lv_at hl 0 rfl) ?_
                refine gf1 hx hb hts hown hK hP rfl 3 (by decide) q31 rfl rfl dX1_add_60 ?_
                refine lv_iload_n hx hb dX1_add_63 rfl (lv_at hl 3 rfl) ?_
                refine lv_iload_n hx hb dX1_add_64 rfl (lv_at hl 2 rfl) ?_
                refine nr_i2b hx hb (by omega) dX1_add_65 ?_
                refine nr_bast hx hb hK hP hD hS 2 0 rfl rfl (by decide) (by omega) (by omega) dX1_add_66 (fun H locs hP hD hS => ?_)
                have hP : va_P D vwCl (wF d ad J (P ||| (2 ^ k)) (up_ eA k a) (up_ eB k b) T fr to pb re bY ln) H := hP
                have hD : va_D A (wF d ad J (P ||| (2 ^ k)) (up_ eA k a) (up_ eB k b) T fr to pb re bY ln) := hD
                refine lv_iload_n hx hb dX1_add_67 rfl (lv_at hl 3 rfl) ?_
                have hfw : fw_ P = k := by rw [← hf, ff_hit c28 c36]
                have hne : ¬ fw_ P = 12 := by omega
                have hba1 : ¬ ba_ J (nI a) (nI b) = true := by rw [hba]; decide
                exact ret _ _ _ _ _ (P ||| 2 ^ k, up_ eA k a, up_ eB k b) dX1_add_68 rfl ⟨by unfold aR_; rw [if_neg hba1, if_neg hne, hfw], by unfold aP_; rw [if_neg hba1, if_neg hne, hfw], by unfold aA_; rw [if_neg hba1, if_neg hne, hfw, nI_clamp (by omega)], by unfold aA_; rw [if_neg hba1, if_neg hne, hfw, nI_clamp (by omega)]⟩ hP hD hS
        exact loop 13 0 (by omega) (by omega) rfl _ _ hP hD hS _ (lv_sub hl [1, 2, 3, 0] rfl)
      · refine lv_iconst (v := -1) hx hb dX1_add_21 (by decide) ?_
        have hba : ba_ J x y = true := by first | exact ba_eq c2 | exact ba_x c10 | exact ba_y c18
        exact ret _ _ _ _ _ (P, eA, eB) dX1_add_22 rfl ⟨by unfold aR_; rw [if_pos hba], by unfold aP_; rw [if_pos hba], by unfold aA_; rw [if_pos hba], by unfold aA_; rw [if_pos hba]⟩ hP hD hS
end
section
set_option maxHeartbeats 4000000 in
set_option maxRecDepth 100000 in
/-- begin: no bar taken, two pebbles a joint -/
theorem mX1_begin (l : Launch) (D : va_G) (d : ClassId) (ad : Nat → Nat) (sz : Nat) (J P : Nat) (eA eB : Nat → Nat) (T : Nat) (fr to pb : Nat → Nat) (re : Nat) (bY ln : Nat → Nat)   : mt_v l yX1_begin cX1_begin 2 (rr_ 0 0) D [(d, .byte)] (wF d ad J P eA eB T fr to pb re bY ln) sz [.ref (ad 0)] (fun (u : Nat → Nat) => ∀ v, v < 6 → u v = 2) (fun u => wF d ad J P eA eB 0 fr to u re bY ln) := by
  refine en_v (by decide +kernel) (Nat.le_of_ble_eq_true rfl) ?_
  intro p e s m args below meth c A H0 Q hx hb hml hown hts hK hP hD hA hS ret ls hl
  have hown : s.vm.findClass RX1 = some m.cls := hown
  have hl : lv_has ls 2 [(0, .ref (ad 0))] := hl
  refine lv_aload_n hx hb dX1_begin_0 rfl (lv_at hl 0 rfl) ?_
  refine lv_iconst (v := nI 0) hx hb dX1_begin_1 (by decide) ?_
  refine pf1 hx hb hts hown hK hP hD hS rfl 4 (by decide) q32 rfl rfl (by decide +kernel) (Nat.le_of_ble_eq_true rfl) dX1_begin_2 (fun H locs hP hD hS => ?_)
  have hP : va_P D vwCl (wF d ad J P eA eB 0 fr to pb re bY ln) H := hP
  have hD : va_D A (wF d ad J P eA eB 0 fr to pb re bY ln) := hD
  refine lv_iconst (v := nI 0) hx hb dX1_begin_5 (by decide) ?_
  refine lv_istore_n (lv' := [(1, _), (0, _)]) hx hb dX1_begin_6 rfl hl (by decide) rfl (fun ls hl => ?_)
  have loop : ∀ (n : Nat) (k : Nat) (pb : Nat → Nat), (6 + 1 ≤ k + n) → (k ≤ 6) → (∀ i, i < k → pb i = 2) → ∀ (H : Heap) (locs : List Loc), va_P D vwCl (wF d ad J P eA eB 0 fr to pb re bY ln) H → va_D A (wF d ad J P eA eB 0 fr to pb re bY ln) → va_S A H0 H locs → ∀ ls : Array Slot, lv_has ls 2 [(0, .ref (ad 0)), (1, .int (nI k))] → W p l e (rr_ 0 0) s m args below meth c H locs 0 0 Q (F0 m 7 ls []) := by
    intro n
    induction n with
    | zero =>
      intro k pb hn hk hp
      exfalso
      omega
    | succ n ih_loop =>
      intro k pb hn hk hp H locs hP hD hS ls hl
      refine lv_iload_n hx hb dX1_begin_7 rfl (lv_at hl 1 rfl) ?_
      refine lv_bipush (v := nI 6) hx hb dX1_begin_8 (by decide) ?_
      refine nr_icmp_ge (tgt := 26) hx hb (by omega) (by omega) dX1_begin_10 (by decide) (fun c10 => ?_) (fun c10 => ?_)
      · exact ret _ _ _ _ pb dX1_begin_26 (fun v hv => hp v (by omega)) hP hD hS
      · refine lv_aload_n hx hb dX1_begin_13 rfl (lv_at hl 0 rfl) ?_
        refine gf1 hx hb hts hown hK hP rfl 7 (by decide) q35 rfl rfl dX1_begin_14 ?_
        refine lv_iload_n hx hb dX1_begin_17 rfl (lv_at hl 1 rfl) ?_
        refine lv_iconst (v := nI 2) hx hb dX1_begin_18 (by decide) ?_
        refine nr_bast hx hb hK hP hD hS 5 0 rfl rfl (by decide) (by omega) (by omega) dX1_begin_19 (fun H locs hP hD hS => ?_)
        have hP : va_P D vwCl (wF d ad J P eA eB 0 fr to (up_ pb k 2) re bY ln) H := hP
        have hD : va_D A (wF d ad J P eA eB 0 fr to (up_ pb k 2) re bY ln) := hD
        refine lv_iinc (v := nI (k + 1)) (lv' := [(1, _), (0, _)]) hx hb dX1_begin_20 hl (k := 1) rfl (nI_1 _) (by decide) rfl (fun ls hl => ?_)
        refine lv_goto (tgt := 7) hx hb dX1_begin_23 (by decide) ?_
        exact ih_loop (k + 1) (up_ pb k 2) (by omega) (by omega) (up_acc hp) _ _ hP hD hS _ (lv_sub hl [1, 0] rfl)
  exact loop 7 0 pb (by omega) (by omega) (fun i hi => by omega) _ _ hP hD hS _ (lv_sub hl [1, 0] rfl)

set_option maxHeartbeats 4000000 in
set_option maxRecDepth 100000 in
/-- turnBack: a pebble of v comes free at a -/
theorem mX1_turnBack (l : Launch) (D : va_G) (d : ClassId) (ad : Nat → Nat) (sz : Nat) (J P : Nat) (eA eB : Nat → Nat) (T : Nat) (fr to pb : Nat → Nat) (re : Nat) (bY ln : Nat → Nat) (a v j : Nat) (hsf : sf_ T fr to pb re bY ln) (ha6 : a < 6) (hv6 : v < 6) (hva : v ≠ a) (hj : j ≤ 5) (htr : tr_ T fr to bY ln a v j) (hpi : pi_ J eA eB T fr to) (hdf : df_ T fr pb (fun _ => 0)) (hv1 : 1 ≤ pb v) (hpa : pb a ≤ 1) : mt_v l yX1_turnBack cX1_turnBack 7 (rr_ 0 0) D [(d, .byte)] (wF d ad J P eA eB T fr to pb re bY ln) sz [.ref (ad 0), .int (nI a), .int (nI v)] (fun (u : (Nat → Nat) × (Nat → Nat) × (Nat → Nat)) => pi_ J eA eB T u.1 u.2.1 ∧ df_ T u.1 u.2.2 (fun _ => 0) ∧ (∀ i, i < 12 → u.1 i < 6) ∧ (∀ i, i < 12 → u.2.1 i < 6) ∧ u.2.2 = up_ (up_ pb v (pb v - 1)) a (pb a + 1)) (fun u => wF d ad J P eA eB T u.1 u.2.1 u.2.2 re bY ln) := by
  refine en_v (by decide +kernel) (Nat.le_of_ble_eq_true rfl) ?_
  intro p e s m args below meth c A H0 Q hx hb hml hown hts hK hP hD hA hS ret ls hl
  have hown : s.vm.findClass RX1 = some m.cls := hown
  have hl : lv_has ls 7 [(0, .ref (ad 0)), (1, .int (nI a)), (2, .int (nI v))] := hl
  refine lv_aload_n hx hb dX1_turnBack_0 rfl (lv_at hl 0 rfl) ?_
  refine gf1 hx hb hts hown hK hP rfl 7 (by decide) q35 rfl rfl dX1_turnBack_1 ?_
  refine lv_iload_n hx hb dX1_turnBack_4 rfl (lv_at hl 2 rfl) ?_
  refine lv_dup2_11 hx hb dX1_turnBack_5 rfl rfl ?_
  refine nr_bald hx hb hK hP 5 0 rfl rfl (by decide) (by omega) dX1_turnBack_6 ?_
  refine lv_iconst (v := nI 1) hx hb dX1_turnBack_7 (by decide) ?_
  refine nr_sub hx hb (by omega) dX1_turnBack_8 ?_
  refine nr_i2b hx hb (by have := (hsf.2.2.2.1 v hv6); omega) dX1_turnBack_9 ?_
  refine nr_bast hx hb hK hP hD hS 5 0 rfl rfl (by decide) (by omega) (by have := (hsf.2.2.2.1 v hv6); omega) dX1_turnBack_10 (fun H locs hP hD hS => ?_)
  have hP : va_P D vwCl (wF d ad J P eA eB T fr to (up_ pb v ((pb v) - 1)) re bY ln) H := hP
  have hD : va_D A (wF d ad J P eA eB T fr to (up_ pb v ((pb v) - 1)) re bY ln) := hD
  refine lv_iload_n hx hb dX1_turnBack_11 rfl (lv_at hl 2 rfl) ?_
  refine lv_istore_n (lv' := [(3, _), (0, _), (1, _), (2, _)]) hx hb dX1_turnBack_12 rfl hl (by decide) rfl (fun ls hl => ?_)
  refine lv_iconst (v := nI 0) hx hb dX1_turnBack_13 (by decide) ?_
  refine lv_istore (lv' := [(4, _), (3, _), (0, _), (1, _), (2, _)]) hx hb dX1_turnBack_14 hl (by decide) rfl (fun ls hl => ?_)
  obtain ⟨hT4, hfr, hto, hpb, hre, hbY, hln⟩ := hsf
  have loop : ∀ (n : Nat) (k j w : Nat) (fr to : Nat → Nat), (6 + 1 ≤ k + n) → (k + j ≤ 5) → (w < 6) → (tr_ T fr to bY ln a w j) → (pi_ J eA eB T fr to) → (df_ T fr (up_ pb v (pb v - 1)) (fun u => if u = w then 1 else 0)) → (∀ i, i < 12 → fr i < 6) → (∀ i, i < 12 → to i < 6) → ∀ (H : Heap) (locs : List Loc), va_P D vwCl (wF d ad J P eA eB T fr to (up_ pb v ((pb v) - 1)) re bY ln) H → va_D A (wF d ad J P eA eB T fr to (up_ pb v ((pb v) - 1)) re bY ln) → va_S A H0 H locs → ∀ ls : Array Slot, lv_has ls 7 [(0, .ref (ad 0)), (1, .int (nI a)), (2, .int (nI v)), (3, .int (nI w)), (4, .int (nI k))] → W p l e (rr_ 0 0) s m args below meth c H locs 0 0 Q (F0 m 16 ls []) := by
    intro n
    induction n with
    | zero =>
      intro k j w fr to hn hkj hw6 htr hpi hdf hfr hto
      exfalso
      omega
    | succ n ih_loop =>
      intro k j w fr to hn hkj hw6 htr hpi hdf hfr hto H locs hP hD hS ls hl
      refine lv_iload hx hb dX1_turnBack_16 (lv_at hl 4 rfl) ?_
      refine lv_bipush (v := nI 6) hx hb dX1_turnBack_18 (by decide) ?_
      refine nr_icmp_ge (tgt := 78) hx hb (by omega) (by omega) dX1_turnBack_20 (by decide) (fun c20 => absurd c20 (by omega)) (fun c20 => ?_)
      refine lv_iload_n hx hb dX1_turnBack_23 rfl (lv_at hl 3 rfl) ?_
      refine lv_iload_n hx hb dX1_turnBack_24 rfl (lv_at hl 1 rfl) ?_
      refine nr_icmp_eq (tgt := 78) hx hb (by omega) (by omega) dX1_turnBack_25 (by decide) (fun c25 => ?_) (fun c25 => ?_)
      · rw [c25] at hdf
        have hpa1 : up_ pb v (pb v - 1) a = pb a := up_n (fun q => hva q.symm)
        refine lv_aload_n hx hb dX1_turnBack_78 rfl (lv_at hl 0 rfl) ?_
        refine gf1 hx hb hts hown hK hP rfl 7 (by decide) q35 rfl rfl dX1_turnBack_79 ?_
        refine lv_iload_n hx hb dX1_turnBack_82 rfl (lv_at hl 1 rfl) ?_
        refine lv_dup2_11 hx hb dX1_turnBack_83 rfl rfl ?_
        refine nr_bald hx hb hK hP 5 0 rfl rfl (by decide) (by omega) dX1_turnBack_84 ?_
        refine lv_iconst (v := nI 1) hx hb dX1_turnBack_85 (by decide) ?_
        refine nr_add hx hb dX1_turnBack_86 ?_
        refine nr_i2b hx hb (by rw [hpa1]; omega) dX1_turnBack_87 ?_
        refine nr_bast hx hb hK hP hD hS 5 0 rfl rfl (by decide) (by omega) (by rw [hpa1]; omega) dX1_turnBack_88 (fun H locs hP hD hS => ?_)
        have hP : va_P D vwCl (wF d ad J P eA eB T fr to (up_ (up_ pb v ((pb v) - 1)) a (((up_ pb v ((pb v) - 1)) a) + 1)) re bY ln) H := hP
        have hD : va_D A (wF d ad J P eA eB T fr to (up_ (up_ pb v ((pb v) - 1)) a (((up_ pb v ((pb v) - 1)) a) + 1)) re bY ln) := hD
        exact ret _ _ _ _ (fr, to, up_ (up_ pb v (pb v - 1)) a (pb a + 1)) dX1_turnBack_89 ⟨hpi, by have := df_give hdf; rw [hpa1] at this; exact this, hfr, hto, rfl⟩ (by rw [← hpa1]; exact hP) (by rw [← hpa1]; exact hD) hS
      · obtain ⟨gj, g1, g2, g3, g4, y, hy, htr2⟩ := tr_step htr c25
        have g5 := hfr _ g1
        have g6 := hto _ g1
        refine lv_aload_n hx hb dX1_turnBack_28 rfl (lv_at hl 0 rfl) ?_
        refine gf1 hx hb hts hown hK hP rfl 9 (by decide) q37 rfl rfl dX1_turnBack_29 ?_
        refine lv_iload_n hx hb dX1_turnBack_32 rfl (lv_at hl 3 rfl) ?_
        refine nr_bald hx hb hK hP 6 0 rfl rfl (by decide) (hw6) dX1_turnBack_33 ?_
        refine lv_istore (lv' := [(5, _), (0, _), (1, _), (2, _), (3, _), (4, _)]) hx hb dX1_turnBack_34 hl (by decide) rfl (fun ls hl => ?_)
        refine lv_aload_n hx hb dX1_turnBack_36 rfl (lv_at hl 1 rfl) ?_
        refine gf1 hx hb hts hown hK hP rfl 5 (by decide) q33 rfl rfl dX1_turnBack_37 ?_
        refine lv_iload hx hb dX1_turnBack_40 (lv_at hl 0 rfl) ?_
        refine nr_bald hx hb hK hP 3 0 rfl rfl (by decide) (g1) dX1_turnBack_42 ?_
        refine lv_istore (lv' := [(6, _), (5, _), (0, _), (1, _), (2, _), (3, _), (4, _)]) hx hb dX1_turnBack_43 hl (by decide) rfl (fun ls hl => ?_)
        refine lv_aload_n hx hb dX1_turnBack_45 rfl (lv_at hl 2 rfl) ?_
        refine gf1 hx hb hts hown hK hP rfl 5 (by decide) q33 rfl rfl dX1_turnBack_46 ?_
        refine lv_iload hx hb dX1_turnBack_49 (lv_at hl 1 rfl) ?_
        refine lv_aload_n hx hb dX1_turnBack_51 rfl (lv_at hl 2 rfl) ?_
        refine gf1 hx hb hts hown hK hP rfl 6 (by decide) q34 rfl rfl dX1_turnBack_52 ?_
        refine lv_iload hx hb dX1_turnBack_55 (lv_at hl 1 rfl) ?_
        refine nr_bald hx hb hK hP 4 0 rfl rfl (by decide) (g1) dX1_turnBack_57 ?_
        refine nr_bast hx hb hK hP hD hS 3 0 rfl rfl (by decide) (g1) (by omega) dX1_turnBack_58 (fun H locs hP hD hS => ?_)
        have hP : va_P D vwCl (wF d ad J P eA eB T (up_ fr (bY w) (to (bY w))) to (up_ pb v ((pb v) - 1)) re bY ln) H := hP
        have hD : va_D A (wF d ad J P eA eB T (up_ fr (bY w) (to (bY w))) to (up_ pb v ((pb v) - 1)) re bY ln) := hD
        refine lv_aload_n hx hb dX1_turnBack_59 rfl (lv_at hl 2 rfl) ?_
        refine gf1 hx hb hts hown hK hP rfl 6 (by decide) q34 rfl rfl dX1_turnBack_60 ?_
        refine lv_iload hx hb dX1_turnBack_63 (lv_at hl 1 rfl) ?_
        refine lv_iload hx hb dX1_turnBack_65 (lv_at hl 0 rfl) ?_
        refine nr_i2b hx hb (by omega) dX1_turnBack_67 ?_
        refine nr_bast hx hb hK hP hD hS 4 0 rfl rfl (by decide) (g1) (by omega) dX1_turnBack_68 (fun H locs hP hD hS => ?_)
        have hP : va_P D vwCl (wF d ad J P eA eB T (up_ fr (bY w) (to (bY w))) (up_ to (bY w) (fr (bY w))) (up_ pb v ((pb v) - 1)) re bY ln) H := hP
        have hD : va_D A (wF d ad J P eA eB T (up_ fr (bY w) (to (bY w))) (up_ to (bY w) (fr (bY w))) (up_ pb v ((pb v) - 1)) re bY ln) := hD
        refine lv_iload hx hb dX1_turnBack_69 (lv_at hl 0 rfl) ?_
        refine lv_istore_n (lv' := [(3, _), (6, _), (5, _), (0, _), (1, _), (2, _), (4, _)]) hx hb dX1_turnBack_71 rfl hl (by decide) rfl (fun ls hl => ?_)
        refine lv_iinc (v := nI (k + 1)) (lv' := [(4, _), (3, _), (6, _), (5, _), (0, _), (1, _), (2, _)]) hx hb dX1_turnBack_72 hl (k := 6) rfl (nI_1 _) (by decide) rfl (fun ls hl => ?_)
        refine lv_goto (tgt := 16) hx hb dX1_turnBack_75 (by decide) ?_
        exact ih_loop (k + 1) y (fr (bY w)) (up_ fr (bY w) (to (bY w))) (up_ to (bY w) (fr (bY w))) (by omega) (by omega) (hfr _ g1) htr2 (pi_flip hpi) (by rw [g3]; exact df_flip g1 g2 g4 hdf) (up_lt hfr (hto _ g1)) (up_lt hto (hfr _ g1)) _ _ hP hD hS _ (lv_sub hl [4, 5, 6, 1, 0] rfl)
  exact loop 7 0 j v fr to (by omega) (by omega) hv6 htr hpi (df_take hdf hv1) hfr hto _ _ hP hD hS _ (lv_sub hl [2, 3, 4, 1, 0] rfl)
end
section
set_option maxHeartbeats 4000000 in
set_option maxRecDepth 100000 in
/-- bring: one more pebble at a, or a set of joints that no bar leaves -/
theorem mX1_bring (l : Launch) (D : va_G) (d : ClassId) (ad : Nat → Nat) (sz : Nat) (J P : Nat) (eA eB : Nat → Nat) (T : Nat) (fr to pb : Nat → Nat) (re : Nat) (bY ln : Nat → Nat) (a b : Nat) (hJ : J ≤ 6) (ha : a < J) (hb2 : b < J) (hab : a ≠ b) (hpi : pi_ J eA eB T fr to) (hdf : df_ T fr pb (fun _ => 0)) (hpa : pb a ≤ 1) (hsf : sf_ T fr to pb re bY ln) : mt_i l yX1_bring cX1_bring 7 .boolean (rr_ 1 26) D [(d, .byte)] (wF d ad J P eA eB T fr to pb re bY ln) sz [.ref (ad 0), .int (nI a), .int (nI b)] (fun (r : Int32) (u : (Nat → Nat) × (Nat → Nat) × (Nat → Nat) × Nat × (Nat → Nat) × (Nat → Nat)) => sf_ T u.1 u.2.1 u.2.2.1 u.2.2.2.1 u.2.2.2.2.1 u.2.2.2.2.2 ∧ pi_ J eA eB T u.1 u.2.1 ∧ df_ T u.1 u.2.2.1 (fun _ => 0) ∧ ((r = nI 1 ∧ u.2.2.1 a = pb a + 1 ∧ u.2.2.1 b = pb b) ∨ (r = nI 0 ∧ u.2.2.1 = pb ∧ ∃ R, st_ J T u.1 u.2.1 u.2.2.1 a b R))) (fun u => wF d ad J P eA eB T u.1 u.2.1 u.2.2.1 u.2.2.2.1 u.2.2.2.2.1 u.2.2.2.2.2) := by
  refine en_i (by decide +kernel) (Nat.le_of_ble_eq_true rfl) ?_
  intro p e s m args below meth c A H0 Q hx hb hml hown hts hK hP hD hA hS ret ls hl
  have hown : s.vm.findClass RX1 = some m.cls := hown
  have hl : lv_has ls 7 [(0, .ref (ad 0)), (1, .int (nI a)), (2, .int (nI b))] := hl
  refine lv_aload_n hx hb dX1_bring_0 rfl (lv_at hl 0 rfl) ?_
  refine lv_iconst (v := nI 1) hx hb dX1_bring_1 (by decide) ?_
  refine lv_iload_n hx hb dX1_bring_2 rfl (lv_at hl 1 rfl) ?_
  refine nr_shl hx hb (by omega) dX1_bring_3 ?_
  refine pf1 hx hb hts hown hK hP hD hS rfl 8 (by decide) q36 rfl rfl (by decide +kernel) (Nat.le_of_ble_eq_true rfl) dX1_bring_4 (fun H locs hP hD hS => ?_)
  have hP : va_P D vwCl (wF d ad J P eA eB T fr to pb (2 ^ a) bY ln) H := hP
  have hD : va_D A (wF d ad J P eA eB T fr to pb (2 ^ a) bY ln) := hD
  refine lv_aload_n hx hb dX1_bring_7 rfl (lv_at hl 0 rfl) ?_
  refine gf1 hx hb hts hown hK hP rfl 10 (by decide) q38 rfl rfl dX1_bring_8 ?_
  refine lv_iconst (v := nI 0) hx hb dX1_bring_11 (by decide) ?_
  refine lv_iload_n hx hb dX1_bring_12 rfl (lv_at hl 1 rfl) ?_
  refine nr_i2b hx hb (by omega) dX1_bring_13 ?_
  refine nr_bast hx hb hK hP hD hS 7 0 rfl rfl (by decide) (by omega) (by omega) dX1_bring_14 (fun H locs hP hD hS => ?_)
  have hP : va_P D vwCl (wF d ad J P eA eB T fr to pb (2 ^ a) bY (up_ ln 0 a)) H := hP
  have hD : va_D A (wF d ad J P eA eB T fr to pb (2 ^ a) bY (up_ ln 0 a)) := hD
  refine lv_iconst (v := nI 1) hx hb dX1_bring_15 (by decide) ?_
  refine lv_istore_n (lv' := [(3, _), (0, _), (1, _), (2, _)]) hx hb dX1_bring_16 rfl hl (by decide) rfl (fun ls hl => ?_)
  refine lv_iconst (v := nI 0) hx hb dX1_bring_17 (by decide) ?_
  refine lv_istore (lv' := [(4, _), (3, _), (0, _), (1, _), (2, _)]) hx hb dX1_bring_18 hl (by decide) rfl (fun ls hl => ?_)
  have hsf1 : sf_ T fr to pb (2 ^ a) bY (up_ ln 0 a) := ⟨hsf.1, hsf.2.1, hsf.2.2.1, hsf.2.2.2.1, p_lt (n := 6) (by omega), hsf.2.2.2.2.2.1, up_lt hsf.2.2.2.2.2.2 (by omega)⟩
  have loop : ∀ (n : Nat) (k e1 re : Nat) (bY ln : Nat → Nat), (6 + 1 ≤ k + n) → (k ≤ e1) → (bf_ J T fr to a re bY ln e1) → (pr_ T fr to pb a b re ln k) → (sf_ T fr to pb re bY ln) → ∀ (H : Heap) (locs : List Loc), va_P D vwCl (wF d ad J P eA eB T fr to pb re bY ln) H → va_D A (wF d ad J P eA eB T fr to pb re bY ln) → va_S A H0 H locs → ∀ ls : Array Slot, lv_has ls 7 [(0, .ref (ad 0)), (1, .int (nI a)), (2, .int (nI b)), (3, .int (nI e1)), (4, .int (nI k))] → W p l e (rr_ 1 26) s m args below meth c H locs 0 0 Q (F0 m 20 ls []) := by
    intro n
    induction n with
    | zero =>
      intro k e1 re bY ln hn hke hbf hpr hsf
      exfalso
      have := bf_le hbf; omega
    | succ n ih_loop =>
      intro k e1 re bY ln hn hke hbf hpr hsf H locs hP hD hS ls hl
      refine lv_iload hx hb dX1_bring_20 (lv_at hl 4 rfl) ?_
      refine lv_iload_n hx hb dX1_bring_22 rfl (lv_at hl 3 rfl) ?_
      refine nr_icmp_ge (tgt := 185) hx hb (by have := bf_le hbf; omega) (by have := bf_le hbf; omega) dX1_bring_23 (by decide) (fun c23 => ?_) (fun c23 => ?_)
      · refine lv_iconst (v := nI 0) hx hb dX1_bring_185 (by decide) ?_
        exact ret _ _ _ _ _ (fr, to, pb, re, bY, ln) dX1_bring_186 rfl ⟨hsf, hpi, hdf, Or.inr ⟨rfl, rfl, re, bf_stuck hbf ((show k = e1 by omega) ▸ hpr)⟩⟩ hP hD hS
      · have he6 := bf_le hbf
        refine lv_iload hx hb dX1_bring_26 (lv_at hl 4 rfl) ?_
        refine lv_bipush (v := nI 6) hx hb dX1_bring_28 (by decide) ?_
        refine nr_icmp_ge (tgt := 185) hx hb (by omega) (by omega) dX1_bring_30 (by decide) (fun c30 => absurd c30 (by omega)) (fun c30 => ?_)
        refine lv_aload_n hx hb dX1_bring_33 rfl (lv_at hl 0 rfl) ?_
        refine gf1 hx hb hts hown hK hP rfl 10 (by decide) q38 rfl rfl dX1_bring_34 ?_
        refine lv_iload hx hb dX1_bring_37 (lv_at hl 4 rfl) ?_
        refine nr_bald hx hb hK hP 7 0 rfl rfl (by decide) (by omega) dX1_bring_39 ?_
        refine lv_istore (lv' := [(5, _), (0, _), (1, _), (2, _), (3, _), (4, _)]) hx hb dX1_bring_40 hl (by decide) rfl (fun ls hl => ?_)
        have hlk : ln k < 6 := hsf.2.2.2.2.2.2 k (by omega)
        obtain ⟨v, hv⟩ : ∃ v, v = ln k := ⟨_, rfl⟩
        rw [← hv] at hl hlk
        have inner : ∀ (n : Nat) (i e1 re : Nat) (bY ln : Nat → Nat), (12 + 1 ≤ i + n) → (i ≤ 12) → (k < e1) → (ln k = v) → (bf_ J T fr to a re bY ln e1) → (pr_ T fr to pb a b re ln k) → (pn_ T fr to pb a b re v i) → (sf_ T fr to pb re bY ln) → ∀ (H : Heap) (locs : List Loc), va_P D vwCl (wF d ad J P eA eB T fr to pb re bY ln) H → va_D A (wF d ad J P eA eB T fr to pb re bY ln) → va_S A H0 H locs → ∀ ls : Array Slot, lv_has ls 7 [(0, .ref (ad 0)), (1, .int (nI a)), (2, .int (nI b)), (3, .int (nI e1)), (4, .int (nI k)), (5, .int (nI v)), (6, .int (nI i))] → W p l e (rr_ 1 26) s m args below meth c H locs 0 0 Q (F0 m 76 ls []) := by
          intro n
          induction n with
          | zero =>
            intro i e1 re bY ln hn2 hi hke2 hlv hbf hpr hpn hsf
            exfalso
            omega
          | succ n ih_inner =>
            intro i e1 re bY ln hn2 hi hke2 hlv hbf hpr hpn hsf H locs hP hD hS ls hl
            refine lv_iload hx hb dX1_bring_76 (lv_at hl 6 rfl) ?_
            refine lv_bipush (v := nI 12) hx hb dX1_bring_78 (by decide) ?_
            refine nr_icmp_ge (tgt := 179) hx hb (by omega) (by omega) dX1_bring_80 (by decide) (fun c80 => ?_) (fun c80 => ?_)
            · refine lv_iinc (v := nI (k + 1)) (lv' := [(4, _), (0, _), (1, _), (2, _), (3, _), (5, _), (6, _)]) hx hb dX1_bring_179 hl (k := 4) rfl (nI_1 _) (by decide) rfl (fun ls hl => ?_)
              refine lv_goto (tgt := 20) hx hb dX1_bring_182 (by decide) ?_
              exact ih_loop (k + 1) e1 re bY ln (by omega) (by omega) hbf (pr_next hpr (by rw [hlv]; exact (show i = 12 by omega) ▸ hpn)) hsf _ _ hP hD hS _ (lv_sub hl [1, 2, 3, 4, 0] rfl)
            · have hti : to i < 6 := hsf.2.2.1 i (by omega)
              have hfi : fr i < 6 := hsf.2.1 i (by omega)
              refine lv_aload_n hx hb dX1_bring_83 rfl (lv_at hl 0 rfl) ?_
              refine gf1 hx hb hts hown hK hP rfl 4 (by decide) q32 rfl rfl dX1_bring_84 ?_
              refine lv_iload hx hb dX1_bring_87 (lv_at hl 6 rfl) ?_
              refine nr_bit hx hb (by have := hsf.1; omega) (by omega) dX1_bring_89 dX1_bring_90 dX1_bring_91 ?_
              refine nr_beq (tgt := 173) hx hb dX1_bring_92 (by decide) (fun c92 => ?_) (fun c92 => ?_)
              · refine lv_iinc (v := nI (i + 1)) (lv' := [(6, _), (0, _), (1, _), (2, _), (3, _), (4, _), (5, _)]) hx hb dX1_bring_173 hl (k := 6) rfl (nI_1 _) (by decide) rfl (fun ls hl => ?_)
                refine lv_goto (tgt := 76) hx hb dX1_bring_176 (by decide) ?_
                exact ih_inner (i + 1) e1 re bY ln (by omega) (by omega) hke2 hlv hbf hpr (pn_skip hpn (fun h1 h2 => by rw [c92] at h1; cases h1)) hsf _ _ hP hD hS _ (lv_sub hl [1, 2, 3, 4, 5, 6, 0] rfl)
              · refine lv_aload_n hx hb dX1_bring_95 rfl (lv_at hl 0 rfl) ?_
                refine gf1 hx hb hts hown hK hP rfl 5 (by decide) q33 rfl rfl dX1_bring_96 ?_
                refine lv_iload hx hb dX1_bring_99 (lv_at hl 6 rfl) ?_
                refine nr_bald hx hb hK hP 3 0 rfl rfl (by decide) (by omega) dX1_bring_101 ?_
                refine lv_iload hx hb dX1_bring_102 (lv_at hl 5 rfl) ?_
                refine nr_icmp_ne (tgt := 173) hx hb (by omega) (by omega) dX1_bring_104 (by decide) (fun c104 => ?_) (fun c104 => ?_)
                · refine lv_iinc (v := nI (i + 1)) (lv' := [(6, _), (0, _), (1, _), (2, _), (3, _), (4, _), (5, _)]) hx hb dX1_bring_173 hl (k := 6) rfl (nI_1 _) (by decide) rfl (fun ls hl => ?_)
                  refine lv_goto (tgt := 76) hx hb dX1_bring_176 (by decide) ?_
                  exact ih_inner (i + 1) e1 re bY ln (by omega) (by omega) hke2 hlv hbf hpr (pn_skip hpn (fun h1 h2 => absurd h2 c104)) hsf _ _ hP hD hS _ (lv_sub hl [1, 2, 3, 4, 5, 6, 0] rfl)
                · refine lv_aload_n hx hb dX1_bring_107 rfl (lv_at hl 0 rfl) ?_
                  refine gf1 hx hb hts hown hK hP rfl 8 (by decide) q36 rfl rfl dX1_bring_108 ?_
                  refine lv_aload_n hx hb dX1_bring_111 rfl (lv_at hl 0 rfl) ?_
                  refine gf1 hx hb hts hown hK hP rfl 6 (by decide) q34 rfl rfl dX1_bring_112 ?_
                  refine lv_iload hx hb dX1_bring_115 (lv_at hl 6 rfl) ?_
                  refine nr_bald hx hb hK hP 4 0 rfl rfl (by decide) (by omega) dX1_bring_117 ?_
                  refine nr_bit hx hb (by have := hsf.2.2.2.2.1; omega) (by omega) dX1_bring_118 dX1_bring_119 dX1_bring_120 ?_
                  refine nr_bne (tgt := 173) hx hb dX1_bring_121 (by decide) (fun c121 => ?_) (fun c121 => ?_)
                  · refine lv_iinc (v := nI (i + 1)) (lv' := [(6, _), (0, _), (1, _), (2, _), (3, _), (4, _), (5, _)]) hx hb dX1_bring_173 hl (k := 6) rfl (nI_1 _) (by decide) rfl (fun ls hl => ?_)
                    refine lv_goto (tgt := 76) hx hb dX1_bring_176 (by decide) ?_
                    exact ih_inner (i + 1) e1 re bY ln (by omega) (by omega) hke2 hlv hbf hpr (pn_skip hpn (fun h1 h2 => c121)) hsf _ _ hP hD hS _ (lv_sub hl [1, 2, 3, 4, 5, 6, 0] rfl)
                  · have hadd := bf_add hJ hbf c80 c92 hke2 (c104.trans hlv.symm) c121 (pi_fr hJ hpi i c80 c92).2.2
                    have he7 := hadd.1
                    refine lv_aload_n hx hb dX1_bring_124 rfl (lv_at hl 0 rfl) ?_
                    refine lv_dup hx hb dX1_bring_125 rfl ?_
                    refine gf1 hx hb hts hown hK hP rfl 8 (by decide) q36 rfl rfl dX1_bring_126 ?_
                    refine lv_iconst (v := nI 1) hx hb dX1_bring_129 (by decide) ?_
                    refine lv_aload_n hx hb dX1_bring_130 rfl (lv_at hl 0 rfl) ?_
                    refine gf1 hx hb hts hown hK hP rfl 6 (by decide) q34 rfl rfl dX1_bring_131 ?_
                    refine lv_iload hx hb dX1_bring_134 (lv_at hl 6 rfl) ?_
                    refine nr_bald hx hb hK hP 4 0 rfl rfl (by decide) (by omega) dX1_bring_136 ?_
                    refine nr_shl hx hb (by omega) dX1_bring_137 ?_
                    refine nr_or hx hb dX1_bring_138 ?_
                    refine pf1 hx hb hts hown hK hP hD hS rfl 8 (by decide) q36 rfl rfl (by decide +kernel) (Nat.le_of_ble_eq_true rfl) dX1_bring_139 (fun H locs hP hD hS => ?_)
                    have hP : va_P D vwCl (wF d ad J P eA eB T fr to pb (re ||| (2 ^ (to i))) bY ln) H := hP
                    have hD : va_D A (wF d ad J P eA eB T fr to pb (re ||| (2 ^ (to i))) bY ln) := hD
                    refine lv_aload_n hx hb dX1_bring_142 rfl (lv_at hl 0 rfl) ?_
                    refine gf1 hx hb hts hown hK hP rfl 9 (by decide) q37 rfl rfl dX1_bring_143 ?_
                    refine lv_aload_n hx hb dX1_bring_146 rfl (lv_at hl 0 rfl) ?_
                    refine gf1 hx hb hts hown hK hP rfl 6 (by decide) q34 rfl rfl dX1_bring_147 ?_
                    refine lv_iload hx hb dX1_bring_150 (lv_at hl 6 rfl) ?_
                    refine nr_bald hx hb hK hP 4 0 rfl rfl (by decide) (by omega) dX1_bring_152 ?_
                    refine lv_iload hx hb dX1_bring_153 (lv_at hl 6 rfl) ?_
                    refine nr_i2b hx hb (by omega) dX1_bring_155 ?_
                    refine nr_bast hx hb hK hP hD hS 6 0 rfl rfl (by decide) (by omega) (by omega) dX1_bring_156 (fun H locs hP hD hS => ?_)
                    have hP : va_P D vwCl (wF d ad J P eA eB T fr to pb (re ||| (2 ^ (to i))) (up_ bY (to i) i) ln) H := hP
                    have hD : va_D A (wF d ad J P eA eB T fr to pb (re ||| (2 ^ (to i))) (up_ bY (to i) i) ln) := hD
                    refine lv_aload_n hx hb dX1_bring_157 rfl (lv_at hl 0 rfl) ?_
                    refine gf1 hx hb hts hown hK hP rfl 10 (by decide) q38 rfl rfl dX1_bring_158 ?_
                    refine lv_iload_n hx hb dX1_bring_161 rfl (lv_at hl 3 rfl) ?_
                    refine lv_aload_n hx hb dX1_bring_162 rfl (lv_at hl 0 rfl) ?_
                    refine gf1 hx hb hts hown hK hP rfl 6 (by decide) q34 rfl rfl dX1_bring_163 ?_
                    refine lv_iload hx hb dX1_bring_166 (lv_at hl 6 rfl) ?_
                    refine nr_bald hx hb hK hP 4 0 rfl rfl (by decide) (by omega) dX1_bring_168 ?_
                    refine nr_bast hx hb hK hP hD hS 7 0 rfl rfl (by decide) (by omega) (by omega) dX1_bring_169 (fun H locs hP hD hS => ?_)
                    have hP : va_P D vwCl (wF d ad J P eA eB T fr to pb (re ||| (2 ^ (to i))) (up_ bY (to i) i) (up_ ln e1 (to i))) H := hP
                    have hD : va_D A (wF d ad J P eA eB T fr to pb (re ||| (2 ^ (to i))) (up_ bY (to i) i) (up_ ln e1 (to i))) := hD
                    refine lv_iinc (v := nI (e1 + 1)) (lv' := [(3, _), (0, _), (1, _), (2, _), (4, _), (5, _), (6, _)]) hx hb dX1_bring_170 hl (k := 3) rfl (nI_1 _) (by decide) rfl (fun ls hl => ?_)
                    refine lv_iinc (v := nI (i + 1)) (lv' := [(6, _), (3, _), (0, _), (1, _), (2, _), (4, _), (5, _)]) hx hb dX1_bring_173 hl (k := 6) rfl (nI_1 _) (by decide) rfl (fun ls hl => ?_)
                    refine lv_goto (tgt := 76) hx hb dX1_bring_176 (by decide) ?_
                    exact ih_inner (i + 1) (e1 + 1) (re ||| 2 ^ (to i)) (up_ bY (to i) i) (up_ ln e1 (to i)) (by omega) (by omega) (by omega) (by rw [up_n (by omega)]; exact hlv) hadd.2 (pr_add (by omega) hpr) (pn_add hpn) (⟨hsf.1, hsf.2.1, hsf.2.2.1, hsf.2.2.2.1, or_lt (n := 6) hsf.2.2.2.2.1 (p_lt hti), up_lt hsf.2.2.2.2.2.1 (by omega), up_lt hsf.2.2.2.2.2.2 hti⟩) _ _ hP hD hS _ (lv_sub hl [2, 3, 4, 1, 5, 6, 0] rfl)
        refine lv_iload hx hb dX1_bring_42 (lv_at hl 0 rfl) ?_
        refine lv_iload_n hx hb dX1_bring_44 rfl (lv_at hl 2 rfl) ?_
        refine nr_icmp_eq (tgt := 73) hx hb (by omega) (by omega) dX1_bring_45 (by decide) (fun c45 => ?_) (fun c45 => ?_)
        · refine lv_iconst (v := nI 0) hx hb dX1_bring_73 (by decide) ?_
          refine lv_istore (lv' := [(6, _), (5, _), (0, _), (1, _), (2, _), (3, _), (4, _)]) hx hb dX1_bring_74 hl (by decide) rfl (fun ls hl => ?_)
          exact inner 13 0 e1 re bY ln (by omega) (by omega) c23 hv.symm hbf hpr ⟨Or.inl c45, fun i hi => by omega⟩ hsf _ _ hP hD hS _ (lv_sub hl [2, 3, 4, 5, 6, 1, 0] rfl)
        · refine lv_iload hx hb dX1_bring_48 (lv_at hl 0 rfl) ?_
          refine lv_iload_n hx hb dX1_bring_50 rfl (lv_at hl 3 rfl) ?_
          refine nr_icmp_eq (tgt := 73) hx hb (by omega) (by omega) dX1_bring_51 (by decide) (fun c51 => ?_) (fun c51 => ?_)
          · refine lv_iconst (v := nI 0) hx hb dX1_bring_73 (by decide) ?_
            refine lv_istore (lv' := [(6, _), (5, _), (0, _), (1, _), (2, _), (3, _), (4, _)]) hx hb dX1_bring_74 hl (by decide) rfl (fun ls hl => ?_)
            exact inner 13 0 e1 re bY ln (by omega) (by omega) c23 hv.symm hbf hpr ⟨Or.inr (Or.inl c51), fun i hi => by omega⟩ hsf _ _ hP hD hS _ (lv_sub hl [2, 3, 4, 5, 6, 1, 0] rfl)
          · refine lv_aload_n hx hb dX1_bring_54 rfl (lv_at hl 1 rfl) ?_
            refine gf1 hx hb hts hown hK hP rfl 7 (by decide) q35 rfl rfl dX1_bring_55 ?_
            refine lv_iload hx hb dX1_bring_58 (lv_at hl 0 rfl) ?_
            refine nr_bald hx hb hK hP 5 0 rfl rfl (by decide) (hlk) dX1_bring_60 ?_
            refine nr_nle (tgt := 73) hx hb (by have := hsf.2.2.2.1 v hlk; omega) dX1_bring_61 (by decide) (fun c61 => ?_) (fun c61 => ?_)
            · refine lv_iconst (v := nI 0) hx hb dX1_bring_73 (by decide) ?_
              refine lv_istore (lv' := [(6, _), (5, _), (0, _), (1, _), (2, _), (3, _), (4, _)]) hx hb dX1_bring_74 hl (by decide) rfl (fun ls hl => ?_)
              exact inner 13 0 e1 re bY ln (by omega) (by omega) c23 hv.symm hbf hpr ⟨Or.inr (Or.inr c61), fun i hi => by omega⟩ hsf _ _ hP hD hS _ (lv_sub hl [2, 3, 4, 5, 6, 1, 0] rfl)
            · refine lv_aload_n hx hb dX1_bring_64 rfl (lv_at hl 1 rfl) ?_
              refine lv_iload_n hx hb dX1_bring_65 rfl (lv_at hl 2 rfl) ?_
              refine lv_iload hx hb dX1_bring_66 (lv_at hl 0 rfl) ?_
              refine cl_v ⟨hx, hb, hml, hown, hts⟩ hK hP hD hA hS rfl rfl (mX1_turnBack l D d ad _ J P eA eB T fr to pb re bY ln a v k hsf (by omega) hlk c45 (by omega) (by rw [hv]; exact bf_tr hbf c23) hpi hdf (by omega) hpa) (cwV 2 hts (lw_V q111 q113 qs8 q18 q114) rfl rfl rfl (by decide +kernel) ⟨Nat.le_of_ble_eq_true rfl, Nat.le_of_ble_eq_true rfl⟩) rfl hl.1 rfl (Nat.le_of_ble_eq_true rfl) ⟨Nat.le_refl _, Nat.le_refl _⟩ dX1_bring_68 (fun u1 H locs hw hP hD hS => ?_)
              obtain ⟨fr1, to1, pb1⟩ := u1
              obtain ⟨g1, g2, g3, g4, g5⟩ := hw
              have g5 : pb1 = up_ (up_ pb v (pb v - 1)) a (pb a + 1) := g5
              have hP : va_P D vwCl (wF d ad J P eA eB T fr1 to1 pb1 re bY ln) H := hP
              have hD : va_D A (wF d ad J P eA eB T fr1 to1 pb1 re bY ln) := hD
              refine lv_iconst (v := nI 1) hx hb dX1_bring_71 (by decide) ?_
              exact ret _ _ _ _ _ (fr1, to1, pb1, re, bY, ln) dX1_bring_72 rfl ⟨⟨hsf.1, g3, g4, pb_le g2, hsf.2.2.2.2.1, hsf.2.2.2.2.2.1, hsf.2.2.2.2.2.2⟩, g1, g2, Or.inl ⟨rfl, by rw [g5]; exact up_s, by show pb1 b = pb b; rw [g5, up_n (fun q => hab q.symm), up_n (fun q => c51 q.symm)]⟩⟩ hP hD hS
  exact loop 7 0 1 (2 ^ a) bY (up_ ln 0 a) (by omega) (by omega) (bf_0 hJ ha) (fun j hj => by omega) hsf1 _ _ hP hD hS _ (lv_sub hl [2, 3, 4, 1, 0] rfl)
end
section
set_option maxHeartbeats 4000000 in
set_option maxRecDepth 100000 in
/-- gather: whether a bar between a and b could be taken -/
theorem mX1_gather (l : Launch) (D : va_G) (d : ClassId) (ad : Nat → Nat) (sz : Nat) (J P : Nat) (eA eB : Nat → Nat) (T : Nat) (fr to pb : Nat → Nat) (re : Nat) (bY ln : Nat → Nat) (a b : Nat) (hJ : J ≤ 6) (ha : a < J) (hb2 : b < J) (hab : a ≠ b) (hpi : pi_ J eA eB T fr to) (hdf : df_ T fr pb (fun _ => 0)) (hlo : lo_ J eA eB T = true) (hsf : sf_ T fr to pb re bY ln) : mt_i l yX1_gather cX1_gather 5 .boolean (rr_ 2 52) D [(d, .byte)] (wF d ad J P eA eB T fr to pb re bY ln) sz [.ref (ad 0), .int (nI a), .int (nI b)] (fun (r : Int32) (u : (Nat → Nat) × (Nat → Nat) × (Nat → Nat) × Nat × (Nat → Nat) × (Nat → Nat)) => sf_ T u.1 u.2.1 u.2.2.1 u.2.2.2.1 u.2.2.2.2.1 u.2.2.2.2.2 ∧ pi_ J eA eB T u.1 u.2.1 ∧ df_ T u.1 u.2.2.1 (fun _ => 0) ∧ r = nI (ft_ J eA eB T a b).toNat ∧ (ft_ J eA eB T a b = true → u.2.2.1 a = 2 ∧ u.2.2.1 b = 2)) (fun u => wF d ad J P eA eB T u.1 u.2.1 u.2.2.1 u.2.2.2.1 u.2.2.2.2.1 u.2.2.2.2.2) := by
  refine en_i (by decide +kernel) (Nat.le_of_ble_eq_true rfl) ?_
  intro p e s m args below meth c A H0 Q hx hb hml hown hts hK hP hD hA hS ret ls hl
  have hown : s.vm.findClass RX1 = some m.cls := hown
  have hl : lv_has ls 5 [(0, .ref (ad 0)), (1, .int (nI a)), (2, .int (nI b))] := hl
  refine lv_iconst (v := nI 0) hx hb dX1_gather_0 (by decide) ?_
  refine lv_istore_n (lv' := [(3, _), (0, _), (1, _), (2, _)]) hx hb dX1_gather_1 rfl hl (by decide) rfl (fun ls hl => ?_)
  have loop : ∀ (n : Nat) (k : Nat) (fr to pb : Nat → Nat) (re : Nat) (bY ln : Nat → Nat), (4 + 1 ≤ k + n) → (k ≤ 4) → (k ≤ pb a + pb b) → (pi_ J eA eB T fr to) → (df_ T fr pb (fun _ => 0)) → (sf_ T fr to pb re bY ln) → ∀ (H : Heap) (locs : List Loc), va_P D vwCl (wF d ad J P eA eB T fr to pb re bY ln) H → va_D A (wF d ad J P eA eB T fr to pb re bY ln) → va_S A H0 H locs → ∀ ls : Array Slot, lv_has ls 5 [(0, .ref (ad 0)), (1, .int (nI a)), (2, .int (nI b)), (3, .int (nI k))] → W p l e (rr_ 2 52) s m args below meth c H locs 0 0 Q (F0 m 2 ls []) := by
    intro n
    induction n with
    | zero =>
      intro k fr to pb re bY ln hn hk hks hpi hdf hsf
      exfalso
      omega
    | succ n ih_loop =>
      intro k fr to pb re bY ln hn hk hks hpi hdf hsf H locs hP hD hS ls hl
      refine lv_iload_n hx hb dX1_gather_2 rfl (lv_at hl 3 rfl) ?_
      refine lv_iconst (v := nI 4) hx hb dX1_gather_3 (by decide) ?_
      refine nr_icmp_ge (tgt := 69) hx hb (by omega) (by omega) dX1_gather_4 (by decide) (fun c4 => ?_) (fun c4 => ?_)
      · have hpa := hsf.2.2.2.1 a (by omega)
        have hpb := hsf.2.2.2.1 b (by omega)
        refine lv_aload_n hx hb dX1_gather_69 rfl (lv_at hl 0 rfl) ?_
        refine gf1 hx hb hts hown hK hP rfl 7 (by decide) q35 rfl rfl dX1_gather_70 ?_
        refine lv_iload_n hx hb dX1_gather_73 rfl (lv_at hl 1 rfl) ?_
        refine nr_bald hx hb hK hP 5 0 rfl rfl (by decide) (by omega) dX1_gather_74 ?_
        refine lv_iconst (v := nI 2) hx hb dX1_gather_75 (by decide) ?_
        refine nr_icmp_ne (tgt := 93) hx hb (by omega) (by omega) dX1_gather_76 (by decide) (fun c76 => absurd c76 (by omega)) (fun c76 => ?_)
        refine lv_aload_n hx hb dX1_gather_79 rfl (lv_at hl 0 rfl) ?_
        refine gf1 hx hb hts hown hK hP rfl 7 (by decide) q35 rfl rfl dX1_gather_80 ?_
        refine lv_iload_n hx hb dX1_gather_83 rfl (lv_at hl 2 rfl) ?_
        refine nr_bald hx hb hK hP 5 0 rfl rfl (by decide) (by omega) dX1_gather_84 ?_
        refine lv_iconst (v := nI 2) hx hb dX1_gather_85 (by decide) ?_
        refine nr_icmp_ne (tgt := 93) hx hb (by omega) (by omega) dX1_gather_86 (by decide) (fun c86 => absurd c86 (by omega)) (fun c86 => ?_)
        refine lv_iconst (v := nI 1) hx hb dX1_gather_89 (by decide) ?_
        refine lv_goto (tgt := 94) hx hb dX1_gather_90 (by decide) ?_
        have hft : ft_ J eA eB T a b = true := pb_fit hJ hpi hdf hab (by omega) (by omega) (by omega) (by omega)
        exact ret _ _ _ _ _ (fr, to, pb, re, bY, ln) dX1_gather_94 rfl ⟨hsf, hpi, hdf, by rw [hft]; rfl, fun _ => ⟨(by omega : pb a = 2), (by omega : pb b = 2)⟩⟩ hP hD hS
      · have hpa := hsf.2.2.2.1 a (by omega)
        have hpb := hsf.2.2.2.1 b (by omega)
        refine lv_aload_n hx hb dX1_gather_7 rfl (lv_at hl 0 rfl) ?_
        refine gf1 hx hb hts hown hK hP rfl 7 (by decide) q35 rfl rfl dX1_gather_8 ?_
        refine lv_iload_n hx hb dX1_gather_11 rfl (lv_at hl 1 rfl) ?_
        refine nr_bald hx hb hK hP 5 0 rfl rfl (by decide) (by omega) dX1_gather_12 ?_
        refine lv_iconst (v := nI 2) hx hb dX1_gather_13 (by decide) ?_
        refine nr_icmp_ne (tgt := 29) hx hb (by omega) (by omega) dX1_gather_14 (by decide) (fun c14 => ?_) (fun c14 => ?_)
        · refine lv_aload_n hx hb dX1_gather_29 rfl (lv_at hl 0 rfl) ?_
          refine gf1 hx hb hts hown hK hP rfl 7 (by decide) q35 rfl rfl dX1_gather_30 ?_
          refine lv_iload_n hx hb dX1_gather_33 rfl (lv_at hl 1 rfl) ?_
          refine nr_bald hx hb hK hP 5 0 rfl rfl (by decide) (by omega) dX1_gather_34 ?_
          refine lv_iconst (v := nI 2) hx hb dX1_gather_35 (by decide) ?_
          refine nr_icmp_ge (tgt := 48) hx hb (by omega) (by omega) dX1_gather_36 (by decide) (fun c36 => absurd c36 (by omega)) (fun c36 => ?_)
          refine lv_aload_n hx hb dX1_gather_39 rfl (lv_at hl 0 rfl) ?_
          refine lv_iload_n hx hb dX1_gather_40 rfl (lv_at hl 1 rfl) ?_
          refine lv_iload_n hx hb dX1_gather_41 rfl (lv_at hl 2 rfl) ?_
          refine cl_i ⟨hx, hb, hml, hown, hts⟩ hK hP hD hA hS rfl rfl (mX1_bring l D d ad _ J P eA eB T fr to pb re bY ln a b hJ (by omega) (by omega) hab hpi hdf (by omega) hsf) (cwV 2 hts (lw_V q107 q109 qs7 q18 q110) rfl rfl rfl (by decide +kernel) ⟨Nat.le_of_ble_eq_true rfl, Nat.le_of_ble_eq_true rfl⟩) rfl hl.1 rfl (Nat.le_of_ble_eq_true rfl) ⟨Nat.le_refl _, Nat.le_refl _⟩ dX1_gather_42 (fun r1 u1 H locs hw hP hD hS => ?_)
          obtain ⟨fr1, to1, pb1, re1, bY1, ln1⟩ := u1
          obtain ⟨g1, g2, g3, g4⟩ := hw
          have hP : va_P D vwCl (wF d ad J P eA eB T fr1 to1 pb1 re1 bY1 ln1) H := hP
          have hD : va_D A (wF d ad J P eA eB T fr1 to1 pb1 re1 bY1 ln1) := hD
          have g1 : sf_ T fr1 to1 pb1 re1 bY1 ln1 := g1
          have g2 : pi_ J eA eB T fr1 to1 := g2
          have g3 : df_ T fr1 pb1 (fun _ => 0) := g3
          have g4 : (r1 = nI 1 ∧ pb1 a = pb a + 1 ∧ pb1 b = pb b) ∨ (r1 = nI 0 ∧ pb1 = pb ∧ ∃ R, st_ J T fr1 to1 pb1 a b R) := g4
          rcases g4 with ⟨rfl, g5, g6⟩ | ⟨rfl, g5, R, g6⟩
          · refine lv_goto (tgt := 54) hx hb dX1_gather_45 (by decide) ?_
            refine lv_istore (lv' := [(4, _), (0, _), (1, _), (2, _), (3, _)]) hx hb dX1_gather_54 hl (by decide) rfl (fun ls hl => ?_)
            refine lv_iload hx hb dX1_gather_56 (lv_at hl 0 rfl) ?_
            refine lv_if_ne (tgt := 63) hx hb dX1_gather_58 (by decide) (fun c58 => ?_) (fun c58 => absurd c58 (by decide))
            refine lv_iinc (v := nI (k + 1)) (lv' := [(3, _), (4, _), (0, _), (1, _), (2, _)]) hx hb dX1_gather_63 hl (k := 4) rfl (nI_1 _) (by decide) rfl (fun ls hl => ?_)
            refine lv_goto (tgt := 2) hx hb dX1_gather_66 (by decide) ?_
            exact ih_loop (k + 1) fr1 to1 pb1 re1 bY1 ln1 (by omega) (by omega) (by omega) g2 g3 g1 _ _ hP hD hS _ (lv_sub hl [2, 3, 4, 0] rfl)
          · refine lv_goto (tgt := 54) hx hb dX1_gather_45 (by decide) ?_
            refine lv_istore (lv' := [(4, _), (0, _), (1, _), (2, _), (3, _)]) hx hb dX1_gather_54 hl (by decide) rfl (fun ls hl => ?_)
            refine lv_iload hx hb dX1_gather_56 (lv_at hl 0 rfl) ?_
            refine lv_if_ne (tgt := 63) hx hb dX1_gather_58 (by decide) (fun c58 => absurd nI_0 c58) (fun c58 => ?_)
            refine lv_iconst (v := nI 0) hx hb dX1_gather_61 (by decide) ?_
            have hft : ft_ J eA eB T a b = false := pb_stuck hJ g2 g3 hlo hab (by omega) (by omega) (by rw [g5]; omega) g6
            exact ret _ _ _ _ _ (fr1, to1, pb1, re1, bY1, ln1) dX1_gather_62 rfl ⟨g1, g2, g3, by rw [hft]; rfl, fun q => by rw [hft] at q; cases q⟩ hP hD hS
        · refine lv_aload_n hx hb dX1_gather_17 rfl (lv_at hl 0 rfl) ?_
          refine gf1 hx hb hts hown hK hP rfl 7 (by decide) q35 rfl rfl dX1_gather_18 ?_
          refine lv_iload_n hx hb dX1_gather_21 rfl (lv_at hl 2 rfl) ?_
          refine nr_bald hx hb hK hP 5 0 rfl rfl (by decide) (by omega) dX1_gather_22 ?_
          refine lv_iconst (v := nI 2) hx hb dX1_gather_23 (by decide) ?_
          refine nr_icmp_ne (tgt := 29) hx hb (by omega) (by omega) dX1_gather_24 (by decide) (fun c24 => ?_) (fun c24 => ?_)
          · refine lv_aload_n hx hb dX1_gather_29 rfl (lv_at hl 0 rfl) ?_
            refine gf1 hx hb hts hown hK hP rfl 7 (by decide) q35 rfl rfl dX1_gather_30 ?_
            refine lv_iload_n hx hb dX1_gather_33 rfl (lv_at hl 1 rfl) ?_
            refine nr_bald hx hb hK hP 5 0 rfl rfl (by decide) (by omega) dX1_gather_34 ?_
            refine lv_iconst (v := nI 2) hx hb dX1_gather_35 (by decide) ?_
            refine nr_icmp_ge (tgt := 48) hx hb (by omega) (by omega) dX1_gather_36 (by decide) (fun c36 => ?_) (fun c36 => absurd c36 (by omega))
            refine lv_aload_n hx hb dX1_gather_48 rfl (lv_at hl 0 rfl) ?_
            refine lv_iload_n hx hb dX1_gather_49 rfl (lv_at hl 2 rfl) ?_
            refine lv_iload_n hx hb dX1_gather_50 rfl (lv_at hl 1 rfl) ?_
            refine cl_i ⟨hx, hb, hml, hown, hts⟩ hK hP hD hA hS rfl rfl (mX1_bring l D d ad _ J P eA eB T fr to pb re bY ln b a hJ (by omega) (by omega) (fun q => hab q.symm) hpi hdf (by omega) hsf) (cwV 2 hts (lw_V q107 q109 qs7 q18 q110) rfl rfl rfl (by decide +kernel) ⟨Nat.le_of_ble_eq_true rfl, Nat.le_of_ble_eq_true rfl⟩) rfl hl.1 rfl (Nat.le_of_ble_eq_true rfl) ⟨Nat.le_refl _, Nat.le_refl _⟩ dX1_gather_51 (fun r1 u1 H locs hw hP hD hS => ?_)
            obtain ⟨fr1, to1, pb1, re1, bY1, ln1⟩ := u1
            obtain ⟨g1, g2, g3, g4⟩ := hw
            have hP : va_P D vwCl (wF d ad J P eA eB T fr1 to1 pb1 re1 bY1 ln1) H := hP
            have hD : va_D A (wF d ad J P eA eB T fr1 to1 pb1 re1 bY1 ln1) := hD
            have g1 : sf_ T fr1 to1 pb1 re1 bY1 ln1 := g1
            have g2 : pi_ J eA eB T fr1 to1 := g2
            have g3 : df_ T fr1 pb1 (fun _ => 0) := g3
            have g4 : (r1 = nI 1 ∧ pb1 b = pb b + 1 ∧ pb1 a = pb a) ∨ (r1 = nI 0 ∧ pb1 = pb ∧ ∃ R, st_ J T fr1 to1 pb1 b a R) := g4
            rcases g4 with ⟨rfl, g5, g6⟩ | ⟨rfl, g5, R, g6⟩
            · refine lv_istore (lv' := [(4, _), (0, _), (1, _), (2, _), (3, _)]) hx hb dX1_gather_54 hl (by decide) rfl (fun ls hl => ?_)
              refine lv_iload hx hb dX1_gather_56 (lv_at hl 0 rfl) ?_
              refine lv_if_ne (tgt := 63) hx hb dX1_gather_58 (by decide) (fun c58 => ?_) (fun c58 => absurd c58 (by decide))
              refine lv_iinc (v := nI (k + 1)) (lv' := [(3, _), (4, _), (0, _), (1, _), (2, _)]) hx hb dX1_gather_63 hl (k := 4) rfl (nI_1 _) (by decide) rfl (fun ls hl => ?_)
              refine lv_goto (tgt := 2) hx hb dX1_gather_66 (by decide) ?_
              exact ih_loop (k + 1) fr1 to1 pb1 re1 bY1 ln1 (by omega) (by omega) (by omega) g2 g3 g1 _ _ hP hD hS _ (lv_sub hl [2, 3, 4, 0] rfl)
            · refine lv_istore (lv' := [(4, _), (0, _), (1, _), (2, _), (3, _)]) hx hb dX1_gather_54 hl (by decide) rfl (fun ls hl => ?_)
              refine lv_iload hx hb dX1_gather_56 (lv_at hl 0 rfl) ?_
              refine lv_if_ne (tgt := 63) hx hb dX1_gather_58 (by decide) (fun c58 => absurd nI_0 c58) (fun c58 => ?_)
              refine lv_iconst (v := nI 0) hx hb dX1_gather_61 (by decide) ?_
              have hft : ft_ J eA eB T a b = false := by rw [ft_sym]; exact pb_stuck hJ g2 g3 hlo (fun q => hab q.symm) (by omega) (by omega) (by rw [g5]; omega) g6
              exact ret _ _ _ _ _ (fr1, to1, pb1, re1, bY1, ln1) dX1_gather_62 rfl ⟨g1, g2, g3, by rw [hft]; rfl, fun q => by rw [hft] at q; cases q⟩ hP hD hS
          · refine lv_iconst (v := nI 1) hx hb dX1_gather_27 (by decide) ?_
            have hft : ft_ J eA eB T a b = true := pb_fit hJ hpi hdf hab (by omega) (by omega) (by omega) (by omega)
            exact ret _ _ _ _ _ (fr, to, pb, re, bY, ln) dX1_gather_28 rfl ⟨hsf, hpi, hdf, by rw [hft]; rfl, fun _ => ⟨(by omega : pb a = 2), (by omega : pb b = 2)⟩⟩ hP hD hS
  exact loop 5 0 fr to pb re bY ln (by omega) (by omega) (by omega) hpi hdf hsf _ _ hP hD hS _ (lv_sub hl [1, 2, 3, 0] rfl)

set_option maxHeartbeats 4000000 in
set_option maxRecDepth 100000 in
/-- offer -/
theorem mX1_offer (l : Launch) (D : va_G) (d : ClassId) (ad : Nat → Nat) (sz : Nat) (J P : Nat) (eA eB : Nat → Nat) (T : Nat) (fr to pb : Nat → Nat) (re : Nat) (bY ln : Nat → Nat) (k : Nat) (hJ : J ≤ 6) (hk : k < 12) (hea : eA k < J) (heb : eB k < J) (hne : eA k ≠ eB k) (hTk : T.testBit k = false) (hlo : lo_ J eA eB T = true) (hpi : pi_ J eA eB T fr to) (hdf : df_ T fr pb (fun _ => 0)) (hsf : sf_ T fr to pb re bY ln) : mt_v l yX1_offer cX1_offer 2 (rr_ 3 76) D [(d, .byte)] (wF d ad J P eA eB T fr to pb re bY ln) sz [.ref (ad 0), .int (nI k)] (fun (u : ps_) => u.1 = (if ft_ J eA eB T (eA k) (eB k) = true then T ||| 2 ^ k else T) ∧ sf_ u.1 u.2.1 u.2.2.1 u.2.2.2.1 u.2.2.2.2.1 u.2.2.2.2.2.1 u.2.2.2.2.2.2 ∧ pi_ J eA eB u.1 u.2.1 u.2.2.1 ∧ df_ u.1 u.2.1 u.2.2.2.1 (fun _ => 0)) (fun u => wU d ad J P eA eB u) := by
  refine en_v (by decide +kernel) (Nat.le_of_ble_eq_true rfl) ?_
  intro p e s m args below meth c A H0 Q hx hb hml hown hts hK hP hD hA hS ret ls hl
  have hown : s.vm.findClass RX1 = some m.cls := hown
  have hl : lv_has ls 2 [(0, .ref (ad 0)), (1, .int (nI k))] := hl
  refine lv_aload_n hx hb dX1_offer_0 rfl (lv_at hl 0 rfl) ?_
  refine lv_aload_n hx hb dX1_offer_1 rfl (lv_at hl 0 rfl) ?_
  refine gf1 hx hb hts hown hK hP rfl 2 (by decide) q30 rfl rfl dX1_offer_2 ?_
  refine lv_iload_n hx hb dX1_offer_5 rfl (lv_at hl 1 rfl) ?_
  refine nr_bald hx hb hK hP 1 0 rfl rfl (by decide) (by omega) dX1_offer_6 ?_
  refine lv_aload_n hx hb dX1_offer_7 rfl (lv_at hl 0 rfl) ?_
  refine gf1 hx hb hts hown hK hP rfl 3 (by decide) q31 rfl rfl dX1_offer_8 ?_
  refine lv_iload_n hx hb dX1_offer_11 rfl (lv_at hl 1 rfl) ?_
  refine nr_bald hx hb hK hP 2 0 rfl rfl (by decide) (by omega) dX1_offer_12 ?_
  refine cl_i ⟨hx, hb, hml, hown, hts⟩ hK hP hD hA hS rfl rfl (mX1_gather l D d ad _ J P eA eB T fr to pb re bY ln (eA k) (eB k) hJ (by omega) (by omega) hne hpi hdf hlo hsf) (cwV 2 hts (lw_V q103 q105 qs6 q18 q106) rfl rfl rfl (by decide +kernel) ⟨Nat.le_of_ble_eq_true rfl, Nat.le_of_ble_eq_true rfl⟩) rfl hl.1 rfl (Nat.le_of_ble_eq_true rfl) ⟨Nat.le_refl _, Nat.le_refl _⟩ dX1_offer_13 (fun r1 u1 H locs hw hP hD hS => ?_)
  obtain ⟨fr1, to1, pb1, re1, bY1, ln1⟩ := u1
  obtain ⟨g1, g2, g3, g4, g5⟩ := hw
  have hP : va_P D vwCl (wF d ad J P eA eB T fr1 to1 pb1 re1 bY1 ln1) H := hP
  have hD : va_D A (wF d ad J P eA eB T fr1 to1 pb1 re1 bY1 ln1) := hD
  have g1 : sf_ T fr1 to1 pb1 re1 bY1 ln1 := g1
  have g2 : pi_ J eA eB T fr1 to1 := g2
  have g3 : df_ T fr1 pb1 (fun _ => 0) := g3
  have g5 : ft_ J eA eB T (eA k) (eB k) = true → pb1 (eA k) = 2 ∧ pb1 (eB k) = 2 := g5
  subst g4
  refine nr_beq (tgt := 71) hx hb dX1_offer_16 (by decide) (fun c16 => ?_) (fun c16 => ?_)
  · have hne1 : ¬ ft_ J eA eB T (eA k) (eB k) = true := by rw [c16]; decide
    exact ret _ _ _ _ (T, fr1, to1, pb1, re1, bY1, ln1) dX1_offer_71 ⟨by rw [if_neg hne1], g1, g2, g3⟩ hP hD hS
  · obtain ⟨p1, p2⟩ := g5 c16
    have hT4 := g1.1
    refine lv_aload_n hx hb dX1_offer_19 rfl (lv_at hl 0 rfl) ?_
    refine lv_dup hx hb dX1_offer_20 rfl ?_
    refine gf1 hx hb hts hown hK hP rfl 4 (by decide) q32 rfl rfl dX1_offer_21 ?_
    refine lv_iconst (v := nI 1) hx hb dX1_offer_24 (by decide) ?_
    refine lv_iload_n hx hb dX1_offer_25 rfl (lv_at hl 1 rfl) ?_
    refine nr_shl hx hb (by omega) dX1_offer_26 ?_
    refine nr_or hx hb dX1_offer_27 ?_
    refine pf1 hx hb hts hown hK hP hD hS rfl 4 (by decide) q32 rfl rfl (by decide +kernel) (Nat.le_of_ble_eq_true rfl) dX1_offer_28 (fun H locs hP hD hS => ?_)
    have hP : va_P D vwCl (wF d ad J P eA eB (T ||| (2 ^ k)) fr1 to1 pb1 re1 bY1 ln1) H := hP
    have hD : va_D A (wF d ad J P eA eB (T ||| (2 ^ k)) fr1 to1 pb1 re1 bY1 ln1) := hD
    refine lv_aload_n hx hb dX1_offer_31 rfl (lv_at hl 0 rfl) ?_
    refine gf1 hx hb hts hown hK hP rfl 5 (by decide) q33 rfl rfl dX1_offer_32 ?_
    refine lv_iload_n hx hb dX1_offer_35 rfl (lv_at hl 1 rfl) ?_
    refine lv_aload_n hx hb dX1_offer_36 rfl (lv_at hl 0 rfl) ?_
    refine gf1 hx hb hts hown hK hP rfl 2 (by decide) q30 rfl rfl dX1_offer_37 ?_
    refine lv_iload_n hx hb dX1_offer_40 rfl (lv_at hl 1 rfl) ?_
    refine nr_bald hx hb hK hP 1 0 rfl rfl (by decide) (by omega) dX1_offer_41 ?_
    refine nr_bast hx hb hK hP hD hS 3 0 rfl rfl (by decide) (by omega) (by omega) dX1_offer_42 (fun H locs hP hD hS => ?_)
    have hP : va_P D vwCl (wF d ad J P eA eB (T ||| (2 ^ k)) (up_ fr1 k (eA k)) to1 pb1 re1 bY1 ln1) H := hP
    have hD : va_D A (wF d ad J P eA eB (T ||| (2 ^ k)) (up_ fr1 k (eA k)) to1 pb1 re1 bY1 ln1) := hD
    refine lv_aload_n hx hb dX1_offer_43 rfl (lv_at hl 0 rfl) ?_
    refine gf1 hx hb hts hown hK hP rfl 6 (by decide) q34 rfl rfl dX1_offer_44 ?_
    refine lv_iload_n hx hb dX1_offer_47 rfl (lv_at hl 1 rfl) ?_
    refine lv_aload_n hx hb dX1_offer_48 rfl (lv_at hl 0 rfl) ?_
    refine gf1 hx hb hts hown hK hP rfl 3 (by decide) q31 rfl rfl dX1_offer_49 ?_
    refine lv_iload_n hx hb dX1_offer_52 rfl (lv_at hl 1 rfl) ?_
    refine nr_bald hx hb hK hP 2 0 rfl rfl (by decide) (by omega) dX1_offer_53 ?_
    refine nr_bast hx hb hK hP hD hS 4 0 rfl rfl (by decide) (by omega) (by omega) dX1_offer_54 (fun H locs hP hD hS => ?_)
    have hP : va_P D vwCl (wF d ad J P eA eB (T ||| (2 ^ k)) (up_ fr1 k (eA k)) (up_ to1 k (eB k)) pb1 re1 bY1 ln1) H := hP
    have hD : va_D A (wF d ad J P eA eB (T ||| (2 ^ k)) (up_ fr1 k (eA k)) (up_ to1 k (eB k)) pb1 re1 bY1 ln1) := hD
    refine lv_aload_n hx hb dX1_offer_55 rfl (lv_at hl 0 rfl) ?_
    refine gf1 hx hb hts hown hK hP rfl 7 (by decide) q35 rfl rfl dX1_offer_56 ?_
    refine lv_aload_n hx hb dX1_offer_59 rfl (lv_at hl 0 rfl) ?_
    refine gf1 hx hb hts hown hK hP rfl 2 (by decide) q30 rfl rfl dX1_offer_60 ?_
    refine lv_iload_n hx hb dX1_offer_63 rfl (lv_at hl 1 rfl) ?_
    refine nr_bald hx hb hK hP 1 0 rfl rfl (by decide) (by omega) dX1_offer_64 ?_
    refine lv_dup2_11 hx hb dX1_offer_65 rfl rfl ?_
    refine nr_bald hx hb hK hP 5 0 rfl rfl (by decide) (by omega) dX1_offer_66 ?_
    refine lv_iconst (v := nI 1) hx hb dX1_offer_67 (by decide) ?_
    refine nr_sub hx hb (by omega) dX1_offer_68 ?_
    refine nr_i2b hx hb (by omega) dX1_offer_69 ?_
    refine nr_bast hx hb hK hP hD hS 5 0 rfl rfl (by decide) (by omega) (by omega) dX1_offer_70 (fun H locs hP hD hS => ?_)
    have hP : va_P D vwCl (wF d ad J P eA eB (T ||| (2 ^ k)) (up_ fr1 k (eA k)) (up_ to1 k (eB k)) (up_ pb1 (eA k) ((pb1 (eA k)) - 1)) re1 bY1 ln1) H := hP
    have hD : va_D A (wF d ad J P eA eB (T ||| (2 ^ k)) (up_ fr1 k (eA k)) (up_ to1 k (eB k)) (up_ pb1 (eA k) ((pb1 (eA k)) - 1)) re1 bY1 ln1) := hD
    have hd3 := df_put (a := eA k) hk hTk g3 (by omega)
    exact ret _ _ _ _ (T ||| 2 ^ k, up_ fr1 k (eA k), up_ to1 k (eB k), up_ pb1 (eA k) (pb1 (eA k) - 1), re1, bY1, ln1) dX1_offer_71 ⟨by rw [if_pos c16], ⟨or_lt (n := 12) hT4 (p_lt hk), up_lt g1.2.1 (by omega), up_lt g1.2.2.1 (by omega), pb_le hd3, g1.2.2.2.2.1, g1.2.2.2.2.2.1, g1.2.2.2.2.2.2⟩, pi_put g2 hk hea heb hne, hd3⟩ hP hD hS

set_option maxHeartbeats 4000000 in
set_option maxRecDepth 100000 in
/-- play -/
theorem mX1_play (l : Launch) (D : va_G) (d : ClassId) (ad : Nat → Nat) (sz : Nat) (J P : Nat) (eA eB : Nat → Nat) (T : Nat) (fr to pb : Nat → Nat) (re : Nat) (bY ln : Nat → Nat) (S : Nat) (hok : ok_ J P eA eB) (hSP : ∀ i, S.testBit i = true → P.testBit i = true) (hS4 : S < 4096) (hsf : sf_ T fr to pb re bY ln) : mt_i l yX1_play cX1_play 3 .int (rr_ 4 97) D [(d, .byte)] (wF d ad J P eA eB T fr to pb re bY ln) sz [.ref (ad 0), .int (nI S)] (fun (r : Int32) (u : ps_) => r = nI (tk_ J eA eB S 12) ∧ u.1 = tk_ J eA eB S 12 ∧ sf_ u.1 u.2.1 u.2.2.1 u.2.2.2.1 u.2.2.2.2.1 u.2.2.2.2.2.1 u.2.2.2.2.2.2 ∧ pi_ J eA eB u.1 u.2.1 u.2.2.1 ∧ df_ u.1 u.2.1 u.2.2.2.1 (fun _ => 0)) (fun u => wU d ad J P eA eB u) := by
  refine en_i (by decide +kernel) (Nat.le_of_ble_eq_true rfl) ?_
  intro p e s m args below meth c A H0 Q hx hb hml hown hts hK hP hD hA hS ret ls hl
  have hown : s.vm.findClass RX1 = some m.cls := hown
  have hl : lv_has ls 3 [(0, .ref (ad 0)), (1, .int (nI S))] := hl
  refine lv_aload_n hx hb dX1_play_0 rfl (lv_at hl 0 rfl) ?_
  refine cl_v ⟨hx, hb, hml, hown, hts⟩ hK hP hD hA hS rfl rfl (mX1_begin l D d ad _ J P eA eB T fr to pb re bY ln) (cwV 0 hts (lw_V q95 q97 qs4 q18 q98) rfl rfl rfl (by decide +kernel) ⟨Nat.le_of_ble_eq_true rfl, Nat.le_of_ble_eq_true rfl⟩) rfl hl.1 rfl (Nat.le_of_ble_eq_true rfl) ⟨Nat.le_refl _, Nat.le_refl _⟩ dX1_play_1 (fun pb1 H locs hw hP hD hS => ?_)
  have hP : va_P D vwCl (wF d ad J P eA eB 0 fr to pb1 re bY ln) H := hP
  have hD : va_D A (wF d ad J P eA eB 0 fr to pb1 re bY ln) := hD
  refine lv_iconst (v := nI 0) hx hb dX1_play_4 (by decide) ?_
  refine lv_istore_n (lv' := [(2, _), (0, _), (1, _)]) hx hb dX1_play_5 rfl hl (by decide) rfl (fun ls hl => ?_)
  have loop : ∀ (n : Nat) (k T : Nat) (fr to pb : Nat → Nat) (re : Nat) (bY ln : Nat → Nat), (12 + 1 ≤ k + n) → (k ≤ 12) → (T = tk_ J eA eB S k) → (pi_ J eA eB T fr to) → (df_ T fr pb (fun _ => 0)) → (sf_ T fr to pb re bY ln) → ∀ (H : Heap) (locs : List Loc), va_P D vwCl (wF d ad J P eA eB T fr to pb re bY ln) H → va_D A (wF d ad J P eA eB T fr to pb re bY ln) → va_S A H0 H locs → ∀ ls : Array Slot, lv_has ls 3 [(0, .ref (ad 0)), (1, .int (nI S)), (2, .int (nI k))] → W p l e (rr_ 4 97) s m args below meth c H locs 0 0 Q (F0 m 6 ls []) := by
    intro n
    induction n with
    | zero =>
      intro k T fr to pb re bY ln hn hk hT hpi hdf hsf
      exfalso
      omega
    | succ n ih_loop =>
      intro k T fr to pb re bY ln hn hk hT hpi hdf hsf H locs hP hD hS ls hl
      refine lv_iload_n hx hb dX1_play_6 rfl (lv_at hl 2 rfl) ?_
      refine lv_bipush (v := nI 12) hx hb dX1_play_7 (by decide) ?_
      refine nr_icmp_ge (tgt := 31) hx hb (by omega) (by omega) dX1_play_9 (by decide) (fun c9 => ?_) (fun c9 => ?_)
      · refine lv_aload_n hx hb dX1_play_31 rfl (lv_at hl 0 rfl) ?_
        refine gf1 hx hb hts hown hK hP rfl 4 (by decide) q32 rfl rfl dX1_play_32 ?_
        have hk12 : k = 12 := by omega
        subst hk12
        exact ret _ _ _ _ _ (T, fr, to, pb, re, bY, ln) dX1_play_35 rfl ⟨by rw [hT], hT, hsf, hpi, hdf⟩ hP hD hS
      · refine lv_iload_n hx hb dX1_play_12 rfl (lv_at hl 1 rfl) ?_
        refine lv_iload_n hx hb dX1_play_13 rfl (lv_at hl 2 rfl) ?_
        refine nr_bit hx hb (by omega) (by omega) dX1_play_14 dX1_play_15 dX1_play_16 ?_
        refine nr_beq (tgt := 25) hx hb dX1_play_17 (by decide) (fun c17 => ?_) (fun c17 => ?_)
        · refine lv_iinc (v := nI (k + 1)) (lv' := [(2, _), (0, _), (1, _)]) hx hb dX1_play_25 hl (k := 2) rfl (nI_1 _) (by decide) rfl (fun ls hl => ?_)
          refine lv_goto (tgt := 6) hx hb dX1_play_28 (by decide) ?_
          exact ih_loop (k + 1) T fr to pb re bY ln (by omega) (by omega) (by rw [hT, tk_skip c17]) hpi hdf hsf _ _ hP hD hS _ (lv_sub hl [1, 2, 0] rfl)
        · refine lv_aload_n hx hb dX1_play_20 rfl (lv_at hl 0 rfl) ?_
          refine lv_iload_n hx hb dX1_play_21 rfl (lv_at hl 2 rfl) ?_
          obtain ⟨e1, e2, e3⟩ := hok.2.2.2 k c9 (hSP k c17)
          refine cl_v ⟨hx, hb, hml, hown, hts⟩ hK hP hD hA hS rfl rfl (mX1_offer l D d ad _ J P eA eB T fr to pb re bY ln k hok.2.1 c9 e1 e2 e3 (by rw [hT]; exact tk_no) (by rw [hT]; exact tk_lo _ _ _ _ _) hpi hdf hsf) (cwV 1 hts (lw_V q99 q101 qs5 q18 q102) rfl rfl rfl (by decide +kernel) ⟨Nat.le_of_ble_eq_true rfl, Nat.le_of_ble_eq_true rfl⟩) rfl hl.1 rfl (Nat.le_of_ble_eq_true rfl) ⟨Nat.le_refl _, Nat.le_refl _⟩ dX1_play_22 (fun u1 H locs hw hP hD hS => ?_)
          obtain ⟨T1, fr1, to1, pb1, re1, bY1, ln1⟩ := u1
          have hP : va_P D vwCl (wF d ad J P eA eB T1 fr1 to1 pb1 re1 bY1 ln1) H := hP
          have hD : va_D A (wF d ad J P eA eB T1 fr1 to1 pb1 re1 bY1 ln1) := hD
          obtain ⟨g1, g2, g3, g4⟩ := hw
          have hJ6 := hok.2.1
          have g1 : T1 = tk_ J eA eB S (k + 1) := by rw [tk_step (by omega) c17 e3 (by omega) (by omega), ← hT]; exact g1
          refine lv_iinc (v := nI (k + 1)) (lv' := [(2, _), (0, _), (1, _)]) hx hb dX1_play_25 hl (k := 2) rfl (nI_1 _) (by decide) rfl (fun ls hl => ?_)
          refine lv_goto (tgt := 6) hx hb dX1_play_28 (by decide) ?_
          exact ih_loop (k + 1) T1 fr1 to1 pb1 re1 bY1 ln1 (by omega) (by omega) g1 g3 g4 g2 _ _ hP hD hS _ (lv_sub hl [1, 2, 0] rfl)
  exact loop 13 0 0 fr to pb1 re bY ln (by omega) (by omega) rfl pi_0 (df_0 hw) (⟨by decide, hsf.2.1, hsf.2.2.1, fun v hv => by rw [hw v hv]; decide, hsf.2.2.2.2.1, hsf.2.2.2.2.2.1, hsf.2.2.2.2.2.2⟩) _ _ hP hD hS _ (lv_sub hl [1, 2, 0] rfl)
end
section
theorem and_lt2 {X Y n : Nat} (h : Y < 2 ^ n) : X &&& Y < 2 ^ n := by
  rw [Nat.and_comm]
  exact and_lt h
theorem and_sub {X P : Nat} : ∀ i, (X &&& P).testBit i = true → P.testBit i = true := by
  intro i h
  rw [Nat.testBit_and, Bool.and_eq_true] at h
  exact h.2
theorem tk_31 (J : Nat) (A B : Nat → Nat) (S : Nat) : tk_ J A B S 12 < 2 ^ 31 := Nat.lt_trans (tk_lt J A B S 12) (by decide)
theorem sz_31 (T : Nat) : sz_ T < 2 ^ 31 := Nat.lt_of_le_of_lt (cn_le _ 13) (by decide)
theorem he_nI {J : Nat} {A B : Nat → Nat} {P a b : Nat} (hJ : J < 2 ^ 31) (ha : a < J) (hb : b < J) : he_ J A B P (nI a) (nI b) = hb_ J A B (tk_ J A B P 12) a b := by
  unfold he_ hb_
  rw [ba_nI hJ ha hb, nI_clamp (by omega), nI_clamp (by omega)]
  congr 1
  exact (decide_not).symm
theorem ht_lt {h : Nat → Nat → Bool} {a n : Nat} (ha : a < 6) (hn : n ≤ 6) : ht_ h a n < 64 := lt_tb (n := 6) (fun i hi => by
  rw [ht_tb]
  simp [show ¬ a = i by omega, show ¬ i < n by omega])
theorem bo_lt {h : Nat → Nat → Bool} {J a b : Nat} (hJ : J ≤ 6) (ha : a < J) : bo_ h J a b < 64 := by
  unfold bo_
  split
  · exact and_lt (n := 6) (ht_lt (by omega) hJ)
  · decide
def bq_ (h : Nat → Nat → Bool) (J a b : Nat) : Bool := decide (a < b) && ld_ (bo_ h J a b) a b
theorem bq_low {h : Nat → Nat → Bool} {J a : Nat} : cn_ (a + 1) (fun b => bq_ h J a b) = 0 := cn_zero (fun i hi => by
  unfold bq_
  simp [show ¬ a < i by omega])
theorem an_self {S M : Nat} : ∀ i, (an_ S M).testBit i = true → S.testBit i = true := by
  intro i h
  rw [an_tb, Bool.and_eq_true] at h
  exact h.1
theorem cn_31 (f : Nat → Bool) {n : Nat} (h : n ≤ 64) : cn_ n f < 2 ^ 31 := Nat.lt_of_le_of_lt (cn_le f n) (by omega)
theorem sm_bd {f : Nat → Nat} {n c : Nat} (h : ∀ i, i < n → f i ≤ c) : sm_ n f ≤ n * c := by
  induction n with
  | zero => simp [sm_]
  | succ n ih =>
    have h1 := ih (fun i hi => h i (by omega))
    have h2 := h n (by omega)
    rw [sm_s, Nat.succ_mul]
    omega

set_option maxHeartbeats 4000000 in
set_option maxRecDepth 100000 in
/-- ones -/
theorem mX1_ones (l : Launch) (D : va_G) (d : ClassId) (sz : Nat) (S : Nat) (hS4 : S < 4096) : mt_i l yX1_ones cX1_ones 3 .int (rr_ 0 0) D [(d, .byte)] ([]) sz [.int (nI S)] (fun (r : Int32) (_ : Unit) => r = nI (cn_ 12 (fun i => S.testBit i))) (fun _ => []) := by
  refine en_i (by decide +kernel) (Nat.le_of_ble_eq_true rfl) ?_
  intro p e s m args below meth c A H0 Q hx hb hml hown hts hK hP hD hA hS ret ls hl
  have hown : s.vm.findClass RX1 = some m.cls := hown
  have hl : lv_has ls 3 [(0, .int (nI S))] := hl
  refine lv_iconst (v := nI 0) hx hb dX1_ones_0 (by decide) ?_
  refine lv_istore_n (lv' := [(1, _), (0, _)]) hx hb dX1_ones_1 rfl hl (by decide) rfl (fun ls hl => ?_)
  refine lv_iconst (v := nI 0) hx hb dX1_ones_2 (by decide) ?_
  refine lv_istore_n (lv' := [(2, _), (1, _), (0, _)]) hx hb dX1_ones_3 rfl hl (by decide) rfl (fun ls hl => ?_)
  have loop : ∀ (n : Nat) (k : Nat), (12 + 1 ≤ k + n) → (k ≤ 12) → ∀ (H : Heap) (locs : List Loc), va_P D vwCl ([]) H → va_D A ([]) → va_S A H0 H locs → ∀ ls : Array Slot, lv_has ls 3 [(0, .int (nI S)), (1, .int (nI (cn_ k (fun i => S.testBit i)))), (2, .int (nI k))] → W p l e (rr_ 0 0) s m args below meth c H locs 0 0 Q (F0 m 4 ls []) := by
    intro n
    induction n with
    | zero =>
      intro k hn hk
      exfalso
      omega
    | succ n ih_loop =>
      intro k hn hk H locs hP hD hS ls hl
      refine lv_iload_n hx hb dX1_ones_4 rfl (lv_at hl 2 rfl) ?_
      refine lv_bipush (v := nI 12) hx hb dX1_ones_5 (by decide) ?_
      refine nr_icmp_ge (tgt := 24) hx hb (by omega) (by omega) dX1_ones_7 (by decide) (fun c7 => ?_) (fun c7 => ?_)
      · refine lv_iload_n hx hb dX1_ones_24 rfl (lv_at hl 1 rfl) ?_
        exact ret _ _ _ _ _ () dX1_ones_25 rfl (by rw [show k = 12 by omega]) hP hD hS
      · refine lv_iload_n hx hb dX1_ones_10 rfl (lv_at hl 1 rfl) ?_
        refine lv_iload_n hx hb dX1_ones_11 rfl (lv_at hl 0 rfl) ?_
        refine lv_iload_n hx hb dX1_ones_12 rfl (lv_at hl 2 rfl) ?_
        refine nr_bit hx hb (by omega) (by omega) dX1_ones_13 dX1_ones_14 dX1_ones_15 ?_
        refine nr_add hx hb dX1_ones_16 ?_
        refine lv_istore_n (lv' := [(1, _), (0, _), (2, _)]) hx hb dX1_ones_17 rfl hl (by decide) rfl (fun ls hl => ?_)
        refine lv_iinc (v := nI (k + 1)) (lv' := [(2, _), (1, _), (0, _)]) hx hb dX1_ones_18 hl (k := 2) rfl (nI_1 _) (by decide) rfl (fun ls hl => ?_)
        refine lv_goto (tgt := 4) hx hb dX1_ones_21 (by decide) ?_
        exact ih_loop (k + 1) (by omega) (by omega) _ _ hP hD hS _ (lv_sub hl [2, 1, 0] rfl)
  exact loop 13 0 (by omega) (by omega) _ _ hP hD hS _ (lv_sub hl [2, 1, 0] rfl)

set_option maxHeartbeats 4000000 in
set_option maxRecDepth 100000 in
/-- isFree -/
theorem mX1_isFree (l : Launch) (D : va_G) (d : ClassId) (ad : Nat → Nat) (sz : Nat) (J P : Nat) (eA eB : Nat → Nat) (T : Nat) (fr to pb : Nat → Nat) (re : Nat) (bY ln : Nat → Nat) (S : Nat) (hok : ok_ J P eA eB) (hSP : ∀ i, S.testBit i = true → P.testBit i = true) (hS4 : S < 4096) (hsf : sf_ T fr to pb re bY ln) : mt_i l yX1_isFree cX1_isFree 2 .boolean (rr_ 5 119) D [(d, .byte)] (wF d ad J P eA eB T fr to pb re bY ln) sz [.ref (ad 0), .int (nI S)] (fun (r : Int32) (u : ps_) => r = nI (lo_ J eA eB S).toNat ∧ sf_ u.1 u.2.1 u.2.2.1 u.2.2.2.1 u.2.2.2.2.1 u.2.2.2.2.2.1 u.2.2.2.2.2.2) (fun u => wU d ad J P eA eB u) := by
  refine en_i (by decide +kernel) (Nat.le_of_ble_eq_true rfl) ?_
  intro p e s m args below meth c A H0 Q hx hb hml hown hts hK hP hD hA hS ret ls hl
  have hown : s.vm.findClass RX1 = some m.cls := hown
  have hl : lv_has ls 2 [(0, .ref (ad 0)), (1, .int (nI S))] := hl
  refine lv_aload_n hx hb dX1_isFree_0 rfl (lv_at hl 0 rfl) ?_
  refine lv_iload_n hx hb dX1_isFree_1 rfl (lv_at hl 1 rfl) ?_
  refine cl_i ⟨hx, hb, hml, hown, hts⟩ hK hP hD hA hS rfl rfl (mX1_play l D d ad _ J P eA eB T fr to pb re bY ln S hok hSP hS4 hsf) (cwV 1 hts (lw_V q91 q93 qs3 q18 q94) rfl rfl rfl (by decide +kernel) ⟨Nat.le_of_ble_eq_true rfl, Nat.le_of_ble_eq_true rfl⟩) rfl hl.1 rfl (Nat.le_of_ble_eq_true rfl) ⟨Nat.le_refl _, Nat.le_refl _⟩ dX1_isFree_2 (fun r1 u1 H locs hw hP hD hS => ?_)
  obtain ⟨T1, fr1, to1, pb1, re1, bY1, ln1⟩ := u1
  have hP : va_P D vwCl (wF d ad J P eA eB T1 fr1 to1 pb1 re1 bY1 ln1) H := hP
  have hD : va_D A (wF d ad J P eA eB T1 fr1 to1 pb1 re1 bY1 ln1) := hD
  obtain ⟨hr1, hT1, hsf, hpi, hdf⟩ := hw
  have hsf : sf_ T1 fr1 to1 pb1 re1 bY1 ln1 := hsf
  have hT1 : T1 = tk_ J eA eB S 12 := hT1
  have hpi : pi_ J eA eB T1 fr1 to1 := hpi
  have hdf : df_ T1 fr1 pb1 (fun _ => 0) := hdf
  subst hr1
  refine lv_iload_n hx hb dX1_isFree_5 rfl (lv_at hl 1 rfl) ?_
  refine nr_icmp_ne (tgt := 13) hx hb (tk_31 _ _ _ _) (by omega) dX1_isFree_6 (by decide) (fun c6 => ?_) (fun c6 => ?_)
  · refine lv_iconst (v := nI 0) hx hb dX1_isFree_13 (by decide) ?_
    exact ret _ _ _ _ _ (T1, fr1, to1, pb1, re1, bY1, ln1) dX1_isFree_14 rfl ⟨by rw [show lo_ J eA eB S = false from Bool.eq_false_iff.mpr (fun q => c6 ((tk_free (n := 12) hS4).mpr q))]; rfl, hsf⟩ hP hD hS
  · refine lv_iconst (v := nI 1) hx hb dX1_isFree_9 (by decide) ?_
    refine lv_goto (tgt := 14) hx hb dX1_isFree_10 (by decide) ?_
    exact ret _ _ _ _ _ (T1, fr1, to1, pb1, re1, bY1, ln1) dX1_isFree_14 rfl ⟨by rw [(tk_free (n := 12) hS4).mp c6]; rfl, hsf⟩ hP hD hS

set_option maxHeartbeats 4000000 in
set_option maxRecDepth 100000 in
/-- rankOf -/
theorem mX1_rankOf (l : Launch) (D : va_G) (d : ClassId) (ad : Nat → Nat) (sz : Nat) (J P : Nat) (eA eB : Nat → Nat) (T : Nat) (fr to pb : Nat → Nat) (re : Nat) (bY ln : Nat → Nat) (S : Nat) (hok : ok_ J P eA eB) (hSP : ∀ i, S.testBit i = true → P.testBit i = true) (hS4 : S < 4096) (hsf : sf_ T fr to pb re bY ln) : mt_i l yX1_rankOf cX1_rankOf 3 .int (rr_ 5 119) D [(d, .byte)] (wF d ad J P eA eB T fr to pb re bY ln) sz [.ref (ad 0), .int (nI S)] (fun (r : Int32) (u : ps_) => r = nI (sz_ (tk_ J eA eB S 12)) ∧ sf_ u.1 u.2.1 u.2.2.1 u.2.2.2.1 u.2.2.2.2.1 u.2.2.2.2.2.1 u.2.2.2.2.2.2) (fun u => wU d ad J P eA eB u) := by
  refine en_i (by decide +kernel) (Nat.le_of_ble_eq_true rfl) ?_
  intro p e s m args below meth c A H0 Q hx hb hml hown hts hK hP hD hA hS ret ls hl
  have hown : s.vm.findClass RX1 = some m.cls := hown
  have hl : lv_has ls 3 [(0, .ref (ad 0)), (1, .int (nI S))] := hl
  refine lv_aload_n hx hb dX1_rankOf_0 rfl (lv_at hl 0 rfl) ?_
  refine lv_iload_n hx hb dX1_rankOf_1 rfl (lv_at hl 1 rfl) ?_
  refine cl_i ⟨hx, hb, hml, hown, hts⟩ hK hP hD hA hS rfl rfl (mX1_play l D d ad _ J P eA eB T fr to pb re bY ln S hok hSP hS4 hsf) (cwV 1 hts (lw_V q91 q93 qs3 q18 q94) rfl rfl rfl (by decide +kernel) ⟨Nat.le_of_ble_eq_true rfl, Nat.le_of_ble_eq_true rfl⟩) rfl hl.1 rfl (Nat.le_of_ble_eq_true rfl) ⟨Nat.le_refl _, Nat.le_refl _⟩ dX1_rankOf_2 (fun r1 u1 H locs hw hP hD hS => ?_)
  obtain ⟨T1, fr1, to1, pb1, re1, bY1, ln1⟩ := u1
  have hP : va_P D vwCl (wF d ad J P eA eB T1 fr1 to1 pb1 re1 bY1 ln1) H := hP
  have hD : va_D A (wF d ad J P eA eB T1 fr1 to1 pb1 re1 bY1 ln1) := hD
  obtain ⟨hr1, hT1, hsf, hpi, hdf⟩ := hw
  have hsf : sf_ T1 fr1 to1 pb1 re1 bY1 ln1 := hsf
  have hT1 : T1 = tk_ J eA eB S 12 := hT1
  have hpi : pi_ J eA eB T1 fr1 to1 := hpi
  have hdf : df_ T1 fr1 pb1 (fun _ => 0) := hdf
  subst hr1
  refine lv_istore_n (lv' := [(2, _), (0, _), (1, _)]) hx hb dX1_rankOf_5 rfl hl (by decide) rfl (fun ls hl => ?_)
  refine lv_iload_n hx hb dX1_rankOf_6 rfl (lv_at hl 0 rfl) ?_
  refine cl_s ⟨hx, hb, hml, hown, hts⟩ hK hP hD hA hS (mX1_ones l D d _ (tk_ J eA eB S 12) (tk_lt _ _ _ _ _)) (va_cwS 1 hts (lw_S q123 q124 q18 q125) rfl rfl rfl (by decide +kernel) ⟨Nat.le_of_ble_eq_true rfl, Nat.le_of_ble_eq_true rfl⟩) rfl hl.1 rfl (Nat.le_of_ble_eq_true rfl) ⟨Nat.le_refl _, Nat.le_refl _⟩ dX1_rankOf_7 (fun r9 u9 H locs hw hP hD hS => ?_)
  rw [sz_12 (tk_lt _ _ _ _ _)] at hw
  subst hw
  exact ret _ _ _ _ _ (T1, fr1, to1, pb1, re1, bY1, ln1) dX1_rankOf_10 (rfl) ⟨rfl, hsf⟩ hP hD hS

set_option maxHeartbeats 4000000 in
set_option maxRecDepth 100000 in
/-- free -/
theorem mX1_free (l : Launch) (D : va_G) (d : ClassId) (ad : Nat → Nat) (sz : Nat) (J P : Nat) (eA eB : Nat → Nat) (T : Nat) (fr to pb : Nat → Nat) (re : Nat) (bY ln : Nat → Nat) (x : Int32) (hok : ok_ J P eA eB) (hsf : sf_ T fr to pb re bY ln) : mt_i l yX1_free cX1_free 2 .boolean (rr_ 6 140) D [(d, .byte)] (wF d ad J P eA eB T fr to pb re bY ln) sz [.ref (ad 0), .int x] (fun (r : Int32) (u : ps_) => r = nI (lo_ J eA eB (un_ x &&& P)).toNat ∧ sf_ u.1 u.2.1 u.2.2.1 u.2.2.2.1 u.2.2.2.2.1 u.2.2.2.2.2.1 u.2.2.2.2.2.2) (fun u => wU d ad J P eA eB u) := by
  refine en_i (by decide +kernel) (Nat.le_of_ble_eq_true rfl) ?_
  intro p e s m args below meth c A H0 Q hx hb hml hown hts hK hP hD hA hS ret ls hl
  have hown : s.vm.findClass RX1 = some m.cls := hown
  have hl : lv_has ls 2 [(0, .ref (ad 0)), (1, .int x)] := hl
  rw [un_eq x] at hl
  refine lv_aload_n hx hb dX1_free_0 rfl (lv_at hl 0 rfl) ?_
  refine lv_iload_n hx hb dX1_free_1 rfl (lv_at hl 1 rfl) ?_
  refine lv_aload_n hx hb dX1_free_2 rfl (lv_at hl 0 rfl) ?_
  refine gf1 hx hb hts hown hK hP rfl 1 (by decide) q29 rfl rfl dX1_free_3 ?_
  refine nr_and hx hb dX1_free_6 ?_
  refine cl_i ⟨hx, hb, hml, hown, hts⟩ hK hP hD hA hS rfl rfl (mX1_isFree l D d ad _ J P eA eB T fr to pb re bY ln (un_ x &&& P) hok (and_sub) (and_lt2 (n := 12) hok.2.2.1) hsf) (cwV 1 hts (lw_V q87 q89 qs2 q18 q90) rfl rfl rfl (by decide +kernel) ⟨Nat.le_of_ble_eq_true rfl, Nat.le_of_ble_eq_true rfl⟩) rfl hl.1 rfl (Nat.le_of_ble_eq_true rfl) ⟨Nat.le_refl _, Nat.le_refl _⟩ dX1_free_7 (fun r1 u1 H locs hw hP hD hS => ?_)
  obtain ⟨T1, fr1, to1, pb1, re1, bY1, ln1⟩ := u1
  have hP : va_P D vwCl (wF d ad J P eA eB T1 fr1 to1 pb1 re1 bY1 ln1) H := hP
  have hD : va_D A (wF d ad J P eA eB T1 fr1 to1 pb1 re1 bY1 ln1) := hD
  obtain ⟨hr1, hsf⟩ := hw
  have hsf : sf_ T1 fr1 to1 pb1 re1 bY1 ln1 := hsf
  subst hr1
  exact ret _ _ _ _ _ (T1, fr1, to1, pb1, re1, bY1, ln1) dX1_free_10 (wd_rz _) ⟨rfl, hsf⟩ hP hD hS

set_option maxHeartbeats 4000000 in
set_option maxRecDepth 100000 in
/-- rank -/
theorem mX1_rank (l : Launch) (D : va_G) (d : ClassId) (ad : Nat → Nat) (sz : Nat) (J P : Nat) (eA eB : Nat → Nat) (T : Nat) (fr to pb : Nat → Nat) (re : Nat) (bY ln : Nat → Nat) (x : Int32) (hok : ok_ J P eA eB) (hsf : sf_ T fr to pb re bY ln) : mt_i l yX1_rank cX1_rank 2 .int (rr_ 6 141) D [(d, .byte)] (wF d ad J P eA eB T fr to pb re bY ln) sz [.ref (ad 0), .int x] (fun (r : Int32) (u : ps_) => r = nI (sz_ (tk_ J eA eB (un_ x &&& P) 12)) ∧ sf_ u.1 u.2.1 u.2.2.1 u.2.2.2.1 u.2.2.2.2.1 u.2.2.2.2.2.1 u.2.2.2.2.2.2) (fun u => wU d ad J P eA eB u) := by
  refine en_i (by decide +kernel) (Nat.le_of_ble_eq_true rfl) ?_
  intro p e s m args below meth c A H0 Q hx hb hml hown hts hK hP hD hA hS ret ls hl
  have hown : s.vm.findClass RX1 = some m.cls := hown
  have hl : lv_has ls 2 [(0, .ref (ad 0)), (1, .int x)] := hl
  rw [un_eq x] at hl
  refine lv_aload_n hx hb dX1_rank_0 rfl (lv_at hl 0 rfl) ?_
  refine lv_iload_n hx hb dX1_rank_1 rfl (lv_at hl 1 rfl) ?_
  refine lv_aload_n hx hb dX1_rank_2 rfl (lv_at hl 0 rfl) ?_
  refine gf1 hx hb hts hown hK hP rfl 1 (by decide) q29 rfl rfl dX1_rank_3 ?_
  refine nr_and hx hb dX1_rank_6 ?_
  refine cl_i ⟨hx, hb, hml, hown, hts⟩ hK hP hD hA hS rfl rfl (mX1_rankOf l D d ad _ J P eA eB T fr to pb re bY ln (un_ x &&& P) hok (and_sub) (and_lt2 (n := 12) hok.2.2.1) hsf) (cwV 1 hts (lw_V q119 q121 qs9 q18 q122) rfl rfl rfl (by decide +kernel) ⟨Nat.le_of_ble_eq_true rfl, Nat.le_of_ble_eq_true rfl⟩) rfl hl.1 rfl (Nat.le_of_ble_eq_true rfl) ⟨Nat.le_refl _, Nat.le_refl _⟩ dX1_rank_7 (fun r1 u1 H locs hw hP hD hS => ?_)
  obtain ⟨T1, fr1, to1, pb1, re1, bY1, ln1⟩ := u1
  have hP : va_P D vwCl (wF d ad J P eA eB T1 fr1 to1 pb1 re1 bY1 ln1) H := hP
  have hD : va_D A (wF d ad J P eA eB T1 fr1 to1 pb1 re1 bY1 ln1) := hD
  obtain ⟨hr1, hsf⟩ := hw
  have hsf : sf_ T1 fr1 to1 pb1 re1 bY1 ln1 := hsf
  subst hr1
  exact ret _ _ _ _ _ (T1, fr1, to1, pb1, re1, bY1, ln1) dX1_rank_10 (rfl) ⟨rfl, hsf⟩ hP hD hS

set_option maxHeartbeats 4000000 in
set_option maxRecDepth 100000 in
/-- frame -/
theorem mX1_frame (l : Launch) (D : va_G) (d : ClassId) (ad : Nat → Nat) (sz : Nat) (J P : Nat) (eA eB : Nat → Nat) (T : Nat) (fr to pb : Nat → Nat) (re : Nat) (bY ln : Nat → Nat)  (hok : ok_ J P eA eB) (hsf : sf_ T fr to pb re bY ln) : mt_i l yX1_frame cX1_frame 1 .int (rr_ 5 119) D [(d, .byte)] (wF d ad J P eA eB T fr to pb re bY ln) sz [.ref (ad 0)] (fun (r : Int32) (u : ps_) => r = nI (tk_ J eA eB P 12) ∧ sf_ u.1 u.2.1 u.2.2.1 u.2.2.2.1 u.2.2.2.2.1 u.2.2.2.2.2.1 u.2.2.2.2.2.2) (fun u => wU d ad J P eA eB u) := by
  refine en_i (by decide +kernel) (Nat.le_of_ble_eq_true rfl) ?_
  intro p e s m args below meth c A H0 Q hx hb hml hown hts hK hP hD hA hS ret ls hl
  have hown : s.vm.findClass RX1 = some m.cls := hown
  have hl : lv_has ls 1 [(0, .ref (ad 0))] := hl
  refine lv_aload_n hx hb dX1_frame_0 rfl (lv_at hl 0 rfl) ?_
  refine lv_aload_n hx hb dX1_frame_1 rfl (lv_at hl 0 rfl) ?_
  refine gf1 hx hb hts hown hK hP rfl 1 (by decide) q29 rfl rfl dX1_frame_2 ?_
  refine cl_i ⟨hx, hb, hml, hown, hts⟩ hK hP hD hA hS rfl rfl (mX1_play l D d ad _ J P eA eB T fr to pb re bY ln P hok (fun _ h => h) hok.2.2.1 hsf) (cwV 1 hts (lw_V q91 q93 qs3 q18 q94) rfl rfl rfl (by decide +kernel) ⟨Nat.le_of_ble_eq_true rfl, Nat.le_of_ble_eq_true rfl⟩) rfl hl.1 rfl (Nat.le_of_ble_eq_true rfl) ⟨Nat.le_refl _, Nat.le_refl _⟩ dX1_frame_5 (fun r1 u1 H locs hw hP hD hS => ?_)
  obtain ⟨T1, fr1, to1, pb1, re1, bY1, ln1⟩ := u1
  have hP : va_P D vwCl (wF d ad J P eA eB T1 fr1 to1 pb1 re1 bY1 ln1) H := hP
  have hD : va_D A (wF d ad J P eA eB T1 fr1 to1 pb1 re1 bY1 ln1) := hD
  obtain ⟨hr1, hT1, hsf, hpi, hdf⟩ := hw
  have hsf : sf_ T1 fr1 to1 pb1 re1 bY1 ln1 := hsf
  have hT1 : T1 = tk_ J eA eB P 12 := hT1
  have hpi : pi_ J eA eB T1 fr1 to1 := hpi
  have hdf : df_ T1 fr1 pb1 (fun _ => 0) := hdf
  subst hr1
  exact ret _ _ _ _ _ (T1, fr1, to1, pb1, re1, bY1, ln1) dX1_frame_8 (rfl) ⟨rfl, hsf⟩ hP hD hS

set_option maxHeartbeats 4000000 in
set_option maxRecDepth 100000 in
/-- freedom -/
theorem mX1_freedom (l : Launch) (D : va_G) (d : ClassId) (ad : Nat → Nat) (sz : Nat) (J P : Nat) (eA eB : Nat → Nat) (T : Nat) (fr to pb : Nat → Nat) (re : Nat) (bY ln : Nat → Nat)  (hok : ok_ J P eA eB) (hsf : sf_ T fr to pb re bY ln) : mt_i l yX1_freedom cX1_freedom 1 .int (rr_ 6 141) D [(d, .byte)] (wF d ad J P eA eB T fr to pb re bY ln) sz [.ref (ad 0)] (fun (r : Int32) (u : ps_) => r = fd_ J eA eB P ∧ sf_ u.1 u.2.1 u.2.2.1 u.2.2.2.1 u.2.2.2.2.1 u.2.2.2.2.2.1 u.2.2.2.2.2.2) (fun u => wU d ad J P eA eB u) := by
  refine en_i (by decide +kernel) (Nat.le_of_ble_eq_true rfl) ?_
  intro p e s m args below meth c A H0 Q hx hb hml hown hts hK hP hD hA hS ret ls hl
  have hown : s.vm.findClass RX1 = some m.cls := hown
  have hl : lv_has ls 1 [(0, .ref (ad 0))] := hl
  refine lv_iconst (v := nI 2) hx hb dX1_freedom_0 (by decide) ?_
  refine lv_aload_n hx hb dX1_freedom_1 rfl (lv_at hl 0 rfl) ?_
  refine gf1 hx hb hts hown hK hP rfl 0 (by decide) q28 rfl rfl dX1_freedom_2 ?_
  refine nr_mul hx hb dX1_freedom_5 ?_
  refine lv_iconst (v := nI 3) hx hb dX1_freedom_6 (by decide) ?_
  refine nr_sub hx hb (by have := hok.1; omega) dX1_freedom_7 ?_
  refine lv_aload_n hx hb dX1_freedom_8 rfl (lv_at hl 0 rfl) ?_
  refine lv_aload_n hx hb dX1_freedom_9 rfl (lv_at hl 0 rfl) ?_
  refine gf1 hx hb hts hown hK hP rfl 1 (by decide) q29 rfl rfl dX1_freedom_10 ?_
  refine cl_i ⟨hx, hb, hml, hown, hts⟩ hK hP hD hA hS rfl rfl (mX1_rankOf l D d ad _ J P eA eB T fr to pb re bY ln P hok (fun _ h => h) hok.2.2.1 hsf) (cwV 1 hts (lw_V q119 q121 qs9 q18 q122) rfl rfl rfl (by decide +kernel) ⟨Nat.le_of_ble_eq_true rfl, Nat.le_of_ble_eq_true rfl⟩) rfl hl.1 rfl (Nat.le_of_ble_eq_true rfl) ⟨Nat.le_refl _, Nat.le_refl _⟩ dX1_freedom_13 (fun r1 u1 H locs hw hP hD hS => ?_)
  obtain ⟨T1, fr1, to1, pb1, re1, bY1, ln1⟩ := u1
  have hP : va_P D vwCl (wF d ad J P eA eB T1 fr1 to1 pb1 re1 bY1 ln1) H := hP
  have hD : va_D A (wF d ad J P eA eB T1 fr1 to1 pb1 re1 bY1 ln1) := hD
  obtain ⟨hr1, hsf⟩ := hw
  have hsf : sf_ T1 fr1 to1 pb1 re1 bY1 ln1 := hsf
  subst hr1
  refine lv_isub hx hb dX1_freedom_16 ?_
  exact ret _ _ _ _ _ (T1, fr1, to1, pb1, re1, bY1, ln1) dX1_freedom_17 (rfl) ⟨rfl, hsf⟩ hP hD hS

set_option maxHeartbeats 4000000 in
set_option maxRecDepth 100000 in
/-- rigid -/
theorem mX1_rigid (l : Launch) (D : va_G) (d : ClassId) (ad : Nat → Nat) (sz : Nat) (J P : Nat) (eA eB : Nat → Nat) (T : Nat) (fr to pb : Nat → Nat) (re : Nat) (bY ln : Nat → Nat)  (hok : ok_ J P eA eB) (hsf : sf_ T fr to pb re bY ln) : mt_i l yX1_rigid cX1_rigid 1 .boolean (rr_ 7 161) D [(d, .byte)] (wF d ad J P eA eB T fr to pb re bY ln) sz [.ref (ad 0)] (fun (r : Int32) (u : ps_) => r = nI (decide (fd_ J eA eB P = 0)).toNat ∧ sf_ u.1 u.2.1 u.2.2.1 u.2.2.2.1 u.2.2.2.2.1 u.2.2.2.2.2.1 u.2.2.2.2.2.2) (fun u => wU d ad J P eA eB u) := by
  refine en_i (by decide +kernel) (Nat.le_of_ble_eq_true rfl) ?_
  intro p e s m args below meth c A H0 Q hx hb hml hown hts hK hP hD hA hS ret ls hl
  have hown : s.vm.findClass RX1 = some m.cls := hown
  have hl : lv_has ls 1 [(0, .ref (ad 0))] := hl
  refine lv_aload_n hx hb dX1_rigid_0 rfl (lv_at hl 0 rfl) ?_
  refine cl_i ⟨hx, hb, hml, hown, hts⟩ hK hP hD hA hS rfl rfl (mX1_freedom l D d ad _ J P eA eB T fr to pb re bY ln hok hsf) (cwV 0 hts (lw_V q134 q135 q136 q18 q137) rfl rfl rfl (by decide +kernel) ⟨Nat.le_of_ble_eq_true rfl, Nat.le_of_ble_eq_true rfl⟩) rfl hl.1 rfl (Nat.le_of_ble_eq_true rfl) ⟨Nat.le_refl _, Nat.le_refl _⟩ dX1_rigid_1 (fun r1 u1 H locs hw hP hD hS => ?_)
  obtain ⟨T1, fr1, to1, pb1, re1, bY1, ln1⟩ := u1
  have hP : va_P D vwCl (wF d ad J P eA eB T1 fr1 to1 pb1 re1 bY1 ln1) H := hP
  have hD : va_D A (wF d ad J P eA eB T1 fr1 to1 pb1 re1 bY1 ln1) := hD
  obtain ⟨hr1, hsf⟩ := hw
  have hsf : sf_ T1 fr1 to1 pb1 re1 bY1 ln1 := hsf
  subst hr1
  refine lv_if_ne (tgt := 11) hx hb dX1_rigid_4 (by decide) (fun c4 => ?_) (fun c4 => ?_)
  · refine lv_iconst (v := nI 0) hx hb dX1_rigid_11 (by decide) ?_
    exact ret _ _ _ _ _ (T1, fr1, to1, pb1, re1, bY1, ln1) dX1_rigid_12 rfl ⟨by rw [decide_eq_false c4]; rfl, hsf⟩ hP hD hS
  · refine lv_iconst (v := nI 1) hx hb dX1_rigid_7 (by decide) ?_
    refine lv_goto (tgt := 12) hx hb dX1_rigid_8 (by decide) ?_
    exact ret _ _ _ _ _ (T1, fr1, to1, pb1, re1, bY1, ln1) dX1_rigid_12 rfl ⟨by rw [decide_eq_true c4]; rfl, hsf⟩ hP hD hS

set_option maxHeartbeats 4000000 in
set_option maxRecDepth 100000 in
/-- held -/
theorem mX1_held (l : Launch) (D : va_G) (d : ClassId) (ad : Nat → Nat) (sz : Nat) (J P : Nat) (eA eB : Nat → Nat) (T : Nat) (fr to pb : Nat → Nat) (re : Nat) (bY ln : Nat → Nat) (x y : Int32) (hok : ok_ J P eA eB) (hsf : sf_ T fr to pb re bY ln) : mt_i l yX1_held cX1_held 3 .boolean (rr_ 5 119) D [(d, .byte)] (wF d ad J P eA eB T fr to pb re bY ln) sz [.ref (ad 0), .int x, .int y] (fun (r : Int32) (u : ps_) => r = nI (he_ J eA eB P x y).toNat ∧ sf_ u.1 u.2.1 u.2.2.1 u.2.2.2.1 u.2.2.2.2.1 u.2.2.2.2.2.1 u.2.2.2.2.2.2) (fun u => wU d ad J P eA eB u) := by
  refine en_i (by decide +kernel) (Nat.le_of_ble_eq_true rfl) ?_
  intro p e s m args below meth c A H0 Q hx hb hml hown hts hK hP hD hA hS ret ls hl
  have hown : s.vm.findClass RX1 = some m.cls := hown
  have hl : lv_has ls 3 [(0, .ref (ad 0)), (1, .int x), (2, .int y)] := hl
  refine lv_iload_n hx hb dX1_held_0 rfl (lv_at hl 1 rfl) ?_
  refine lv_iload_n hx hb dX1_held_1 rfl (lv_at hl 2 rfl) ?_
  refine lv_icmp_eq (tgt := 21) hx hb dX1_held_2 (by decide) (fun c2 => ?_) (fun c2 => ?_)
  · refine lv_iconst (v := nI 0) hx hb dX1_held_21 (by decide) ?_
    have hba : ba_ J x y = true := by first | exact ba_eq c2 | exact ba_x c10 | exact ba_y c18
    exact ret _ _ _ _ _ (T, fr, to, pb, re, bY, ln) dX1_held_22 rfl ⟨by unfold he_; rw [hba]; rfl, hsf⟩ hP hD hS
  · refine lv_aload_n hx hb dX1_held_5 rfl (lv_at hl 0 rfl) ?_
    refine lv_iload_n hx hb dX1_held_6 rfl (lv_at hl 1 rfl) ?_
    refine cl_i ⟨hx, hb, hml, hown, hts⟩ hK hP hD hA hS rfl rfl (mX1_isJoint l D d ad _ J P eA eB T fr to pb re bY ln x) (cwV 1 hts (lw_V q67 q69 qs0 q18 q70) rfl rfl rfl (by decide +kernel) ⟨Nat.le_of_ble_eq_true rfl, Nat.le_of_ble_eq_true rfl⟩) rfl hl.1 rfl (Nat.le_of_ble_eq_true rfl) ⟨Nat.le_refl _, Nat.le_refl _⟩ dX1_held_7 (fun r1 u1 H locs hw hP hD hS => ?_)
    subst hw
    refine nr_beq (tgt := 21) hx hb dX1_held_10 (by decide) (fun c10 => ?_) (fun c10 => ?_)
    · refine lv_iconst (v := nI 0) hx hb dX1_held_21 (by decide) ?_
      have hba : ba_ J x y = true := by first | exact ba_eq c2 | exact ba_x c10 | exact ba_y c18
      exact ret _ _ _ _ _ (T, fr, to, pb, re, bY, ln) dX1_held_22 rfl ⟨by unfold he_; rw [hba]; rfl, hsf⟩ hP hD hS
    · refine lv_aload_n hx hb dX1_held_13 rfl (lv_at hl 0 rfl) ?_
      refine lv_iload_n hx hb dX1_held_14 rfl (lv_at hl 2 rfl) ?_
      refine cl_i ⟨hx, hb, hml, hown, hts⟩ hK hP hD hA hS rfl rfl (mX1_isJoint l D d ad _ J P eA eB T fr to pb re bY ln y) (cwV 1 hts (lw_V q67 q69 qs0 q18 q70) rfl rfl rfl (by decide +kernel) ⟨Nat.le_of_ble_eq_true rfl, Nat.le_of_ble_eq_true rfl⟩) rfl hl.1 rfl (Nat.le_of_ble_eq_true rfl) ⟨Nat.le_refl _, Nat.le_refl _⟩ dX1_held_15 (fun r1 u1 H locs hw hP hD hS => ?_)
      subst hw
      refine nr_bne (tgt := 23) hx hb dX1_held_18 (by decide) (fun c18 => ?_) (fun c18 => ?_)
      · have hJ := hok.2.1
        obtain ⟨a, ha, rfl⟩ := (jo_iff (by omega)).mp c10
        obtain ⟨b, hb2, rfl⟩ := (jo_iff (by omega)).mp c18
        have hba := ba_no c2 c10 c18
        have hne : a ≠ b := fun q => c2 (by rw [q])
        refine lv_aload_n hx hb dX1_held_23 rfl (lv_at hl 0 rfl) ?_
        refine lv_aload_n hx hb dX1_held_24 rfl (lv_at hl 0 rfl) ?_
        refine gf1 hx hb hts hown hK hP rfl 1 (by decide) q29 rfl rfl dX1_held_25 ?_
        refine cl_i ⟨hx, hb, hml, hown, hts⟩ hK hP hD hA hS rfl rfl (mX1_play l D d ad _ J P eA eB T fr to pb re bY ln P hok (fun _ h => h) hok.2.2.1 hsf) (cwV 1 hts (lw_V q91 q93 qs3 q18 q94) rfl rfl rfl (by decide +kernel) ⟨Nat.le_of_ble_eq_true rfl, Nat.le_of_ble_eq_true rfl⟩) rfl hl.1 rfl (Nat.le_of_ble_eq_true rfl) ⟨Nat.le_refl _, Nat.le_refl _⟩ dX1_held_28 (fun r1 u1 H locs hw hP hD hS => ?_)
        obtain ⟨T1, fr1, to1, pb1, re1, bY1, ln1⟩ := u1
        have hP : va_P D vwCl (wF d ad J P eA eB T1 fr1 to1 pb1 re1 bY1 ln1) H := hP
        have hD : va_D A (wF d ad J P eA eB T1 fr1 to1 pb1 re1 bY1 ln1) := hD
        obtain ⟨hr1, hT1, hsf, hpi, hdf⟩ := hw
        have hsf : sf_ T1 fr1 to1 pb1 re1 bY1 ln1 := hsf
        have hT1 : T1 = tk_ J eA eB P 12 := hT1
        have hpi : pi_ J eA eB T1 fr1 to1 := hpi
        have hdf : df_ T1 fr1 pb1 (fun _ => 0) := hdf
        subst hr1
        refine lv_pop hx hb dX1_held_31 rfl ?_
        have hlo := tk_lo J eA eB P 12
        subst hT1
        refine lv_aload_n hx hb dX1_held_32 rfl (lv_at hl 0 rfl) ?_
        refine lv_iload_n hx hb dX1_held_33 rfl (lv_at hl 1 rfl) ?_
        refine lv_iload_n hx hb dX1_held_34 rfl (lv_at hl 2 rfl) ?_
        refine cl_i ⟨hx, hb, hml, hown, hts⟩ hK hP hD hA hS rfl rfl (mX1_gather l D d ad _ J P eA eB (tk_ J eA eB P 12) fr1 to1 pb1 re1 bY1 ln1 a b hJ (by omega) (by omega) hne hpi hdf hlo hsf) (cwV 2 hts (lw_V q103 q105 qs6 q18 q106) rfl rfl rfl (by decide +kernel) ⟨Nat.le_of_ble_eq_true rfl, Nat.le_of_ble_eq_true rfl⟩) rfl hl.1 rfl (Nat.le_of_ble_eq_true rfl) ⟨Nat.le_refl _, Nat.le_refl _⟩ dX1_held_35 (fun r8 u8 H locs hw hP hD hS => ?_)
        obtain ⟨fr8, to8, pb8, re8, bY8, ln8⟩ := u8
        obtain ⟨g1, g2, g3, g4, g5⟩ := hw
        have hP : va_P D vwCl (wF d ad J P eA eB (tk_ J eA eB P 12) fr8 to8 pb8 re8 bY8 ln8) H := hP
        have hD : va_D A (wF d ad J P eA eB (tk_ J eA eB P 12) fr8 to8 pb8 re8 bY8 ln8) := hD
        have hsf : sf_ (tk_ J eA eB P 12) fr8 to8 pb8 re8 bY8 ln8 := g1
        subst g4
        refine nr_bne (tgt := 45) hx hb dX1_held_38 (by decide) (fun c38 => ?_) (fun c38 => ?_)
        · refine lv_iconst (v := nI 0) hx hb dX1_held_45 (by decide) ?_
          exact ret _ _ _ _ _ (tk_ J eA eB P 12, fr8, to8, pb8, re8, bY8, ln8) dX1_held_46 rfl ⟨by unfold he_; rw [hba, nI_clamp (by omega), nI_clamp (by omega), c38]; rfl, hsf⟩ hP hD hS
        · refine lv_iconst (v := nI 1) hx hb dX1_held_41 (by decide) ?_
          refine lv_goto (tgt := 46) hx hb dX1_held_42 (by decide) ?_
          exact ret _ _ _ _ _ (tk_ J eA eB P 12, fr8, to8, pb8, re8, bY8, ln8) dX1_held_46 rfl ⟨by unfold he_; rw [hba, nI_clamp (by omega), nI_clamp (by omega), c38]; rfl, hsf⟩ hP hD hS
      · refine lv_iconst (v := nI 0) hx hb dX1_held_21 (by decide) ?_
        have hba : ba_ J x y = true := by first | exact ba_eq c2 | exact ba_x c10 | exact ba_y c18
        exact ret _ _ _ _ _ (T, fr, to, pb, re, bY, ln) dX1_held_22 rfl ⟨by unfold he_; rw [hba]; rfl, hsf⟩ hP hD hS

set_option maxHeartbeats 4000000 in
set_option maxRecDepth 100000 in
/-- redundant -/
theorem mX1_redundant (l : Launch) (D : va_G) (d : ClassId) (ad : Nat → Nat) (sz : Nat) (J P : Nat) (eA eB : Nat → Nat) (T : Nat) (fr to pb : Nat → Nat) (re : Nat) (bY ln : Nat → Nat) (x : Int32) (hok : ok_ J P eA eB) (hsf : sf_ T fr to pb re bY ln) : mt_i l yX1_redundant cX1_redundant 3 .boolean (rr_ 6 141) D [(d, .byte)] (wF d ad J P eA eB T fr to pb re bY ln) sz [.ref (ad 0), .int x] (fun (r : Int32) (u : ps_) => r = nI (rd_ J eA eB P x).toNat ∧ sf_ u.1 u.2.1 u.2.2.1 u.2.2.2.1 u.2.2.2.2.1 u.2.2.2.2.2.1 u.2.2.2.2.2.2) (fun u => wU d ad J P eA eB u) := by
  refine en_i (by decide +kernel) (Nat.le_of_ble_eq_true rfl) ?_
  intro p e s m args below meth c A H0 Q hx hb hml hown hts hK hP hD hA hS ret ls hl
  have hown : s.vm.findClass RX1 = some m.cls := hown
  have hl : lv_has ls 3 [(0, .ref (ad 0)), (1, .int x)] := hl
  refine lv_aload_n hx hb dX1_redundant_0 rfl (lv_at hl 0 rfl) ?_
  refine lv_iload_n hx hb dX1_redundant_1 rfl (lv_at hl 1 rfl) ?_
  refine cl_i ⟨hx, hb, hml, hown, hts⟩ hK hP hD hA hS rfl rfl (mX1_has l D d ad _ J P eA eB T fr to pb re bY ln x hok.2.2.1) (cwV 1 hts (lw_V q71 q73 qs1 q18 q74) rfl rfl rfl (by decide +kernel) ⟨Nat.le_of_ble_eq_true rfl, Nat.le_of_ble_eq_true rfl⟩) rfl hl.1 rfl (Nat.le_of_ble_eq_true rfl) ⟨Nat.le_refl _, Nat.le_refl _⟩ dX1_redundant_2 (fun r1 u1 H locs hw hP hD hS => ?_)
  subst hw
  refine nr_bne (tgt := 10) hx hb dX1_redundant_5 (by decide) (fun c5 => ?_) (fun c5 => ?_)
  · obtain ⟨k, hk, rfl, hbit⟩ := ha_ex c5
    refine lv_aload_n hx hb dX1_redundant_10 rfl (lv_at hl 0 rfl) ?_
    refine lv_aload_n hx hb dX1_redundant_11 rfl (lv_at hl 0 rfl) ?_
    refine gf1 hx hb hts hown hK hP rfl 1 (by decide) q29 rfl rfl dX1_redundant_12 ?_
    refine cl_i ⟨hx, hb, hml, hown, hts⟩ hK hP hD hA hS rfl rfl (mX1_rankOf l D d ad _ J P eA eB T fr to pb re bY ln P hok (fun _ h => h) hok.2.2.1 hsf) (cwV 1 hts (lw_V q119 q121 qs9 q18 q122) rfl rfl rfl (by decide +kernel) ⟨Nat.le_of_ble_eq_true rfl, Nat.le_of_ble_eq_true rfl⟩) rfl hl.1 rfl (Nat.le_of_ble_eq_true rfl) ⟨Nat.le_refl _, Nat.le_refl _⟩ dX1_redundant_15 (fun r1 u1 H locs hw hP hD hS => ?_)
    obtain ⟨T1, fr1, to1, pb1, re1, bY1, ln1⟩ := u1
    have hP : va_P D vwCl (wF d ad J P eA eB T1 fr1 to1 pb1 re1 bY1 ln1) H := hP
    have hD : va_D A (wF d ad J P eA eB T1 fr1 to1 pb1 re1 bY1 ln1) := hD
    obtain ⟨hr1, hsf⟩ := hw
    have hsf : sf_ T1 fr1 to1 pb1 re1 bY1 ln1 := hsf
    subst hr1
    refine lv_istore_n (lv' := [(2, _), (0, _), (1, _)]) hx hb dX1_redundant_18 rfl hl (by decide) rfl (fun ls hl => ?_)
    refine lv_aload_n hx hb dX1_redundant_19 rfl (lv_at hl 1 rfl) ?_
    refine lv_aload_n hx hb dX1_redundant_20 rfl (lv_at hl 1 rfl) ?_
    refine gf1 hx hb hts hown hK hP rfl 1 (by decide) q29 rfl rfl dX1_redundant_21 ?_
    refine lv_iconst (v := nI 1) hx hb dX1_redundant_24 (by decide) ?_
    refine lv_iload_n hx hb dX1_redundant_25 rfl (lv_at hl 2 rfl) ?_
    refine nr_shl hx hb (by omega) dX1_redundant_26 ?_
    refine nr_andn hx hb dX1_redundant_27 dX1_redundant_28 dX1_redundant_29 ?_
    refine cl_i ⟨hx, hb, hml, hown, hts⟩ hK hP hD hA hS rfl rfl (mX1_rankOf l D d ad _ J P eA eB T1 fr1 to1 pb1 re1 bY1 ln1 (an_ P (2 ^ k)) hok an_self (an_lt (n := 12) hok.2.2.1) hsf) (cwV 1 hts (lw_V q119 q121 qs9 q18 q122) rfl rfl rfl (by decide +kernel) ⟨Nat.le_of_ble_eq_true rfl, Nat.le_of_ble_eq_true rfl⟩) rfl hl.1 rfl (Nat.le_of_ble_eq_true rfl) ⟨Nat.le_refl _, Nat.le_refl _⟩ dX1_redundant_30 (fun r2 u2 H locs hw hP hD hS => ?_)
    obtain ⟨T2, fr2, to2, pb2, re2, bY2, ln2⟩ := u2
    have hP : va_P D vwCl (wF d ad J P eA eB T2 fr2 to2 pb2 re2 bY2 ln2) H := hP
    have hD : va_D A (wF d ad J P eA eB T2 fr2 to2 pb2 re2 bY2 ln2) := hD
    obtain ⟨hr2, hsf⟩ := hw
    have hsf : sf_ T2 fr2 to2 pb2 re2 bY2 ln2 := hsf
    subst hr2
    refine lv_iload_n hx hb dX1_redundant_33 rfl (lv_at hl 0 rfl) ?_
    refine nr_icmp_ne (tgt := 41) hx hb (sz_31 _) (sz_31 _) dX1_redundant_34 (by decide) (fun c34 => ?_) (fun c34 => ?_)
    · refine lv_iconst (v := nI 0) hx hb dX1_redundant_41 (by decide) ?_
      exact ret _ _ _ _ _ (T2, fr2, to2, pb2, re2, bY2, ln2) dX1_redundant_42 rfl ⟨by unfold rd_; rw [c5, nI_clamp (by omega), decide_eq_false c34]; rfl, hsf⟩ hP hD hS
    · refine lv_iconst (v := nI 1) hx hb dX1_redundant_37 (by decide) ?_
      refine lv_goto (tgt := 42) hx hb dX1_redundant_38 (by decide) ?_
      exact ret _ _ _ _ _ (T2, fr2, to2, pb2, re2, bY2, ln2) dX1_redundant_42 rfl ⟨by unfold rd_; rw [c5, nI_clamp (by omega), decide_eq_true c34]; rfl, hsf⟩ hP hD hS
  · refine lv_iconst (v := nI 0) hx hb dX1_redundant_8 (by decide) ?_
    exact ret _ _ _ _ _ (T, fr, to, pb, re, bY, ln) dX1_redundant_9 rfl ⟨by unfold rd_; rw [c5]; rfl, hsf⟩ hP hD hS
end
section
set_option maxHeartbeats 4000000 in
set_option maxRecDepth 100000 in
/-- ring -/
theorem mX1_ring (l : Launch) (D : va_G) (d : ClassId) (ad : Nat → Nat) (sz : Nat) (J P : Nat) (eA eB : Nat → Nat) (T : Nat) (fr to pb : Nat → Nat) (re : Nat) (bY ln : Nat → Nat) (x : Int32) (hok : ok_ J P eA eB) (hsf : sf_ T fr to pb re bY ln) : mt_i l yX1_ring cX1_ring 5 .int (rr_ 6 140) D [(d, .byte)] (wF d ad J P eA eB T fr to pb re bY ln) sz [.ref (ad 0), .int x] (fun (r : Int32) (u : ps_) => r = nI (rg_ J eA eB P x) ∧ sf_ u.1 u.2.1 u.2.2.1 u.2.2.2.1 u.2.2.2.2.1 u.2.2.2.2.2.1 u.2.2.2.2.2.2) (fun u => wU d ad J P eA eB u) := by
  refine en_i (by decide +kernel) (Nat.le_of_ble_eq_true rfl) ?_
  intro p e s m args below meth c A H0 Q hx hb hml hown hts hK hP hD hA hS ret ls hl
  have hown : s.vm.findClass RX1 = some m.cls := hown
  have hl : lv_has ls 5 [(0, .ref (ad 0)), (1, .int x)] := hl
  refine lv_aload_n hx hb dX1_ring_0 rfl (lv_at hl 0 rfl) ?_
  refine cl_i ⟨hx, hb, hml, hown, hts⟩ hK hP hD hA hS rfl rfl (mX1_frame l D d ad _ J P eA eB T fr to pb re bY ln hok hsf) (cwV 0 hts (lw_V q151 q127 q128 q18 q129) rfl rfl rfl (by decide +kernel) ⟨Nat.le_of_ble_eq_true rfl, Nat.le_of_ble_eq_true rfl⟩) rfl hl.1 rfl (Nat.le_of_ble_eq_true rfl) ⟨Nat.le_refl _, Nat.le_refl _⟩ dX1_ring_1 (fun r1 u1 H locs hw hP hD hS => ?_)
  obtain ⟨T1, fr1, to1, pb1, re1, bY1, ln1⟩ := u1
  have hP : va_P D vwCl (wF d ad J P eA eB T1 fr1 to1 pb1 re1 bY1 ln1) H := hP
  have hD : va_D A (wF d ad J P eA eB T1 fr1 to1 pb1 re1 bY1 ln1) := hD
  obtain ⟨hr1, hsf⟩ := hw
  have hsf : sf_ T1 fr1 to1 pb1 re1 bY1 ln1 := hsf
  subst hr1
  refine lv_istore_n (lv' := [(2, _), (0, _), (1, _)]) hx hb dX1_ring_4 rfl hl (by decide) rfl (fun ls hl => ?_)
  obtain ⟨F, hF⟩ : ∃ F, F = tk_ J eA eB P 12 := ⟨_, rfl⟩
  rw [← hF] at hl
  have hF4 : F < 4096 := by rw [hF]; exact tk_lt _ _ _ _ _
  refine lv_aload_n hx hb dX1_ring_5 rfl (lv_at hl 1 rfl) ?_
  refine lv_iload_n hx hb dX1_ring_6 rfl (lv_at hl 2 rfl) ?_
  refine cl_i ⟨hx, hb, hml, hown, hts⟩ hK hP hD hA hS rfl rfl (mX1_has l D d ad _ J P eA eB T1 fr1 to1 pb1 re1 bY1 ln1 x hok.2.2.1) (cwV 1 hts (lw_V q71 q73 qs1 q18 q74) rfl rfl rfl (by decide +kernel) ⟨Nat.le_of_ble_eq_true rfl, Nat.le_of_ble_eq_true rfl⟩) rfl hl.1 rfl (Nat.le_of_ble_eq_true rfl) ⟨Nat.le_refl _, Nat.le_refl _⟩ dX1_ring_7 (fun r1 u1 H locs hw hP hD hS => ?_)
  subst hw
  refine nr_beq (tgt := 21) hx hb dX1_ring_10 (by decide) (fun c10 => ?_) (fun c10 => ?_)
  · refine lv_iconst (v := nI 0) hx hb dX1_ring_21 (by decide) ?_
    exact ret _ _ _ _ _ (T1, fr1, to1, pb1, re1, bY1, ln1) dX1_ring_22 rfl ⟨by unfold rg_; rw [c10]; rfl, hsf⟩ hP hD hS
  · obtain ⟨k, hk, rfl, hbit⟩ := ha_ex c10
    refine lv_iload_n hx hb dX1_ring_13 rfl (lv_at hl 0 rfl) ?_
    refine lv_iload_n hx hb dX1_ring_14 rfl (lv_at hl 2 rfl) ?_
    refine nr_bit hx hb (by omega) (by omega) dX1_ring_15 dX1_ring_16 dX1_ring_17 ?_
    refine nr_beq (tgt := 23) hx hb dX1_ring_18 (by decide) (fun c18 => ?_) (fun c18 => ?_)
    · refine lv_iconst (v := nI 1) hx hb dX1_ring_23 (by decide) ?_
      refine lv_iload_n hx hb dX1_ring_24 rfl (lv_at hl 2 rfl) ?_
      refine nr_shl hx hb (by omega) dX1_ring_25 ?_
      refine lv_istore_n (lv' := [(3, _), (2, _), (0, _), (1, _)]) hx hb dX1_ring_26 rfl hl (by decide) rfl (fun ls hl => ?_)
      refine lv_iconst (v := nI 0) hx hb dX1_ring_27 (by decide) ?_
      refine lv_istore (lv' := [(4, _), (3, _), (2, _), (0, _), (1, _)]) hx hb dX1_ring_28 hl (by decide) rfl (fun ls hl => ?_)
      have loop : ∀ (n : Nat) (f z : Nat) (T : Nat) (fr to pb : Nat → Nat) (re : Nat) (bY ln : Nat → Nat), (12 + 1 ≤ f + n) → (f ≤ 12) → (z = rn_ J eA eB F k f) → (sf_ T fr to pb re bY ln) → ∀ (H : Heap) (locs : List Loc), va_P D vwCl (wF d ad J P eA eB T fr to pb re bY ln) H → va_D A (wF d ad J P eA eB T fr to pb re bY ln) → va_S A H0 H locs → ∀ ls : Array Slot, lv_has ls 5 [(0, .ref (ad 0)), (1, .int (nI k)), (2, .int (nI F)), (3, .int (nI z)), (4, .int (nI f))] → W p l e (rr_ 6 140) s m args below meth c H locs 0 0 Q (F0 m 30 ls []) := by
        intro n
        induction n with
        | zero =>
          intro f z T fr to pb re bY ln hn hf hz hsf
          exfalso
          omega
        | succ n ih_loop =>
          intro f z T fr to pb re bY ln hn hf hz hsf H locs hP hD hS ls hl
          refine lv_iload hx hb dX1_ring_30 (lv_at hl 4 rfl) ?_
          refine lv_bipush (v := nI 12) hx hb dX1_ring_32 (by decide) ?_
          refine nr_icmp_ge (tgt := 78) hx hb (by omega) (by omega) dX1_ring_34 (by decide) (fun c34 => ?_) (fun c34 => ?_)
          · refine lv_iload_n hx hb dX1_ring_78 rfl (lv_at hl 3 rfl) ?_
            exact ret _ _ _ _ _ (T, fr, to, pb, re, bY, ln) dX1_ring_79 rfl ⟨by unfold rg_; rw [c10, nI_clamp (by omega), ← hF, c18, hz, show f = 12 by omega]; rfl, hsf⟩ hP hD hS
          · refine lv_iload_n hx hb dX1_ring_37 rfl (lv_at hl 2 rfl) ?_
            refine lv_iload hx hb dX1_ring_38 (lv_at hl 4 rfl) ?_
            refine nr_bit hx hb (by omega) (by omega) dX1_ring_40 dX1_ring_41 dX1_ring_42 ?_
            refine nr_beq (tgt := 72) hx hb dX1_ring_43 (by decide) (fun c43 => ?_) (fun c43 => ?_)
            · refine lv_iinc (v := nI (f + 1)) (lv' := [(4, _), (0, _), (1, _), (2, _), (3, _)]) hx hb dX1_ring_72 hl (k := 4) rfl (nI_1 _) (by decide) rfl (fun ls hl => ?_)
              refine lv_goto (tgt := 30) hx hb dX1_ring_75 (by decide) ?_
              exact ih_loop (f + 1) z T fr to pb re bY ln (by omega) (by omega) (by rw [hz]; show _ = if _ then _ else _; rw [c43]; rfl) hsf _ _ hP hD hS _ (lv_sub hl [1, 2, 3, 4, 0] rfl)
            · refine lv_aload_n hx hb dX1_ring_46 rfl (lv_at hl 0 rfl) ?_
              refine lv_iload_n hx hb dX1_ring_47 rfl (lv_at hl 2 rfl) ?_
              refine lv_iconst (v := nI 1) hx hb dX1_ring_48 (by decide) ?_
              refine lv_iload hx hb dX1_ring_49 (lv_at hl 4 rfl) ?_
              refine nr_shl hx hb (by omega) dX1_ring_51 ?_
              refine nr_andn hx hb dX1_ring_52 dX1_ring_53 dX1_ring_54 ?_
              refine lv_iconst (v := nI 1) hx hb dX1_ring_55 (by decide) ?_
              refine lv_iload_n hx hb dX1_ring_56 rfl (lv_at hl 1 rfl) ?_
              refine nr_shl hx hb (by omega) dX1_ring_57 ?_
              refine nr_or hx hb dX1_ring_58 ?_
              have hS1 : ∀ i, (an_ F (2 ^ f) ||| 2 ^ k).testBit i = true → P.testBit i = true := by
                intro i h
                rw [tb_or, Bool.or_eq_true, decide_eq_true_eq] at h
                rcases h with h | h
                · have := an_self i h; rw [hF] at this; exact tk_sub _ _ _ _ _ i this
                · rw [← h]; exact hbit
              refine cl_i ⟨hx, hb, hml, hown, hts⟩ hK hP hD hA hS rfl rfl (mX1_isFree l D d ad _ J P eA eB T fr to pb re bY ln (an_ F (2 ^ f) ||| 2 ^ k) hok hS1 (or_lt (n := 12) (an_lt (n := 12) hF4) (p_lt hk)) hsf) (cwV 1 hts (lw_V q87 q89 qs2 q18 q90) rfl rfl rfl (by decide +kernel) ⟨Nat.le_of_ble_eq_true rfl, Nat.le_of_ble_eq_true rfl⟩) rfl hl.1 rfl (Nat.le_of_ble_eq_true rfl) ⟨Nat.le_refl _, Nat.le_refl _⟩ dX1_ring_59 (fun r2 u2 H locs hw hP hD hS => ?_)
              obtain ⟨T2, fr2, to2, pb2, re2, bY2, ln2⟩ := u2
              have hP : va_P D vwCl (wF d ad J P eA eB T2 fr2 to2 pb2 re2 bY2 ln2) H := hP
              have hD : va_D A (wF d ad J P eA eB T2 fr2 to2 pb2 re2 bY2 ln2) := hD
              obtain ⟨hr2, hsf⟩ := hw
              have hsf : sf_ T2 fr2 to2 pb2 re2 bY2 ln2 := hsf
              subst hr2
              refine nr_beq (tgt := 72) hx hb dX1_ring_62 (by decide) (fun c62 => ?_) (fun c62 => ?_)
              · refine lv_iinc (v := nI (f + 1)) (lv' := [(4, _), (0, _), (1, _), (2, _), (3, _)]) hx hb dX1_ring_72 hl (k := 4) rfl (nI_1 _) (by decide) rfl (fun ls hl => ?_)
                refine lv_goto (tgt := 30) hx hb dX1_ring_75 (by decide) ?_
                exact ih_loop (f + 1) z T2 fr2 to2 pb2 re2 bY2 ln2 (by omega) (by omega) (by rw [hz]; show _ = if _ then _ else _; rw [c43, c62]; rfl) hsf _ _ hP hD hS _ (lv_sub hl [1, 2, 3, 4, 0] rfl)
              · refine lv_iload_n hx hb dX1_ring_65 rfl (lv_at hl 3 rfl) ?_
                refine lv_iconst (v := nI 1) hx hb dX1_ring_66 (by decide) ?_
                refine lv_iload hx hb dX1_ring_67 (lv_at hl 4 rfl) ?_
                refine nr_shl hx hb (by omega) dX1_ring_69 ?_
                refine nr_or hx hb dX1_ring_70 ?_
                refine lv_istore_n (lv' := [(3, _), (0, _), (1, _), (2, _), (4, _)]) hx hb dX1_ring_71 rfl hl (by decide) rfl (fun ls hl => ?_)
                refine lv_iinc (v := nI (f + 1)) (lv' := [(4, _), (3, _), (0, _), (1, _), (2, _)]) hx hb dX1_ring_72 hl (k := 4) rfl (nI_1 _) (by decide) rfl (fun ls hl => ?_)
                refine lv_goto (tgt := 30) hx hb dX1_ring_75 (by decide) ?_
                exact ih_loop (f + 1) (z ||| (2 ^ f)) T2 fr2 to2 pb2 re2 bY2 ln2 (by omega) (by omega) (by rw [hz]; show _ = if _ then _ else _; rw [c43, c62]; rfl) hsf _ _ hP hD hS _ (lv_sub hl [2, 3, 4, 1, 0] rfl)
      exact loop 13 0 (2 ^ k) T1 fr1 to1 pb1 re1 bY1 ln1 (by omega) (by omega) rfl hsf _ _ hP hD hS _ (lv_sub hl [3, 4, 2, 1, 0] rfl)
    · refine lv_iconst (v := nI 0) hx hb dX1_ring_21 (by decide) ?_
      exact ret _ _ _ _ _ (T1, fr1, to1, pb1, re1, bY1, ln1) dX1_ring_22 rfl ⟨by unfold rg_; rw [c10, nI_clamp (by omega), ← hF, c18]; rfl, hsf⟩ hP hD hS

set_option maxHeartbeats 4000000 in
set_option maxRecDepth 100000 in
/-- heldTo -/
theorem mX1_heldTo (l : Launch) (D : va_G) (d : ClassId) (ad : Nat → Nat) (sz : Nat) (J P : Nat) (eA eB : Nat → Nat) (T : Nat) (fr to pb : Nat → Nat) (re : Nat) (bY ln : Nat → Nat) (x : Int32) (hok : ok_ J P eA eB) (hsf : sf_ T fr to pb re bY ln) : mt_i l yX1_heldTo cX1_heldTo 4 .int (rr_ 6 141) D [(d, .byte)] (wF d ad J P eA eB T fr to pb re bY ln) sz [.ref (ad 0), .int x] (fun (r : Int32) (u : ps_) => r = nI (hT_ J eA eB P x) ∧ sf_ u.1 u.2.1 u.2.2.1 u.2.2.2.1 u.2.2.2.2.1 u.2.2.2.2.2.1 u.2.2.2.2.2.2) (fun u => wU d ad J P eA eB u) := by
  refine en_i (by decide +kernel) (Nat.le_of_ble_eq_true rfl) ?_
  intro p e s m args below meth c A H0 Q hx hb hml hown hts hK hP hD hA hS ret ls hl
  have hown : s.vm.findClass RX1 = some m.cls := hown
  have hl : lv_has ls 4 [(0, .ref (ad 0)), (1, .int x)] := hl
  refine lv_aload_n hx hb dX1_heldTo_0 rfl (lv_at hl 0 rfl) ?_
  refine lv_iload_n hx hb dX1_heldTo_1 rfl (lv_at hl 1 rfl) ?_
  refine cl_i ⟨hx, hb, hml, hown, hts⟩ hK hP hD hA hS rfl rfl (mX1_isJoint l D d ad _ J P eA eB T fr to pb re bY ln x) (cwV 1 hts (lw_V q67 q69 qs0 q18 q70) rfl rfl rfl (by decide +kernel) ⟨Nat.le_of_ble_eq_true rfl, Nat.le_of_ble_eq_true rfl⟩) rfl hl.1 rfl (Nat.le_of_ble_eq_true rfl) ⟨Nat.le_refl _, Nat.le_refl _⟩ dX1_heldTo_2 (fun r1 u1 H locs hw hP hD hS => ?_)
  subst hw
  refine nr_bne (tgt := 10) hx hb dX1_heldTo_5 (by decide) (fun c5 => ?_) (fun c5 => ?_)
  · have hJ := hok.2.1
    obtain ⟨a, ha, rfl⟩ := (jo_iff (by omega)).mp c5
    refine lv_iconst (v := nI 1) hx hb dX1_heldTo_10 (by decide) ?_
    refine lv_iload_n hx hb dX1_heldTo_11 rfl (lv_at hl 1 rfl) ?_
    refine nr_shl hx hb (by omega) dX1_heldTo_12 ?_
    refine lv_istore_n (lv' := [(2, _), (0, _), (1, _)]) hx hb dX1_heldTo_13 rfl hl (by decide) rfl (fun ls hl => ?_)
    refine lv_iconst (v := nI 0) hx hb dX1_heldTo_14 (by decide) ?_
    refine lv_istore_n (lv' := [(3, _), (2, _), (0, _), (1, _)]) hx hb dX1_heldTo_15 rfl hl (by decide) rfl (fun ls hl => ?_)
    have loop : ∀ (n : Nat) (b z : Nat) (T : Nat) (fr to pb : Nat → Nat) (re : Nat) (bY ln : Nat → Nat), (J + 1 ≤ b + n) → (b ≤ J) → (z = ht_ (hb_ J eA eB (tk_ J eA eB P 12)) a b) → (sf_ T fr to pb re bY ln) → ∀ (H : Heap) (locs : List Loc), va_P D vwCl (wF d ad J P eA eB T fr to pb re bY ln) H → va_D A (wF d ad J P eA eB T fr to pb re bY ln) → va_S A H0 H locs → ∀ ls : Array Slot, lv_has ls 4 [(0, .ref (ad 0)), (1, .int (nI a)), (2, .int (nI z)), (3, .int (nI b))] → W p l e (rr_ 6 141) s m args below meth c H locs 0 0 Q (F0 m 16 ls []) := by
      intro n
      induction n with
      | zero =>
        intro b z T fr to pb re bY ln hn hbJ hz hsf
        exfalso
        omega
      | succ n ih_loop =>
        intro b z T fr to pb re bY ln hn hbJ hz hsf H locs hP hD hS ls hl
        refine lv_iload_n hx hb dX1_heldTo_16 rfl (lv_at hl 3 rfl) ?_
        refine lv_aload_n hx hb dX1_heldTo_17 rfl (lv_at hl 0 rfl) ?_
        refine gf1 hx hb hts hown hK hP rfl 0 (by decide) q28 rfl rfl dX1_heldTo_18 ?_
        refine nr_icmp_ge (tgt := 49) hx hb (by omega) (by omega) dX1_heldTo_21 (by decide) (fun c21 => ?_) (fun c21 => ?_)
        · refine lv_iload_n hx hb dX1_heldTo_49 rfl (lv_at hl 2 rfl) ?_
          exact ret _ _ _ _ _ (T, fr, to, pb, re, bY, ln) dX1_heldTo_50 rfl ⟨by unfold hT_; rw [if_pos c5, nI_clamp (by omega), hz, show b = J by omega], hsf⟩ hP hD hS
        · refine lv_iload_n hx hb dX1_heldTo_24 rfl (lv_at hl 2 rfl) ?_
          refine lv_aload_n hx hb dX1_heldTo_25 rfl (lv_at hl 0 rfl) ?_
          refine lv_iload_n hx hb dX1_heldTo_26 rfl (lv_at hl 1 rfl) ?_
          refine lv_iload_n hx hb dX1_heldTo_27 rfl (lv_at hl 3 rfl) ?_
          refine cl_i ⟨hx, hb, hml, hown, hts⟩ hK hP hD hA hS rfl rfl (mX1_held l D d ad _ J P eA eB T fr to pb re bY ln (nI a) (nI b) hok hsf) (cwV 2 hts (lw_V q156 q140 q141 q18 q142) rfl rfl rfl (by decide +kernel) ⟨Nat.le_of_ble_eq_true rfl, Nat.le_of_ble_eq_true rfl⟩) rfl hl.1 rfl (Nat.le_of_ble_eq_true rfl) ⟨Nat.le_refl _, Nat.le_refl _⟩ dX1_heldTo_28 (fun r1 u1 H locs hw hP hD hS => ?_)
          obtain ⟨T1, fr1, to1, pb1, re1, bY1, ln1⟩ := u1
          have hP : va_P D vwCl (wF d ad J P eA eB T1 fr1 to1 pb1 re1 bY1 ln1) H := hP
          have hD : va_D A (wF d ad J P eA eB T1 fr1 to1 pb1 re1 bY1 ln1) := hD
          obtain ⟨hr1, hsf⟩ := hw
          have hsf : sf_ T1 fr1 to1 pb1 re1 bY1 ln1 := hsf
          rw [he_nI (by omega) ha c21] at hr1
          subst hr1
          refine nr_beq (tgt := 40) hx hb dX1_heldTo_31 (by decide) (fun c31 => ?_) (fun c31 => ?_)
          · refine lv_iconst (v := nI 0) hx hb dX1_heldTo_40 (by decide) ?_
            refine nr_or hx hb dX1_heldTo_41 ?_
            refine lv_istore_n (lv' := [(2, _), (0, _), (1, _), (3, _)]) hx hb dX1_heldTo_42 rfl hl (by decide) rfl (fun ls hl => ?_)
            refine lv_iinc (v := nI (b + 1)) (lv' := [(3, _), (2, _), (0, _), (1, _)]) hx hb dX1_heldTo_43 hl (k := 3) rfl (nI_1 _) (by decide) rfl (fun ls hl => ?_)
            refine lv_goto (tgt := 16) hx hb dX1_heldTo_46 (by decide) ?_
            exact ih_loop (b + 1) (z ||| 0) T1 fr1 to1 pb1 re1 bY1 ln1 (by omega) (by omega) (by rw [hz]; show _ = _ ||| (if _ then _ else _); rw [c31]; rfl) hsf _ _ hP hD hS _ (lv_sub hl [2, 3, 1, 0] rfl)
          · refine lv_iconst (v := nI 1) hx hb dX1_heldTo_34 (by decide) ?_
            refine lv_iload_n hx hb dX1_heldTo_35 rfl (lv_at hl 3 rfl) ?_
            refine nr_shl hx hb (by omega) dX1_heldTo_36 ?_
            refine lv_goto (tgt := 41) hx hb dX1_heldTo_37 (by decide) ?_
            refine nr_or hx hb dX1_heldTo_41 ?_
            refine lv_istore_n (lv' := [(2, _), (0, _), (1, _), (3, _)]) hx hb dX1_heldTo_42 rfl hl (by decide) rfl (fun ls hl => ?_)
            refine lv_iinc (v := nI (b + 1)) (lv' := [(3, _), (2, _), (0, _), (1, _)]) hx hb dX1_heldTo_43 hl (k := 3) rfl (nI_1 _) (by decide) rfl (fun ls hl => ?_)
            refine lv_goto (tgt := 16) hx hb dX1_heldTo_46 (by decide) ?_
            exact ih_loop (b + 1) (z ||| (2 ^ b)) T1 fr1 to1 pb1 re1 bY1 ln1 (by omega) (by omega) (by rw [hz]; show _ = _ ||| (if _ then _ else _); rw [c31]; rfl) hsf _ _ hP hD hS _ (lv_sub hl [2, 3, 1, 0] rfl)
    exact loop (J + 1) 0 (2 ^ a) T fr to pb re bY ln (by omega) (by omega) rfl hsf _ _ hP hD hS _ (lv_sub hl [2, 3, 1, 0] rfl)
  · refine lv_iconst (v := nI 0) hx hb dX1_heldTo_8 (by decide) ?_
    exact ret _ _ _ _ _ (T, fr, to, pb, re, bY, ln) dX1_heldTo_9 rfl ⟨by unfold hT_; rw [c5]; rfl, hsf⟩ hP hD hS

set_option maxHeartbeats 4000000 in
set_option maxRecDepth 100000 in
/-- leads -/
theorem mX1_leads (l : Launch) (D : va_G) (d : ClassId) (sz : Nat) (C a b : Nat) (hC : C < 64) (ha : a < 6) (hb6 : b < 6) : mt_i l yX1_leads cX1_leads 4 .boolean (rr_ 0 0) D [(d, .byte)] ([]) sz [.int (nI C), .int (nI a), .int (nI b)] (fun (r : Int32) (_ : Unit) => r = nI (ld_ C a b).toNat) (fun _ => []) := by
  refine en_i (by decide +kernel) (Nat.le_of_ble_eq_true rfl) ?_
  intro p e s m args below meth c A H0 Q hx hb hml hown hts hK hP hD hA hS ret ls hl
  have hown : s.vm.findClass RX1 = some m.cls := hown
  have hl : lv_has ls 4 [(0, .int (nI C)), (1, .int (nI a)), (2, .int (nI b))] := hl
  refine lv_iload_n hx hb dX1_leads_0 rfl (lv_at hl 0 rfl) ?_
  refine lv_iconst (v := nI 1) hx hb dX1_leads_1 (by decide) ?_
  refine lv_iload_n hx hb dX1_leads_2 rfl (lv_at hl 2 rfl) ?_
  refine nr_shl hx hb (by omega) dX1_leads_3 ?_
  refine lv_iconst (v := nI 1) hx hb dX1_leads_4 (by decide) ?_
  refine nr_sub hx hb (Nat.one_le_two_pow) dX1_leads_5 ?_
  refine nr_and hx hb dX1_leads_6 ?_
  refine lv_istore_n (lv' := [(3, _), (0, _), (1, _), (2, _)]) hx hb dX1_leads_7 rfl hl (by decide) rfl (fun ls hl => ?_)
  refine lv_iload_n hx hb dX1_leads_8 rfl (lv_at hl 0 rfl) ?_
  refine lv_iconst (v := nI 1) hx hb dX1_leads_9 (by decide) ?_
  refine lv_iload_n hx hb dX1_leads_10 rfl (lv_at hl 2 rfl) ?_
  refine nr_shl hx hb (by omega) dX1_leads_11 ?_
  refine nr_icmp_ne (tgt := 33) hx hb (Nat.lt_of_le_of_lt Nat.and_le_left (by omega)) (Nat.lt_trans (p_lt (n := 6) ha) (by decide)) dX1_leads_12 (by decide) (fun c12 => ?_) (fun c12 => ?_)
  · refine lv_iconst (v := nI 0) hx hb dX1_leads_33 (by decide) ?_
    exact ret _ _ _ _ _ () dX1_leads_34 rfl (by unfold ld_; rw [decide_eq_false c12]; rfl) hP hD hS
  · refine lv_iload_n hx hb dX1_leads_15 rfl (lv_at hl 1 rfl) ?_
    refine lv_iload_n hx hb dX1_leads_16 rfl (lv_at hl 0 rfl) ?_
    refine nr_andn hx hb dX1_leads_17 dX1_leads_18 dX1_leads_19 ?_
    refine lv_iconst (v := nI 1) hx hb dX1_leads_20 (by decide) ?_
    refine lv_iload_n hx hb dX1_leads_21 rfl (lv_at hl 3 rfl) ?_
    refine nr_shl hx hb (by omega) dX1_leads_22 ?_
    refine nr_andn hx hb dX1_leads_23 dX1_leads_24 dX1_leads_25 ?_
    refine nr_neq (tgt := 33) hx hb (Nat.lt_trans (an_lt (n := 6) (an_lt (n := 6) hC)) (by decide)) dX1_leads_26 (by decide) (fun c26 => ?_) (fun c26 => ?_)
    · refine lv_iconst (v := nI 0) hx hb dX1_leads_33 (by decide) ?_
      exact ret _ _ _ _ _ () dX1_leads_34 rfl (by unfold ld_; rw [c26]; simp) hP hD hS
    · refine lv_iconst (v := nI 1) hx hb dX1_leads_29 (by decide) ?_
      refine lv_goto (tgt := 34) hx hb dX1_leads_30 (by decide) ?_
      exact ret _ _ _ _ _ () dX1_leads_34 rfl (by unfold ld_; rw [decide_eq_true c12, decide_eq_true c26]; rfl) hP hD hS

set_option maxHeartbeats 4000000 in
set_option maxRecDepth 100000 in
/-- bodies -/
theorem mX1_bodies (l : Launch) (D : va_G) (d : ClassId) (ad : Nat → Nat) (sz : Nat) (J P : Nat) (eA eB : Nat → Nat) (T : Nat) (fr to pb : Nat → Nat) (re : Nat) (bY ln : Nat → Nat)  (hok : ok_ J P eA eB) (hsf : sf_ T fr to pb re bY ln) : mt_i l yX1_bodies cX1_bodies 6 .int (rr_ 7 164) D [(d, .byte)] (wF d ad J P eA eB T fr to pb re bY ln) sz [.ref (ad 0)] (fun (r : Int32) (u : ps_) => r = nI (bN_ J eA eB P) ∧ sf_ u.1 u.2.1 u.2.2.1 u.2.2.2.1 u.2.2.2.2.1 u.2.2.2.2.2.1 u.2.2.2.2.2.2) (fun u => wU d ad J P eA eB u) := by
  refine en_i (by decide +kernel) (Nat.le_of_ble_eq_true rfl) ?_
  intro p e s m args below meth c A H0 Q hx hb hml hown hts hK hP hD hA hS ret ls hl
  have hown : s.vm.findClass RX1 = some m.cls := hown
  have hl : lv_has ls 6 [(0, .ref (ad 0))] := hl
  refine lv_iconst (v := nI 0) hx hb dX1_bodies_0 (by decide) ?_
  refine lv_istore_n (lv' := [(1, _), (0, _)]) hx hb dX1_bodies_1 rfl hl (by decide) rfl (fun ls hl => ?_)
  refine lv_iconst (v := nI 0) hx hb dX1_bodies_2 (by decide) ?_
  refine lv_istore_n (lv' := [(2, _), (1, _), (0, _)]) hx hb dX1_bodies_3 rfl hl (by decide) rfl (fun ls hl => ?_)
  have hJ := hok.2.1
  have hht : ∀ a, a < J → hT_ J eA eB P (nI a) = ht_ (hb_ J eA eB (tk_ J eA eB P 12)) a J := fun a ha => by unfold hT_; rw [if_pos (jo_nI (by omega) ha), nI_clamp (by omega)]
  generalize hh : hb_ J eA eB (tk_ J eA eB P 12) = h at hht
  have loop : ∀ (n : Nat) (a z : Nat) (T : Nat) (fr to pb : Nat → Nat) (re : Nat) (bY ln : Nat → Nat), (J + 1 ≤ a + n) → (a ≤ J) → (z = sm_ a (fun a => cn_ J (fun b => bq_ h J a b))) → (sf_ T fr to pb re bY ln) → ∀ (H : Heap) (locs : List Loc), va_P D vwCl (wF d ad J P eA eB T fr to pb re bY ln) H → va_D A (wF d ad J P eA eB T fr to pb re bY ln) → va_S A H0 H locs → ∀ ls : Array Slot, lv_has ls 6 [(0, .ref (ad 0)), (1, .int (nI z)), (2, .int (nI a))] → W p l e (rr_ 7 164) s m args below meth c H locs 0 0 Q (F0 m 4 ls []) := by
    intro n
    induction n with
    | zero =>
      intro a z T fr to pb re bY ln hn haJ hz hsf
      exfalso
      omega
    | succ n ih_loop =>
      intro a z T fr to pb re bY ln hn haJ hz hsf H locs hP hD hS ls hl
      refine lv_iload_n hx hb dX1_bodies_4 rfl (lv_at hl 2 rfl) ?_
      refine lv_aload_n hx hb dX1_bodies_5 rfl (lv_at hl 0 rfl) ?_
      refine gf1 hx hb hts hown hK hP rfl 0 (by decide) q28 rfl rfl dX1_bodies_6 ?_
      refine nr_icmp_ge (tgt := 86) hx hb (by omega) (by omega) dX1_bodies_9 (by decide) (fun c9 => ?_) (fun c9 => ?_)
      · refine lv_iload_n hx hb dX1_bodies_86 rfl (lv_at hl 1 rfl) ?_
        exact ret _ _ _ _ _ (T, fr, to, pb, re, bY, ln) dX1_bodies_87 rfl ⟨by unfold bN_; rw [hz, show a = J by omega, hh]; rfl, hsf⟩ hP hD hS
      · refine lv_aload_n hx hb dX1_bodies_12 rfl (lv_at hl 0 rfl) ?_
        refine lv_iload_n hx hb dX1_bodies_13 rfl (lv_at hl 2 rfl) ?_
        refine cl_i ⟨hx, hb, hml, hown, hts⟩ hK hP hD hA hS rfl rfl (mX1_heldTo l D d ad _ J P eA eB T fr to pb re bY ln (nI a) hok hsf) (cwV 1 hts (lw_V q161 q153 q154 q18 q155) rfl rfl rfl (by decide +kernel) ⟨Nat.le_of_ble_eq_true rfl, Nat.le_of_ble_eq_true rfl⟩) rfl hl.1 rfl (Nat.le_of_ble_eq_true rfl) ⟨Nat.le_refl _, Nat.le_refl _⟩ dX1_bodies_14 (fun r1 u1 H locs hw hP hD hS => ?_)
        obtain ⟨T1, fr1, to1, pb1, re1, bY1, ln1⟩ := u1
        have hP : va_P D vwCl (wF d ad J P eA eB T1 fr1 to1 pb1 re1 bY1 ln1) H := hP
        have hD : va_D A (wF d ad J P eA eB T1 fr1 to1 pb1 re1 bY1 ln1) := hD
        obtain ⟨hr1, hsf⟩ := hw
        have hsf : sf_ T1 fr1 to1 pb1 re1 bY1 ln1 := hsf
        rw [hht a c9] at hr1
        subst hr1
        refine lv_istore_n (lv' := [(3, _), (0, _), (1, _), (2, _)]) hx hb dX1_bodies_17 rfl hl (by decide) rfl (fun ls hl => ?_)
        refine lv_iload_n hx hb dX1_bodies_18 rfl (lv_at hl 3 rfl) ?_
        refine lv_iconst (v := nI 1) hx hb dX1_bodies_19 (by decide) ?_
        refine nr_add hx hb dX1_bodies_20 ?_
        refine lv_istore (lv' := [(4, _), (3, _), (0, _), (1, _), (2, _)]) hx hb dX1_bodies_21 hl (by decide) rfl (fun ls hl => ?_)
        have inner : ∀ (n : Nat) (b z : Nat) (T : Nat) (fr to pb : Nat → Nat) (re : Nat) (bY ln : Nat → Nat), (J + 1 ≤ b + n) → (a + 1 ≤ b) → (b ≤ J) → (z = sm_ a (fun a => cn_ J (fun b => bq_ h J a b)) + cn_ b (fun b => bq_ h J a b)) → (sf_ T fr to pb re bY ln) → ∀ (H : Heap) (locs : List Loc), va_P D vwCl (wF d ad J P eA eB T fr to pb re bY ln) H → va_D A (wF d ad J P eA eB T fr to pb re bY ln) → va_S A H0 H locs → ∀ ls : Array Slot, lv_has ls 6 [(0, .ref (ad 0)), (1, .int (nI z)), (2, .int (nI a)), (3, .int (nI (ht_ h a J))), (4, .int (nI b))] → W p l e (rr_ 7 164) s m args below meth c H locs 0 0 Q (F0 m 23 ls []) := by
          intro n
          induction n with
          | zero =>
            intro b z T fr to pb re bY ln hn2 hab hbJ hz2 hsf
            exfalso
            omega
          | succ n ih_inner =>
            intro b z T fr to pb re bY ln hn2 hab hbJ hz2 hsf H locs hP hD hS ls hl
            refine lv_iload hx hb dX1_bodies_23 (lv_at hl 4 rfl) ?_
            refine lv_aload_n hx hb dX1_bodies_25 rfl (lv_at hl 0 rfl) ?_
            refine gf1 hx hb hts hown hK hP rfl 0 (by decide) q28 rfl rfl dX1_bodies_26 ?_
            refine nr_icmp_ge (tgt := 80) hx hb (by omega) (by omega) dX1_bodies_29 (by decide) (fun c29 => ?_) (fun c29 => ?_)
            · refine lv_iinc (v := nI (a + 1)) (lv' := [(2, _), (0, _), (1, _), (3, _), (4, _)]) hx hb dX1_bodies_80 hl (k := 2) rfl (nI_1 _) (by decide) rfl (fun ls hl => ?_)
              refine lv_goto (tgt := 4) hx hb dX1_bodies_83 (by decide) ?_
              exact ih_loop (a + 1) z T fr to pb re bY ln (by omega) (by omega) (by rw [hz2, show b = J by omega]; rfl) hsf _ _ hP hD hS _ (lv_sub hl [1, 2, 0] rfl)
            · refine lv_iload_n hx hb dX1_bodies_32 rfl (lv_at hl 3 rfl) ?_
              refine lv_iload hx hb dX1_bodies_33 (lv_at hl 4 rfl) ?_
              refine nr_bit hx hb (Nat.lt_trans (ht_lt (by omega) hJ) (by decide)) (by omega) dX1_bodies_35 dX1_bodies_36 dX1_bodies_37 ?_
              refine nr_beq (tgt := 52) hx hb dX1_bodies_38 (by decide) (fun c38 => ?_) (fun c38 => ?_)
              · refine lv_iconst (v := nI 0) hx hb dX1_bodies_52 (by decide) ?_
                have hbo : 0 = bo_ h J a b := by unfold bo_; rw [c38]; rfl
                refine nr_top (congrArg nI hbo) ?_
                refine lv_istore (lv' := [(5, _), (0, _), (1, _), (2, _), (3, _), (4, _)]) hx hb dX1_bodies_53 hl (by decide) rfl (fun ls hl => ?_)
                refine lv_iload_n hx hb dX1_bodies_55 rfl (lv_at hl 2 rfl) ?_
                refine lv_iload hx hb dX1_bodies_56 (lv_at hl 0 rfl) ?_
                refine lv_iload_n hx hb dX1_bodies_58 rfl (lv_at hl 3 rfl) ?_
                refine lv_iload hx hb dX1_bodies_59 (lv_at hl 5 rfl) ?_
                refine cl_s ⟨hx, hb, hml, hown, hts⟩ hK hP hD hA hS (mX1_leads l D d _ (bo_ h J a b) a b (bo_lt hJ c9) (by omega) (by omega)) (va_cwS 3 hts (lw_S q162 q163 q18 q164) rfl rfl rfl (by decide +kernel) ⟨Nat.le_of_ble_eq_true rfl, Nat.le_of_ble_eq_true rfl⟩) rfl hl.1 rfl (Nat.le_of_ble_eq_true rfl) ⟨Nat.le_refl _, Nat.le_refl _⟩ dX1_bodies_61 (fun r7 u7 H locs hw hP hD hS => ?_)
                subst hw
                refine nr_beq (tgt := 71) hx hb dX1_bodies_64 (by decide) (fun c64 => ?_) (fun c64 => ?_)
                · refine lv_iconst (v := nI 0) hx hb dX1_bodies_71 (by decide) ?_
                  have hbq : bq_ h J a b = false := by unfold bq_; rw [c64, decide_eq_true (show a < b by omega)]; rfl
                  refine nr_add hx hb dX1_bodies_72 ?_
                  refine lv_istore_n (lv' := [(1, _), (5, _), (0, _), (2, _), (3, _), (4, _)]) hx hb dX1_bodies_73 rfl hl (by decide) rfl (fun ls hl => ?_)
                  refine lv_iinc (v := nI (b + 1)) (lv' := [(4, _), (1, _), (5, _), (0, _), (2, _), (3, _)]) hx hb dX1_bodies_74 hl (k := 5) rfl (nI_1 _) (by decide) rfl (fun ls hl => ?_)
                  refine lv_goto (tgt := 23) hx hb dX1_bodies_77 (by decide) ?_
                  exact ih_inner (b + 1) (z + 0) T fr to pb re bY ln (by omega) (by omega) (by omega) (by rw [hz2, cn_s, show bq_ h J a b = _ from hbq]; rfl) hsf _ _ hP hD hS _ (lv_sub hl [3, 1, 4, 5, 0] rfl)
                · refine lv_iconst (v := nI 1) hx hb dX1_bodies_67 (by decide) ?_
                  refine lv_goto (tgt := 72) hx hb dX1_bodies_68 (by decide) ?_
                  have hbq : bq_ h J a b = true := by unfold bq_; rw [c64, decide_eq_true (show a < b by omega)]; rfl
                  refine nr_add hx hb dX1_bodies_72 ?_
                  refine lv_istore_n (lv' := [(1, _), (5, _), (0, _), (2, _), (3, _), (4, _)]) hx hb dX1_bodies_73 rfl hl (by decide) rfl (fun ls hl => ?_)
                  refine lv_iinc (v := nI (b + 1)) (lv' := [(4, _), (1, _), (5, _), (0, _), (2, _), (3, _)]) hx hb dX1_bodies_74 hl (k := 5) rfl (nI_1 _) (by decide) rfl (fun ls hl => ?_)
                  refine lv_goto (tgt := 23) hx hb dX1_bodies_77 (by decide) ?_
                  exact ih_inner (b + 1) (z + 1) T fr to pb re bY ln (by omega) (by omega) (by omega) (by rw [hz2, cn_s, show bq_ h J a b = _ from hbq]; rfl) hsf _ _ hP hD hS _ (lv_sub hl [3, 1, 4, 5, 0] rfl)
              · refine lv_iload_n hx hb dX1_bodies_41 rfl (lv_at hl 3 rfl) ?_
                refine lv_aload_n hx hb dX1_bodies_42 rfl (lv_at hl 0 rfl) ?_
                refine lv_iload hx hb dX1_bodies_43 (lv_at hl 4 rfl) ?_
                refine cl_i ⟨hx, hb, hml, hown, hts⟩ hK hP hD hA hS rfl rfl (mX1_heldTo l D d ad _ J P eA eB T fr to pb re bY ln (nI b) hok hsf) (cwV 1 hts (lw_V q161 q153 q154 q18 q155) rfl rfl rfl (by decide +kernel) ⟨Nat.le_of_ble_eq_true rfl, Nat.le_of_ble_eq_true rfl⟩) rfl hl.1 rfl (Nat.le_of_ble_eq_true rfl) ⟨Nat.le_refl _, Nat.le_refl _⟩ dX1_bodies_45 (fun r2 u2 H locs hw hP hD hS => ?_)
                obtain ⟨T2, fr2, to2, pb2, re2, bY2, ln2⟩ := u2
                have hP : va_P D vwCl (wF d ad J P eA eB T2 fr2 to2 pb2 re2 bY2 ln2) H := hP
                have hD : va_D A (wF d ad J P eA eB T2 fr2 to2 pb2 re2 bY2 ln2) := hD
                obtain ⟨hr2, hsf⟩ := hw
                have hsf : sf_ T2 fr2 to2 pb2 re2 bY2 ln2 := hsf
                rw [hht b c29] at hr2
                subst hr2
                refine nr_and hx hb dX1_bodies_48 ?_
                refine lv_goto (tgt := 53) hx hb dX1_bodies_49 (by decide) ?_
                have hbo : (ht_ h a J) &&& (ht_ h b J) = bo_ h J a b := by unfold bo_; rw [c38]; rfl
                refine nr_top (congrArg nI hbo) ?_
                refine lv_istore (lv' := [(5, _), (0, _), (1, _), (2, _), (3, _), (4, _)]) hx hb dX1_bodies_53 hl (by decide) rfl (fun ls hl => ?_)
                refine lv_iload_n hx hb dX1_bodies_55 rfl (lv_at hl 2 rfl) ?_
                refine lv_iload hx hb dX1_bodies_56 (lv_at hl 0 rfl) ?_
                refine lv_iload_n hx hb dX1_bodies_58 rfl (lv_at hl 3 rfl) ?_
                refine lv_iload hx hb dX1_bodies_59 (lv_at hl 5 rfl) ?_
                refine cl_s ⟨hx, hb, hml, hown, hts⟩ hK hP hD hA hS (mX1_leads l D d _ (bo_ h J a b) a b (bo_lt hJ c9) (by omega) (by omega)) (va_cwS 3 hts (lw_S q162 q163 q18 q164) rfl rfl rfl (by decide +kernel) ⟨Nat.le_of_ble_eq_true rfl, Nat.le_of_ble_eq_true rfl⟩) rfl hl.1 rfl (Nat.le_of_ble_eq_true rfl) ⟨Nat.le_refl _, Nat.le_refl _⟩ dX1_bodies_61 (fun r7 u7 H locs hw hP hD hS => ?_)
                subst hw
                refine nr_beq (tgt := 71) hx hb dX1_bodies_64 (by decide) (fun c64 => ?_) (fun c64 => ?_)
                · refine lv_iconst (v := nI 0) hx hb dX1_bodies_71 (by decide) ?_
                  have hbq : bq_ h J a b = false := by unfold bq_; rw [c64, decide_eq_true (show a < b by omega)]; rfl
                  refine nr_add hx hb dX1_bodies_72 ?_
                  refine lv_istore_n (lv' := [(1, _), (5, _), (0, _), (2, _), (3, _), (4, _)]) hx hb dX1_bodies_73 rfl hl (by decide) rfl (fun ls hl => ?_)
                  refine lv_iinc (v := nI (b + 1)) (lv' := [(4, _), (1, _), (5, _), (0, _), (2, _), (3, _)]) hx hb dX1_bodies_74 hl (k := 5) rfl (nI_1 _) (by decide) rfl (fun ls hl => ?_)
                  refine lv_goto (tgt := 23) hx hb dX1_bodies_77 (by decide) ?_
                  exact ih_inner (b + 1) (z + 0) T2 fr2 to2 pb2 re2 bY2 ln2 (by omega) (by omega) (by omega) (by rw [hz2, cn_s, show bq_ h J a b = _ from hbq]; rfl) hsf _ _ hP hD hS _ (lv_sub hl [3, 1, 4, 5, 0] rfl)
                · refine lv_iconst (v := nI 1) hx hb dX1_bodies_67 (by decide) ?_
                  refine lv_goto (tgt := 72) hx hb dX1_bodies_68 (by decide) ?_
                  have hbq : bq_ h J a b = true := by unfold bq_; rw [c64, decide_eq_true (show a < b by omega)]; rfl
                  refine nr_add hx hb dX1_bodies_72 ?_
                  refine lv_istore_n (lv' := [(1, _), (5, _), (0, _), (2, _), (3, _), (4, _)]) hx hb dX1_bodies_73 rfl hl (by decide) rfl (fun ls hl => ?_)
                  refine lv_iinc (v := nI (b + 1)) (lv' := [(4, _), (1, _), (5, _), (0, _), (2, _), (3, _)]) hx hb dX1_bodies_74 hl (k := 5) rfl (nI_1 _) (by decide) rfl (fun ls hl => ?_)
                  refine lv_goto (tgt := 23) hx hb dX1_bodies_77 (by decide) ?_
                  exact ih_inner (b + 1) (z + 1) T2 fr2 to2 pb2 re2 bY2 ln2 (by omega) (by omega) (by omega) (by rw [hz2, cn_s, show bq_ h J a b = _ from hbq]; rfl) hsf _ _ hP hD hS _ (lv_sub hl [3, 1, 4, 5, 0] rfl)
        exact inner (J + 1) (a + 1) z T1 fr1 to1 pb1 re1 bY1 ln1 (by omega) (by omega) (by omega) (by rw [bq_low]; exact hz) hsf _ _ hP hD hS _ (lv_sub hl [2, 3, 4, 1, 0] rfl)
  exact loop (J + 1) 0 0 T fr to pb re bY ln (by omega) (by omega) rfl hsf _ _ hP hD hS _ (lv_sub hl [2, 1, 0] rfl)

set_option maxHeartbeats 4000000 in
set_option maxRecDepth 100000 in
/-- doublyHeld -/
theorem mX1_doublyHeld (l : Launch) (D : va_G) (d : ClassId) (ad : Nat → Nat) (sz : Nat) (J P : Nat) (eA eB : Nat → Nat) (T : Nat) (fr to pb : Nat → Nat) (re : Nat) (bY ln : Nat → Nat)  (hok : ok_ J P eA eB) (hsf : sf_ T fr to pb re bY ln) : mt_i l yX1_doublyHeld cX1_doublyHeld 2 .boolean (rr_ 8 181) D [(d, .byte)] (wF d ad J P eA eB T fr to pb re bY ln) sz [.ref (ad 0)] (fun (r : Int32) (u : ps_) => r = nI (dh_ J eA eB P).toNat ∧ sf_ u.1 u.2.1 u.2.2.1 u.2.2.2.1 u.2.2.2.2.1 u.2.2.2.2.2.1 u.2.2.2.2.2.2) (fun u => wU d ad J P eA eB u) := by
  refine en_i (by decide +kernel) (Nat.le_of_ble_eq_true rfl) ?_
  intro p e s m args below meth c A H0 Q hx hb hml hown hts hK hP hD hA hS ret ls hl
  have hown : s.vm.findClass RX1 = some m.cls := hown
  have hl : lv_has ls 2 [(0, .ref (ad 0))] := hl
  refine lv_aload_n hx hb dX1_doublyHeld_0 rfl (lv_at hl 0 rfl) ?_
  refine cl_i ⟨hx, hb, hml, hown, hts⟩ hK hP hD hA hS rfl rfl (mX1_rigid l D d ad _ J P eA eB T fr to pb re bY ln hok hsf) (cwV 0 hts (lw_V q169 q131 q132 q18 q133) rfl rfl rfl (by decide +kernel) ⟨Nat.le_of_ble_eq_true rfl, Nat.le_of_ble_eq_true rfl⟩) rfl hl.1 rfl (Nat.le_of_ble_eq_true rfl) ⟨Nat.le_refl _, Nat.le_refl _⟩ dX1_doublyHeld_1 (fun r1 u1 H locs hw hP hD hS => ?_)
  obtain ⟨T1, fr1, to1, pb1, re1, bY1, ln1⟩ := u1
  have hP : va_P D vwCl (wF d ad J P eA eB T1 fr1 to1 pb1 re1 bY1 ln1) H := hP
  have hD : va_D A (wF d ad J P eA eB T1 fr1 to1 pb1 re1 bY1 ln1) := hD
  obtain ⟨hr1, hsf⟩ := hw
  have hsf : sf_ T1 fr1 to1 pb1 re1 bY1 ln1 := hsf
  subst hr1
  refine nr_bne (tgt := 9) hx hb dX1_doublyHeld_4 (by decide) (fun c4 => ?_) (fun c4 => ?_)
  · refine lv_iconst (v := nI 0) hx hb dX1_doublyHeld_9 (by decide) ?_
    refine lv_istore_n (lv' := [(1, _), (0, _)]) hx hb dX1_doublyHeld_10 rfl hl (by decide) rfl (fun ls hl => ?_)
    have loop : ∀ (n : Nat) (k : Nat) (T : Nat) (fr to pb : Nat → Nat) (re : Nat) (bY ln : Nat → Nat), (12 + 1 ≤ k + n) → (k ≤ 12) → (al_ k (fun k => !(P.testBit k) || rd_ J eA eB P (nI k)) = true) → (sf_ T fr to pb re bY ln) → ∀ (H : Heap) (locs : List Loc), va_P D vwCl (wF d ad J P eA eB T fr to pb re bY ln) H → va_D A (wF d ad J P eA eB T fr to pb re bY ln) → va_S A H0 H locs → ∀ ls : Array Slot, lv_has ls 2 [(0, .ref (ad 0)), (1, .int (nI k))] → W p l e (rr_ 8 181) s m args below meth c H locs 0 0 Q (F0 m 11 ls []) := by
      intro n
      induction n with
      | zero =>
        intro k T fr to pb re bY ln hn hk hal hsf
        exfalso
        omega
      | succ n ih_loop =>
        intro k T fr to pb re bY ln hn hk hal hsf H locs hP hD hS ls hl
        refine lv_iload_n hx hb dX1_doublyHeld_11 rfl (lv_at hl 1 rfl) ?_
        refine lv_bipush (v := nI 12) hx hb dX1_doublyHeld_12 (by decide) ?_
        refine nr_icmp_ge (tgt := 41) hx hb (by omega) (by omega) dX1_doublyHeld_14 (by decide) (fun c14 => ?_) (fun c14 => ?_)
        · have h12 : k = 12 := by omega
          rw [h12] at hal
          refine lv_iconst (v := nI 1) hx hb dX1_doublyHeld_41 (by decide) ?_
          exact ret _ _ _ _ _ (T, fr, to, pb, re, bY, ln) dX1_doublyHeld_42 rfl ⟨by unfold dh_; rw [c4, hal]; rfl, hsf⟩ hP hD hS
        · refine lv_aload_n hx hb dX1_doublyHeld_17 rfl (lv_at hl 0 rfl) ?_
          refine lv_iload_n hx hb dX1_doublyHeld_18 rfl (lv_at hl 1 rfl) ?_
          refine cl_i ⟨hx, hb, hml, hown, hts⟩ hK hP hD hA hS rfl rfl (mX1_has l D d ad _ J P eA eB T fr to pb re bY ln (nI k) hok.2.2.1) (cwV 1 hts (lw_V q71 q73 qs1 q18 q74) rfl rfl rfl (by decide +kernel) ⟨Nat.le_of_ble_eq_true rfl, Nat.le_of_ble_eq_true rfl⟩) rfl hl.1 rfl (Nat.le_of_ble_eq_true rfl) ⟨Nat.le_refl _, Nat.le_refl _⟩ dX1_doublyHeld_19 (fun r1 u1 H locs hw hP hD hS => ?_)
          rw [ha_nI c14] at hw
          subst hw
          refine nr_beq (tgt := 35) hx hb dX1_doublyHeld_22 (by decide) (fun c22 => ?_) (fun c22 => ?_)
          · refine lv_iinc (v := nI (k + 1)) (lv' := [(1, _), (0, _)]) hx hb dX1_doublyHeld_35 hl (k := 1) rfl (nI_1 _) (by decide) rfl (fun ls hl => ?_)
            refine lv_goto (tgt := 11) hx hb dX1_doublyHeld_38 (by decide) ?_
            exact ih_loop (k + 1) T fr to pb re bY ln (by omega) (by omega) (by rw [al_s, hal, c22]; rfl) hsf _ _ hP hD hS _ (lv_sub hl [1, 0] rfl)
          · refine lv_aload_n hx hb dX1_doublyHeld_25 rfl (lv_at hl 0 rfl) ?_
            refine lv_iload_n hx hb dX1_doublyHeld_26 rfl (lv_at hl 1 rfl) ?_
            refine cl_i ⟨hx, hb, hml, hown, hts⟩ hK hP hD hA hS rfl rfl (mX1_redundant l D d ad _ J P eA eB T fr to pb re bY ln (nI k) hok hsf) (cwV 1 hts (lw_V q170 q144 q145 q18 q146) rfl rfl rfl (by decide +kernel) ⟨Nat.le_of_ble_eq_true rfl, Nat.le_of_ble_eq_true rfl⟩) rfl hl.1 rfl (Nat.le_of_ble_eq_true rfl) ⟨Nat.le_refl _, Nat.le_refl _⟩ dX1_doublyHeld_27 (fun r2 u2 H locs hw hP hD hS => ?_)
            obtain ⟨T2, fr2, to2, pb2, re2, bY2, ln2⟩ := u2
            have hP : va_P D vwCl (wF d ad J P eA eB T2 fr2 to2 pb2 re2 bY2 ln2) H := hP
            have hD : va_D A (wF d ad J P eA eB T2 fr2 to2 pb2 re2 bY2 ln2) := hD
            obtain ⟨hr2, hsf⟩ := hw
            have hsf : sf_ T2 fr2 to2 pb2 re2 bY2 ln2 := hsf
            subst hr2
            refine nr_bne (tgt := 35) hx hb dX1_doublyHeld_30 (by decide) (fun c30 => ?_) (fun c30 => ?_)
            · refine lv_iinc (v := nI (k + 1)) (lv' := [(1, _), (0, _)]) hx hb dX1_doublyHeld_35 hl (k := 1) rfl (nI_1 _) (by decide) rfl (fun ls hl => ?_)
              refine lv_goto (tgt := 11) hx hb dX1_doublyHeld_38 (by decide) ?_
              exact ih_loop (k + 1) T2 fr2 to2 pb2 re2 bY2 ln2 (by omega) (by omega) (by rw [al_s, hal, c22, c30]; rfl) hsf _ _ hP hD hS _ (lv_sub hl [1, 0] rfl)
            · refine lv_iconst (v := nI 0) hx hb dX1_doublyHeld_33 (by decide) ?_
              exact ret _ _ _ _ _ (T2, fr2, to2, pb2, re2, bY2, ln2) dX1_doublyHeld_34 rfl ⟨by unfold dh_; rw [al_stop c14 (by rw [c22, c30]; rfl), Bool.and_false]; rfl, hsf⟩ hP hD hS
    exact loop 13 0 T1 fr1 to1 pb1 re1 bY1 ln1 (by omega) (by omega) rfl hsf _ _ hP hD hS _ (lv_sub hl [1, 0] rfl)
  · refine lv_iconst (v := nI 0) hx hb dX1_doublyHeld_7 (by decide) ?_
    exact ret _ _ _ _ _ (T1, fr1, to1, pb1, re1, bY1, ln1) dX1_doublyHeld_8 rfl ⟨by unfold dh_; rw [c4]; rfl, hsf⟩ hP hD hS
end
section
/-! rows and laws for the reference -/
section NR2
variable {p : Program} {l : Launch} {e : Env} {R : Room} {s : State} {m : MethodId} {args : Array Value} {below : List Frame} {meth : Method} {c : Code} {H : Heap} {locs : List Loc} {cells slots : Nat} {Q : State → Prop}
variable {cc : ByteArray} {pc : Nat} {ls : Array Slot} {rest : List Value}
theorem nr_div (hx : p.tables.exec = Jvm.exec) (hb : c.code = cc) {x y : Nat} (h1 : x < 2 ^ 31) (h0 : 0 < y) (h2 : y < 2 ^ 31) (hdg : decode cc pc = .ok (.idiv, 1))
    (kk : W p l e R s m args below meth c H locs cells slots Q (F0 m (pc + 1) ls (.int (nI (x / y)) :: rest))) : W p l e R s m args below meth c H locs cells slots Q (F0 m pc ls (.int (nI y) :: .int (nI x) :: rest)) := by
  refine lv_idiv hx hb hdg (nI_ne0 h0 h2) ?_
  rw [pk_div h1 h0 h2]
  exact kk
theorem nr_rem (hx : p.tables.exec = Jvm.exec) (hb : c.code = cc) {x y : Nat} (h1 : x < 2 ^ 31) (h0 : 0 < y) (h2 : y < 2 ^ 31) (hdg : decode cc pc = .ok (.irem, 1))
    (kk : W p l e R s m args below meth c H locs cells slots Q (F0 m (pc + 1) ls (.int (nI (x % y)) :: rest))) : W p l e R s m args below meth c H locs cells slots Q (F0 m pc ls (.int (nI y) :: .int (nI x) :: rest)) := by
  refine lv_irem hx hb hdg (nI_ne0 h0 h2) ?_
  rw [pk_rem h1 h0 h2]
  exact kk
theorem nr_beq1 (hx : p.tables.exec = Jvm.exec) (hb : c.code = cc) {b : Bool} {off : Int} {tgt : Nat} (hdg : decode cc pc = .ok (.if_icmp .eq off, 3)) (ht : (pc : Int) + off = (tgt : Int))
    (kt : b = true → W p l e R s m args below meth c H locs cells slots Q (F0 m tgt ls rest)) (kf : b = false → W p l e R s m args below meth c H locs cells slots Q (F0 m (pc + 3) ls rest)) : W p l e R s m args below meth c H locs cells slots Q (F0 m pc ls (.int (nI 1) :: .int (nI b.toNat) :: rest)) :=
  lv_icmp_eq hx hb hdg ht (fun h => kt (wd_b1.mp h)) (fun h => kf (by cases b with
    | false => rfl
    | true => exact absurd rfl h))
end NR2
theorem jo_12 {x : Int32} (h1 : ¬ x < 0) (h2 : ¬ nI 11 < x) : jo_ 12 x = true := by
  refine jo_yes h1 (fun h => h2 ?_)
  rw [Int32.le_iff_toInt_le, nI_toInt (by decide)] at h
  rw [Int32.lt_iff_toInt_lt, nI_toInt (by decide)]
  omega
theorem jo_12n {x : Int32} (h : nI 11 < x) : jo_ 12 x = false := by
  refine jo_no (Or.inr ?_)
  rw [Int32.lt_iff_toInt_lt, nI_toInt (by decide)] at h
  rw [Int32.le_iff_toInt_le, nI_toInt (by decide)]
  omega
theorem al_mono {f : Nat → Bool} {n m : Nat} (hnm : n ≤ m) (h : al_ n f = false) : al_ m f = false := by
  cases e : al_ m f with
  | false => rfl
  | true =>
    rw [al_iff.mpr (fun i hi => al_iff.mp e i (by omega))] at h
    cases h
theorem md_set {P k : Nat} (h : P.testBit k = true) : P % 2 ^ (k + 1) = P % 2 ^ k ||| 2 ^ k := by
  apply Nat.eq_of_testBit_eq
  intro i
  rw [tb_or, Nat.testBit_mod_two_pow, Nat.testBit_mod_two_pow]
  by_cases e : i = k
  · rw [e, h]
    simp
  · have h1 : (i < k + 1) ↔ (i < k) := by omega
    simp [h1, show ¬ k = i from fun q => e q.symm]
theorem md_skip {P k : Nat} (h : P.testBit k = false) : P % 2 ^ (k + 1) = P % 2 ^ k := by
  apply Nat.eq_of_testBit_eq
  intro i
  rw [Nat.testBit_mod_two_pow, Nat.testBit_mod_two_pow]
  by_cases e : i = k
  · rw [e, h]
    simp
  · have h1 : (i < k + 1) ↔ (i < k) := by omega
    simp [h1]
/-- the reference's joints fit a shift -/
def mb_ (mA mB : Nat → Nat) : Prop := ∀ k, k < 13 → mA k < 32 ∧ mB k < 32
theorem p_64 {J : Nat} (hJ : J ≤ 6) : 2 ^ J ≤ 64 := Nat.pow_le_pow_right (n := 2) (by decide) hJ
theorem mb_up {A B : Nat → Nat} {x y a b : Nat} (h : mb_ (up_ A 12 x) (up_ B 12 y)) (ha : a < 32) (hb : b < 32) : mb_ (up_ A 12 a) (up_ B 12 b) := by
  intro k hk
  by_cases e : k = 12
  · rw [e, up_s, up_s]
    exact ⟨ha, hb⟩
  · have := h k hk
    rw [up_n e, up_n e] at this ⊢
    exact this
theorem lo_12 {J : Nat} {A B : Nat → Nat} {S x y : Nat} (h : S < 4096) : lo_ J (up_ A 12 x) (up_ B 12 y) S = lo_ J A B S := lo_congr (up12 h)
theorem tk_13 {J : Nat} {A B : Nat → Nat} {S x y : Nat} (h : S < 4096) : tk_ J (up_ A 12 x) (up_ B 12 y) S 13 = tk_ J A B S 12 := by rw [tk_congr (up12 h), tk_12 h]
theorem tk_31b (J : Nat) (A B : Nat → Nat) (S k : Nat) (h : k ≤ 13) : tk_ J A B S k < 8192 := Nat.lt_of_lt_of_le (tk_lt J A B S k) (show 2 ^ k ≤ 2 ^ 13 from Nat.pow_le_pow_right (by decide) h)
end
section
set_option maxHeartbeats 4000000 in
set_option maxRecDepth 100000 in
/-- joint -/
theorem mX2_joint (l : Launch) (D : va_G) (dZ dN : ClassId) (ad : Nat → Nat) (sz : Nat) (J P : Nat) (mA mB : Nat → Nat) (x : Int32)  : mt_i l yX2_joint cX2_joint 2 .boolean (rr_ 0 0) D [(dZ, .boolean), (dN, .int)] (wM dZ dN ad J P mA mB) sz [.ref (ad 0), .int x] (fun (r : Int32) (_ : Unit) => r = nI (jo_ J x).toNat) (fun _ => wM dZ dN ad J P mA mB) := by
  refine en_i (by decide +kernel) (Nat.le_of_ble_eq_true rfl) ?_
  intro p e s m args below meth c A0 H0 Q hx hb hml hown hts hK hP hD hA hS ret ls hl
  have hown : s.vm.findClass RX2 = some m.cls := hown
  have hl : lv_has ls 2 [(0, .ref (ad 0)), (1, .int x)] := hl
  refine lv_iload_n hx hb dX2_joint_0 rfl (lv_at hl 1 rfl) ?_
  refine lv_if_lt (tgt := 16) hx hb dX2_joint_1 (by decide) (fun c1 => ?_) (fun c1 => ?_)
  · refine lv_iconst (v := nI 0) hx hb dX2_joint_16 (by decide) ?_
    exact ret _ _ _ _ _ () dX2_joint_17 (rfl) (by first | (rw [jo_no (Or.inl c1)]; rfl) | (rw [jo_no (Or.inr c9)]; rfl) | (rw [jo_yes c1 c9]; rfl)) hP hD hS
  · refine lv_iload_n hx hb dX2_joint_4 rfl (lv_at hl 1 rfl) ?_
    refine lv_aload_n hx hb dX2_joint_5 rfl (lv_at hl 0 rfl) ?_
    refine gf2 hx hb hts hown hK hP rfl 0 (by decide) q180 rfl rfl dX2_joint_6 ?_
    refine lv_icmp_ge (tgt := 16) hx hb dX2_joint_9 (by decide) (fun c9 => ?_) (fun c9 => ?_)
    · refine lv_iconst (v := nI 0) hx hb dX2_joint_16 (by decide) ?_
      exact ret _ _ _ _ _ () dX2_joint_17 (rfl) (by first | (rw [jo_no (Or.inl c1)]; rfl) | (rw [jo_no (Or.inr c9)]; rfl) | (rw [jo_yes c1 c9]; rfl)) hP hD hS
    · refine lv_iconst (v := nI 1) hx hb dX2_joint_12 (by decide) ?_
      refine lv_goto (tgt := 17) hx hb dX2_joint_13 (by decide) ?_
      exact ret _ _ _ _ _ () dX2_joint_17 (rfl) (by first | (rw [jo_no (Or.inl c1)]; rfl) | (rw [jo_no (Or.inr c9)]; rfl) | (rw [jo_yes c1 c9]; rfl)) hP hD hS

set_option maxHeartbeats 4000000 in
set_option maxRecDepth 100000 in
/-- add -/
theorem mX2_add (l : Launch) (D : va_G) (dZ dN : ClassId) (ad : Nat → Nat) (sz : Nat) (J P : Nat) (mA mB : Nat → Nat) (x y : Int32) (hJ : J ≤ 6) : mt_i l yX2_add cX2_add 4 .int (rr_ 1 21) D [(dZ, .boolean), (dN, .int)] (wM dZ dN ad J P mA mB) sz [.ref (ad 0), .int x, .int y] (fun (r : Int32) (u : Nat × (Nat → Nat) × (Nat → Nat)) => r = aR_ J P x y ∧ u.1 = aP_ J P x y ∧ u.2.1 = aA_ J P x y mA x ∧ u.2.2 = aA_ J P x y mB y) (fun u => wM dZ dN ad J u.1 u.2.1 u.2.2) := by
  refine en_i (by decide +kernel) (Nat.le_of_ble_eq_true rfl) ?_
  intro p e s m args below meth c A0 H0 Q hx hb hml hown hts hK hP hD hA hS ret ls hl
  have hown : s.vm.findClass RX2 = some m.cls := hown
  have hl : lv_has ls 4 [(0, .ref (ad 0)), (1, .int x), (2, .int y)] := hl
  refine lv_iload_n hx hb dX2_add_0 rfl (lv_at hl 1 rfl) ?_
  refine lv_iload_n hx hb dX2_add_1 rfl (lv_at hl 2 rfl) ?_
  refine lv_icmp_eq (tgt := 21) hx hb dX2_add_2 (by decide) (fun c2 => ?_) (fun c2 => ?_)
  · refine lv_iconst (v := -1) hx hb dX2_add_21 (by decide) ?_
    have hba : ba_ J x y = true := by first | exact ba_eq c2 | exact ba_x c10 | exact ba_y c18
    exact ret _ _ _ _ _ (P, mA, mB) dX2_add_22 rfl ⟨by unfold aR_; rw [if_pos hba], by unfold aP_; rw [if_pos hba], by unfold aA_; rw [if_pos hba], by unfold aA_; rw [if_pos hba]⟩ hP hD hS
  · refine lv_aload_n hx hb dX2_add_5 rfl (lv_at hl 0 rfl) ?_
    refine lv_iload_n hx hb dX2_add_6 rfl (lv_at hl 1 rfl) ?_
    refine cl_i ⟨hx, hb, hml, hown, hts⟩ hK hP hD hA hS rfl rfl (mX2_joint l D dZ dN ad _ J P mA mB x) (cwV 1 hts (lw_V q199 q201 qs10 q19 q202) rfl rfl rfl (by decide +kernel) ⟨Nat.le_of_ble_eq_true rfl, Nat.le_of_ble_eq_true rfl⟩) rfl hl.1 rfl (Nat.le_of_ble_eq_true rfl) ⟨Nat.le_refl _, Nat.le_refl _⟩ dX2_add_7 (fun r1 u1 H locs hw hP hD hS => ?_)
    subst hw
    refine nr_beq (tgt := 21) hx hb dX2_add_10 (by decide) (fun c10 => ?_) (fun c10 => ?_)
    · refine lv_iconst (v := -1) hx hb dX2_add_21 (by decide) ?_
      have hba : ba_ J x y = true := by first | exact ba_eq c2 | exact ba_x c10 | exact ba_y c18
      exact ret _ _ _ _ _ (P, mA, mB) dX2_add_22 rfl ⟨by unfold aR_; rw [if_pos hba], by unfold aP_; rw [if_pos hba], by unfold aA_; rw [if_pos hba], by unfold aA_; rw [if_pos hba]⟩ hP hD hS
    · refine lv_aload_n hx hb dX2_add_13 rfl (lv_at hl 0 rfl) ?_
      refine lv_iload_n hx hb dX2_add_14 rfl (lv_at hl 2 rfl) ?_
      refine cl_i ⟨hx, hb, hml, hown, hts⟩ hK hP hD hA hS rfl rfl (mX2_joint l D dZ dN ad _ J P mA mB y) (cwV 1 hts (lw_V q199 q201 qs10 q19 q202) rfl rfl rfl (by decide +kernel) ⟨Nat.le_of_ble_eq_true rfl, Nat.le_of_ble_eq_true rfl⟩) rfl hl.1 rfl (Nat.le_of_ble_eq_true rfl) ⟨Nat.le_refl _, Nat.le_refl _⟩ dX2_add_15 (fun r2 u2 H locs hw hP hD hS => ?_)
      subst hw
      refine nr_bne (tgt := 23) hx hb dX2_add_18 (by decide) (fun c18 => ?_) (fun c18 => ?_)
      · obtain ⟨a, ha, rfl⟩ := (jo_iff (by omega)).mp c10
        obtain ⟨b, hb2, rfl⟩ := (jo_iff (by omega)).mp c18
        have hba := ba_no c2 c10 c18
        refine lv_iconst (v := nI 0) hx hb dX2_add_23 (by decide) ?_
        refine lv_istore_n (lv' := [(3, _), (0, _), (1, _), (2, _)]) hx hb dX2_add_24 rfl hl (by decide) rfl (fun ls hl => ?_)
        have loop : ∀ (n : Nat) (k : Nat), (12 + 1 ≤ k + n) → (k ≤ 12) → (ff_ P (12 - k) k = fw_ P) → ∀ (H : Heap) (locs : List Loc), va_P D vwCl (wM dZ dN ad J P mA mB) H → va_D A0 (wM dZ dN ad J P mA mB) → va_S A0 H0 H locs → ∀ ls : Array Slot, lv_has ls 4 [(0, .ref (ad 0)), (1, .int (nI a)), (2, .int (nI b)), (3, .int (nI k))] → W p l e (rr_ 1 21) s m args below meth c H locs 0 0 Q (F0 m 25 ls []) := by
          intro n
          induction n with
          | zero =>
            intro k hn hk hf
            exfalso
            omega
          | succ n ih_loop =>
            intro k hn hk hf H locs hP hD hS ls hl
            refine lv_iload_n hx hb dX2_add_25 rfl (lv_at hl 3 rfl) ?_
            refine lv_bipush (v := nI 12) hx hb dX2_add_26 (by decide) ?_
            refine nr_icmp_ge (tgt := 69) hx hb (by omega) (by omega) dX2_add_28 (by decide) (fun c28 => ?_) (fun c28 => ?_)
            · refine lv_bipush (v := -2) hx hb dX2_add_69 (by decide) ?_
              have hfw : fw_ P = 12 := by rw [← hf, show k = 12 by omega]; rfl
              have hba1 : ¬ ba_ J (nI a) (nI b) = true := by rw [hba]; decide
              exact ret _ _ _ _ _ (P, mA, mB) dX2_add_71 rfl ⟨by unfold aR_; rw [if_neg hba1, if_pos hfw], by unfold aP_; rw [if_neg hba1, if_pos hfw], by unfold aA_; rw [if_neg hba1, if_pos hfw], by unfold aA_; rw [if_neg hba1, if_pos hfw]⟩ hP hD hS
            · refine lv_aload_n hx hb dX2_add_31 rfl (lv_at hl 0 rfl) ?_
              refine gf2 hx hb hts hown hK hP rfl 1 (by decide) q181 rfl rfl dX2_add_32 ?_
              refine lv_iload_n hx hb dX2_add_35 rfl (lv_at hl 3 rfl) ?_
              refine nr_zald hx hb hK hP 1 0 rfl rfl (by decide) (by omega) dX2_add_36 ?_
              refine nr_bne (tgt := 63) hx hb dX2_add_37 (by decide) (fun c37 => ?_) (fun c37 => ?_)
              · refine lv_iinc (v := nI (k + 1)) (lv' := [(3, _), (0, _), (1, _), (2, _)]) hx hb dX2_add_63 hl (k := 3) rfl (nI_1 _) (by decide) rfl (fun ls hl => ?_)
                refine lv_goto (tgt := 25) hx hb dX2_add_66 (by decide) ?_
                exact ih_loop (k + 1) (by omega) (by omega) (by rw [← ff_go c28 c37]; exact hf) _ _ hP hD hS _ (lv_sub hl [1, 2, 3, 0] rfl)
              · refine lv_aload_n hx hb dX2_add_40 rfl (lv_at hl 0 rfl) ?_
                refine gf2 hx hb hts hown hK hP rfl 1 (by decide) q181 rfl rfl dX2_add_41 ?_
                refine lv_iload_n hx hb dX2_add_44 rfl (lv_at hl 3 rfl) ?_
                refine lv_iconst (v := nI 1) hx hb dX2_add_45 (by decide) ?_
                refine nr_zset hx hb hK hP hD hS 1 0 rfl rfl (by decide) (by omega) dX2_add_46 (fun H locs hP hD hS => ?_)
                have hP : va_P D vwCl (wM dZ dN ad J (P ||| 2 ^ k) mA mB) H := hP
                have hD : va_D A0 (wM dZ dN ad J (P ||| 2 ^ k) mA mB) := hD
                refine lv_aload_n hx hb dX2_add_47 rfl (lv_at hl 0 rfl) ?_
                refine gf2 hx hb hts hown hK hP rfl 2 (by decide) q182 rfl rfl dX2_add_48 ?_
                refine lv_iload_n hx hb dX2_add_51 rfl (lv_at hl 3 rfl) ?_
                refine lv_iload_n hx hb dX2_add_52 rfl (lv_at hl 1 rfl) ?_
                refine nr_iast hx hb hK hP hD hS 2 1 rfl rfl (by decide) (by omega) dX2_add_53 (fun H locs hP hD hS => ?_)
                have hP : va_P D vwCl (wM dZ dN ad J (P ||| 2 ^ k) (up_ mA k a) mB) H := hP
                have hD : va_D A0 (wM dZ dN ad J (P ||| 2 ^ k) (up_ mA k a) mB) := hD
                refine lv_aload_n hx hb dX2_add_54 rfl (lv_at hl 0 rfl) ?_
                refine gf2 hx hb hts hown hK hP rfl 3 (by decide) q183 rfl rfl dX2_add_55 ?_
                refine lv_iload_n hx hb dX2_add_58 rfl (lv_at hl 3 rfl) ?_
                refine lv_iload_n hx hb dX2_add_59 rfl (lv_at hl 2 rfl) ?_
                refine nr_iast hx hb hK hP hD hS 3 1 rfl rfl (by decide) (by omega) dX2_add_60 (fun H locs hP hD hS => ?_)
                have hP : va_P D vwCl (wM dZ dN ad J (P ||| 2 ^ k) (up_ mA k a) (up_ mB k b)) H := hP
                have hD : va_D A0 (wM dZ dN ad J (P ||| 2 ^ k) (up_ mA k a) (up_ mB k b)) := hD
                refine lv_iload_n hx hb dX2_add_61 rfl (lv_at hl 3 rfl) ?_
                have hfw : fw_ P = k := by rw [← hf, ff_hit c28 c37]
                have hne : ¬ fw_ P = 12 := by omega
                have hba1 : ¬ ba_ J (nI a) (nI b) = true := by rw [hba]; decide
                exact ret _ _ _ _ _ (P ||| 2 ^ k, up_ mA k a, up_ mB k b) dX2_add_62 rfl ⟨by unfold aR_; rw [if_neg hba1, if_neg hne, hfw], by unfold aP_; rw [if_neg hba1, if_neg hne, hfw], by unfold aA_; rw [if_neg hba1, if_neg hne, hfw, nI_clamp (by omega)], by unfold aA_; rw [if_neg hba1, if_neg hne, hfw, nI_clamp (by omega)]⟩ hP hD hS
        exact loop 13 0 (by omega) (by omega) rfl _ _ hP hD hS _ (lv_sub hl [1, 2, 3, 0] rfl)
      · refine lv_iconst (v := -1) hx hb dX2_add_21 (by decide) ?_
        have hba : ba_ J x y = true := by first | exact ba_eq c2 | exact ba_x c10 | exact ba_y c18
        exact ret _ _ _ _ _ (P, mA, mB) dX2_add_22 rfl ⟨by unfold aR_; rw [if_pos hba], by unfold aP_; rw [if_pos hba], by unfold aA_; rw [if_pos hba], by unfold aA_; rw [if_pos hba]⟩ hP hD hS

set_option maxHeartbeats 4000000 in
set_option maxRecDepth 100000 in
/-- remove -/
theorem mX2_remove (l : Launch) (D : va_G) (dZ dN : ClassId) (ad : Nat → Nat) (sz : Nat) (J P : Nat) (mA mB : Nat → Nat) (x : Int32)  : mt_i l yX2_remove cX2_remove 2 .boolean (rr_ 0 0) D [(dZ, .boolean), (dN, .int)] (wM dZ dN ad J P mA mB) sz [.ref (ad 0), .int x] (fun (r : Int32) (u : Nat) => r = nI (ha_ P x).toNat ∧ u = rP_ P x) (fun u => wM dZ dN ad J u mA mB) := by
  refine en_i (by decide +kernel) (Nat.le_of_ble_eq_true rfl) ?_
  intro p e s m args below meth c A0 H0 Q hx hb hml hown hts hK hP hD hA hS ret ls hl
  have hown : s.vm.findClass RX2 = some m.cls := hown
  have hl : lv_has ls 2 [(0, .ref (ad 0)), (1, .int x)] := hl
  refine lv_iload_n hx hb dX2_remove_0 rfl (lv_at hl 1 rfl) ?_
  refine lv_if_lt (tgt := 19) hx hb dX2_remove_1 (by decide) (fun c1 => ?_) (fun c1 => ?_)
  · refine lv_iconst (v := nI 0) hx hb dX2_remove_19 (by decide) ?_
    have hha : ha_ P x = false := ha_no (jo_no (Or.inl c1))
    exact ret _ _ _ _ _ P dX2_remove_20 rfl ⟨by rw [hha]; rfl, by unfold rP_; rw [if_neg (by rw [hha]; decide)]⟩ hP hD hS
  · refine lv_iload_n hx hb dX2_remove_4 rfl (lv_at hl 1 rfl) ?_
    refine lv_bipush (v := nI 11) hx hb dX2_remove_5 (by decide) ?_
    refine lv_icmp_gt (tgt := 19) hx hb dX2_remove_7 (by decide) (fun c7 => ?_) (fun c7 => ?_)
    · refine lv_iconst (v := nI 0) hx hb dX2_remove_19 (by decide) ?_
      have hha : ha_ P x = false := ha_no (jo_12n c7)
      exact ret _ _ _ _ _ P dX2_remove_20 rfl ⟨by rw [hha]; rfl, by unfold rP_; rw [if_neg (by rw [hha]; decide)]⟩ hP hD hS
    · have hjo := jo_12 c1 c7
      obtain ⟨k, hk, rfl⟩ := (jo_iff (by decide)).mp hjo
      refine lv_aload_n hx hb dX2_remove_10 rfl (lv_at hl 0 rfl) ?_
      refine gf2 hx hb hts hown hK hP rfl 1 (by decide) q181 rfl rfl dX2_remove_11 ?_
      refine lv_iload_n hx hb dX2_remove_14 rfl (lv_at hl 1 rfl) ?_
      refine nr_zald hx hb hK hP 1 0 rfl rfl (by decide) (by omega) dX2_remove_15 ?_
      refine nr_bne (tgt := 21) hx hb dX2_remove_16 (by decide) (fun c16 => ?_) (fun c16 => ?_)
      · refine lv_aload_n hx hb dX2_remove_21 rfl (lv_at hl 0 rfl) ?_
        refine gf2 hx hb hts hown hK hP rfl 1 (by decide) q181 rfl rfl dX2_remove_22 ?_
        refine lv_iload_n hx hb dX2_remove_25 rfl (lv_at hl 1 rfl) ?_
        refine lv_iconst (v := nI 0) hx hb dX2_remove_26 (by decide) ?_
        refine nr_zclr hx hb hK hP hD hS 1 0 rfl rfl (by decide) (by omega) dX2_remove_27 (fun H locs hP hD hS => ?_)
        have hP : va_P D vwCl (wM dZ dN ad J (an_ P (2 ^ k)) mA mB) H := hP
        have hD : va_D A0 (wM dZ dN ad J (an_ P (2 ^ k)) mA mB) := hD
        refine lv_iconst (v := nI 1) hx hb dX2_remove_28 (by decide) ?_
        have hha : ha_ P (nI k) = true := by rw [ha_nI hk]; exact c16
        exact ret _ _ _ _ _ (an_ P (2 ^ k)) dX2_remove_29 rfl ⟨by rw [hha]; rfl, by unfold rP_; rw [if_pos hha, nI_clamp (by omega)]⟩ hP hD hS
      · refine lv_iconst (v := nI 0) hx hb dX2_remove_19 (by decide) ?_
        have hha : ha_ P (nI k) = false := by rw [ha_nI hk]; exact c16
        exact ret _ _ _ _ _ P dX2_remove_20 rfl ⟨by rw [hha]; rfl, by unfold rP_; rw [if_neg (by rw [hha]; decide)]⟩ hP hD hS

set_option maxHeartbeats 4000000 in
set_option maxRecDepth 100000 in
/-- bars -/
theorem mX2_bars (l : Launch) (D : va_G) (dZ dN : ClassId) (ad : Nat → Nat) (sz : Nat) (J P : Nat) (mA mB : Nat → Nat)  (hP4 : P < 4096) : mt_i l yX2_bars cX2_bars 3 .int (rr_ 0 0) D [(dZ, .boolean), (dN, .int)] (wM dZ dN ad J P mA mB) sz [.ref (ad 0)] (fun (r : Int32) (_ : Unit) => r = nI P) (fun _ => wM dZ dN ad J P mA mB) := by
  refine en_i (by decide +kernel) (Nat.le_of_ble_eq_true rfl) ?_
  intro p e s m args below meth c A0 H0 Q hx hb hml hown hts hK hP hD hA hS ret ls hl
  have hown : s.vm.findClass RX2 = some m.cls := hown
  have hl : lv_has ls 3 [(0, .ref (ad 0))] := hl
  refine lv_iconst (v := nI 0) hx hb dX2_bars_0 (by decide) ?_
  refine lv_istore_n (lv' := [(1, _), (0, _)]) hx hb dX2_bars_1 rfl hl (by decide) rfl (fun ls hl => ?_)
  refine lv_iconst (v := nI 0) hx hb dX2_bars_2 (by decide) ?_
  refine lv_istore_n (lv' := [(2, _), (1, _), (0, _)]) hx hb dX2_bars_3 rfl hl (by decide) rfl (fun ls hl => ?_)
  have loop : ∀ (n : Nat) (k z : Nat), (12 + 1 ≤ k + n) → (k ≤ 12) → (z = P % 2 ^ k) → ∀ (H : Heap) (locs : List Loc), va_P D vwCl (wM dZ dN ad J P mA mB) H → va_D A0 (wM dZ dN ad J P mA mB) → va_S A0 H0 H locs → ∀ ls : Array Slot, lv_has ls 3 [(0, .ref (ad 0)), (1, .int (nI z)), (2, .int (nI k))] → W p l e (rr_ 0 0) s m args below meth c H locs 0 0 Q (F0 m 4 ls []) := by
    intro n
    induction n with
    | zero =>
      intro k z hn hk hz
      exfalso
      omega
    | succ n ih_loop =>
      intro k z hn hk hz H locs hP hD hS ls hl
      refine lv_iload_n hx hb dX2_bars_4 rfl (lv_at hl 2 rfl) ?_
      refine lv_bipush (v := nI 12) hx hb dX2_bars_5 (by decide) ?_
      refine nr_icmp_ge (tgt := 35) hx hb (by omega) (by omega) dX2_bars_7 (by decide) (fun c7 => ?_) (fun c7 => ?_)
      · refine lv_iload_n hx hb dX2_bars_35 rfl (lv_at hl 1 rfl) ?_
        exact ret _ _ _ _ _ () dX2_bars_36 (rfl) (by rw [hz, show k = 12 by omega, Nat.mod_eq_of_lt hP4]) hP hD hS
      · refine lv_aload_n hx hb dX2_bars_10 rfl (lv_at hl 0 rfl) ?_
        refine gf2 hx hb hts hown hK hP rfl 1 (by decide) q181 rfl rfl dX2_bars_11 ?_
        refine lv_iload_n hx hb dX2_bars_14 rfl (lv_at hl 2 rfl) ?_
        refine nr_zald hx hb hK hP 1 0 rfl rfl (by decide) (by omega) dX2_bars_15 ?_
        refine nr_beq (tgt := 27) hx hb dX2_bars_16 (by decide) (fun c16 => ?_) (fun c16 => ?_)
        · refine lv_iload_n hx hb dX2_bars_27 rfl (lv_at hl 1 rfl) ?_
          refine lv_istore_n (lv' := [(1, _), (0, _), (2, _)]) hx hb dX2_bars_28 rfl hl (by decide) rfl (fun ls hl => ?_)
          refine lv_iinc (v := nI (k + 1)) (lv' := [(2, _), (1, _), (0, _)]) hx hb dX2_bars_29 hl (k := 2) rfl (nI_1 _) (by decide) rfl (fun ls hl => ?_)
          refine lv_goto (tgt := 4) hx hb dX2_bars_32 (by decide) ?_
          exact ih_loop (k + 1) z (by omega) (by omega) (by rw [hz, md_skip c16]) _ _ hP hD hS _ (lv_sub hl [2, 1, 0] rfl)
        · refine lv_iload_n hx hb dX2_bars_19 rfl (lv_at hl 1 rfl) ?_
          refine lv_iconst (v := nI 1) hx hb dX2_bars_20 (by decide) ?_
          refine lv_iload_n hx hb dX2_bars_21 rfl (lv_at hl 2 rfl) ?_
          refine nr_shl hx hb (by omega) dX2_bars_22 ?_
          refine nr_or hx hb dX2_bars_23 ?_
          refine lv_goto (tgt := 28) hx hb dX2_bars_24 (by decide) ?_
          refine lv_istore_n (lv' := [(1, _), (0, _), (2, _)]) hx hb dX2_bars_28 rfl hl (by decide) rfl (fun ls hl => ?_)
          refine lv_iinc (v := nI (k + 1)) (lv' := [(2, _), (1, _), (0, _)]) hx hb dX2_bars_29 hl (k := 2) rfl (nI_1 _) (by decide) rfl (fun ls hl => ?_)
          refine lv_goto (tgt := 4) hx hb dX2_bars_32 (by decide) ?_
          exact ih_loop (k + 1) (z ||| (2 ^ k)) (by omega) (by omega) (by rw [hz, md_set c16]) _ _ hP hD hS _ (lv_sub hl [2, 1, 0] rfl)
  exact loop 13 0 0 (by omega) (by omega) (by rw [Nat.pow_zero, Nat.mod_one]) _ _ hP hD hS _ (lv_sub hl [2, 1, 0] rfl)

set_option maxHeartbeats 4000000 in
set_option maxRecDepth 100000 in
/-- count -/
theorem mX2_count (l : Launch) (D : va_G) (dZ dN : ClassId) (ad : Nat → Nat) (sz : Nat) (J P : Nat) (mA mB : Nat → Nat) (S : Nat) (hS8 : S < 8192) : mt_i l yX2_count cX2_count 4 .int (rr_ 0 0) D [(dZ, .boolean), (dN, .int)] (wM dZ dN ad J P mA mB) sz [.ref (ad 0), .int (nI S)] (fun (r : Int32) (_ : Unit) => r = nI (sz_ S)) (fun _ => wM dZ dN ad J P mA mB) := by
  refine en_i (by decide +kernel) (Nat.le_of_ble_eq_true rfl) ?_
  intro p e s m args below meth c A0 H0 Q hx hb hml hown hts hK hP hD hA hS ret ls hl
  have hown : s.vm.findClass RX2 = some m.cls := hown
  have hl : lv_has ls 4 [(0, .ref (ad 0)), (1, .int (nI S))] := hl
  refine lv_iconst (v := nI 0) hx hb dX2_count_0 (by decide) ?_
  refine lv_istore_n (lv' := [(2, _), (0, _), (1, _)]) hx hb dX2_count_1 rfl hl (by decide) rfl (fun ls hl => ?_)
  refine lv_iconst (v := nI 0) hx hb dX2_count_2 (by decide) ?_
  refine lv_istore_n (lv' := [(3, _), (2, _), (0, _), (1, _)]) hx hb dX2_count_3 rfl hl (by decide) rfl (fun ls hl => ?_)
  have loop : ∀ (n : Nat) (k : Nat), (13 + 1 ≤ k + n) → (k ≤ 13) → ∀ (H : Heap) (locs : List Loc), va_P D vwCl (wM dZ dN ad J P mA mB) H → va_D A0 (wM dZ dN ad J P mA mB) → va_S A0 H0 H locs → ∀ ls : Array Slot, lv_has ls 4 [(0, .ref (ad 0)), (1, .int (nI S)), (2, .int (nI (cn_ k (fun i => S.testBit i)))), (3, .int (nI k))] → W p l e (rr_ 0 0) s m args below meth c H locs 0 0 Q (F0 m 4 ls []) := by
    intro n
    induction n with
    | zero =>
      intro k hn hk
      exfalso
      omega
    | succ n ih_loop =>
      intro k hn hk H locs hP hD hS ls hl
      refine lv_iload_n hx hb dX2_count_4 rfl (lv_at hl 3 rfl) ?_
      refine lv_bipush (v := nI 13) hx hb dX2_count_5 (by decide) ?_
      refine nr_icmp_ge (tgt := 24) hx hb (by omega) (by omega) dX2_count_7 (by decide) (fun c7 => ?_) (fun c7 => ?_)
      · refine lv_iload_n hx hb dX2_count_24 rfl (lv_at hl 2 rfl) ?_
        exact ret _ _ _ _ _ () dX2_count_25 (rfl) (by rw [show k = 13 by omega]; rfl) hP hD hS
      · refine lv_iload_n hx hb dX2_count_10 rfl (lv_at hl 2 rfl) ?_
        refine lv_iload_n hx hb dX2_count_11 rfl (lv_at hl 1 rfl) ?_
        refine lv_iload_n hx hb dX2_count_12 rfl (lv_at hl 3 rfl) ?_
        refine nr_bit hx hb (by omega) (by omega) dX2_count_13 dX2_count_14 dX2_count_15 ?_
        refine nr_add hx hb dX2_count_16 ?_
        refine lv_istore_n (lv' := [(2, _), (0, _), (1, _), (3, _)]) hx hb dX2_count_17 rfl hl (by decide) rfl (fun ls hl => ?_)
        refine lv_iinc (v := nI (k + 1)) (lv' := [(3, _), (2, _), (0, _), (1, _)]) hx hb dX2_count_18 hl (k := 3) rfl (nI_1 _) (by decide) rfl (fun ls hl => ?_)
        refine lv_goto (tgt := 4) hx hb dX2_count_21 (by decide) ?_
        exact ih_loop (k + 1) (by omega) (by omega) _ _ hP hD hS _ (lv_sub hl [2, 3, 1, 0] rfl)
  exact loop 14 0 (by omega) (by omega) _ _ hP hD hS _ (lv_sub hl [2, 3, 1, 0] rfl)

set_option maxHeartbeats 4000000 in
set_option maxRecDepth 100000 in
/-- inside -/
theorem mX2_inside (l : Launch) (D : va_G) (dZ dN : ClassId) (ad : Nat → Nat) (sz : Nat) (J P : Nat) (mA mB : Nat → Nat) (S G : Nat) (hmb : mb_ mA mB) (hS8 : S < 8192) (hG : G < 4096) : mt_i l yX2_inside cX2_inside 6 .int (rr_ 0 0) D [(dZ, .boolean), (dN, .int)] (wM dZ dN ad J P mA mB) sz [.ref (ad 0), .int (nI S), .int (nI G)] (fun (r : Int32) (_ : Unit) => r = nI (bi_ mA mB S G)) (fun _ => wM dZ dN ad J P mA mB) := by
  refine en_i (by decide +kernel) (Nat.le_of_ble_eq_true rfl) ?_
  intro p e s m args below meth c A0 H0 Q hx hb hml hown hts hK hP hD hA hS ret ls hl
  have hown : s.vm.findClass RX2 = some m.cls := hown
  have hl : lv_has ls 6 [(0, .ref (ad 0)), (1, .int (nI S)), (2, .int (nI G))] := hl
  refine lv_iconst (v := nI 0) hx hb dX2_inside_0 (by decide) ?_
  refine lv_istore_n (lv' := [(3, _), (0, _), (1, _), (2, _)]) hx hb dX2_inside_1 rfl hl (by decide) rfl (fun ls hl => ?_)
  refine lv_iconst (v := nI 0) hx hb dX2_inside_2 (by decide) ?_
  refine lv_istore (lv' := [(4, _), (3, _), (0, _), (1, _), (2, _)]) hx hb dX2_inside_3 hl (by decide) rfl (fun ls hl => ?_)
  have loop : ∀ (n : Nat) (k z : Nat), (13 + 1 ≤ k + n) → (k ≤ 13) → (z = cn_ k (fun k => S.testBit k && (G.testBit (mA k) && G.testBit (mB k)))) → ∀ (H : Heap) (locs : List Loc), va_P D vwCl (wM dZ dN ad J P mA mB) H → va_D A0 (wM dZ dN ad J P mA mB) → va_S A0 H0 H locs → ∀ ls : Array Slot, lv_has ls 6 [(0, .ref (ad 0)), (1, .int (nI S)), (2, .int (nI G)), (3, .int (nI z)), (4, .int (nI k))] → W p l e (rr_ 0 0) s m args below meth c H locs 0 0 Q (F0 m 5 ls []) := by
    intro n
    induction n with
    | zero =>
      intro k z hn hk hz
      exfalso
      omega
    | succ n ih_loop =>
      intro k z hn hk hz H locs hP hD hS ls hl
      refine lv_iload hx hb dX2_inside_5 (lv_at hl 4 rfl) ?_
      refine lv_bipush (v := nI 13) hx hb dX2_inside_7 (by decide) ?_
      refine nr_icmp_ge (tgt := 78) hx hb (by omega) (by omega) dX2_inside_9 (by decide) (fun c9 => ?_) (fun c9 => ?_)
      · refine lv_iload_n hx hb dX2_inside_78 rfl (lv_at hl 3 rfl) ?_
        exact ret _ _ _ _ _ () dX2_inside_79 (rfl) (by rw [hz, show k = 13 by omega]; rfl) hP hD hS
      · obtain ⟨hA32, hB32⟩ := hmb k c9
        refine lv_iload_n hx hb dX2_inside_12 rfl (lv_at hl 1 rfl) ?_
        refine lv_iload hx hb dX2_inside_13 (lv_at hl 4 rfl) ?_
        refine nr_bit hx hb (by omega) (by omega) dX2_inside_15 dX2_inside_16 dX2_inside_17 ?_
        refine lv_iconst (v := nI 1) hx hb dX2_inside_18 (by decide) ?_
        refine nr_bne1 (tgt := 56) hx hb dX2_inside_19 (by decide) (fun c19 => ?_) (fun c19 => ?_)
        · refine lv_iconst (v := nI 0) hx hb dX2_inside_56 (by decide) ?_
          refine lv_istore (lv' := [(5, _), (0, _), (1, _), (2, _), (3, _), (4, _)]) hx hb dX2_inside_57 hl (by decide) rfl (fun ls hl => ?_)
          refine lv_iload hx hb dX2_inside_59 (lv_at hl 0 rfl) ?_
          refine lv_if_eq (tgt := 70) hx hb dX2_inside_61 (by decide) (fun c61 => ?_) (fun c61 => absurd nI_0 c61)
          refine lv_iload_n hx hb dX2_inside_70 rfl (lv_at hl 4 rfl) ?_
          refine lv_istore_n (lv' := [(3, _), (5, _), (0, _), (1, _), (2, _), (4, _)]) hx hb dX2_inside_71 rfl hl (by decide) rfl (fun ls hl => ?_)
          refine lv_iinc (v := nI (k + 1)) (lv' := [(4, _), (3, _), (5, _), (0, _), (1, _), (2, _)]) hx hb dX2_inside_72 hl (k := 5) rfl (nI_1 _) (by decide) rfl (fun ls hl => ?_)
          refine lv_goto (tgt := 5) hx hb dX2_inside_75 (by decide) ?_
          exact ih_loop (k + 1) z (by omega) (by omega) (by rw [cn_s, hz, c19]; rfl) _ _ hP hD hS _ (lv_sub hl [3, 4, 5, 1, 0] rfl)
        · refine lv_iload_n hx hb dX2_inside_22 rfl (lv_at hl 2 rfl) ?_
          refine lv_aload_n hx hb dX2_inside_23 rfl (lv_at hl 0 rfl) ?_
          refine gf2 hx hb hts hown hK hP rfl 2 (by decide) q182 rfl rfl dX2_inside_24 ?_
          refine lv_iload hx hb dX2_inside_27 (lv_at hl 4 rfl) ?_
          refine nr_iald hx hb hK hP 2 1 rfl rfl (by decide) (by omega) dX2_inside_29 ?_
          refine nr_bit hx hb (by omega) (by omega) dX2_inside_30 dX2_inside_31 dX2_inside_32 ?_
          refine lv_iconst (v := nI 1) hx hb dX2_inside_33 (by decide) ?_
          refine nr_bne1 (tgt := 56) hx hb dX2_inside_34 (by decide) (fun c34 => ?_) (fun c34 => ?_)
          · refine lv_iconst (v := nI 0) hx hb dX2_inside_56 (by decide) ?_
            refine lv_istore (lv' := [(5, _), (0, _), (1, _), (2, _), (3, _), (4, _)]) hx hb dX2_inside_57 hl (by decide) rfl (fun ls hl => ?_)
            refine lv_iload hx hb dX2_inside_59 (lv_at hl 0 rfl) ?_
            refine lv_if_eq (tgt := 70) hx hb dX2_inside_61 (by decide) (fun c61 => ?_) (fun c61 => absurd nI_0 c61)
            refine lv_iload_n hx hb dX2_inside_70 rfl (lv_at hl 4 rfl) ?_
            refine lv_istore_n (lv' := [(3, _), (5, _), (0, _), (1, _), (2, _), (4, _)]) hx hb dX2_inside_71 rfl hl (by decide) rfl (fun ls hl => ?_)
            refine lv_iinc (v := nI (k + 1)) (lv' := [(4, _), (3, _), (5, _), (0, _), (1, _), (2, _)]) hx hb dX2_inside_72 hl (k := 5) rfl (nI_1 _) (by decide) rfl (fun ls hl => ?_)
            refine lv_goto (tgt := 5) hx hb dX2_inside_75 (by decide) ?_
            exact ih_loop (k + 1) z (by omega) (by omega) (by rw [cn_s, hz, c19, c34]; rfl) _ _ hP hD hS _ (lv_sub hl [3, 4, 5, 1, 0] rfl)
          · refine lv_iload_n hx hb dX2_inside_37 rfl (lv_at hl 2 rfl) ?_
            refine lv_aload_n hx hb dX2_inside_38 rfl (lv_at hl 0 rfl) ?_
            refine gf2 hx hb hts hown hK hP rfl 3 (by decide) q183 rfl rfl dX2_inside_39 ?_
            refine lv_iload hx hb dX2_inside_42 (lv_at hl 4 rfl) ?_
            refine nr_iald hx hb hK hP 3 1 rfl rfl (by decide) (by omega) dX2_inside_44 ?_
            refine nr_bit hx hb (by omega) (by omega) dX2_inside_45 dX2_inside_46 dX2_inside_47 ?_
            refine lv_iconst (v := nI 1) hx hb dX2_inside_48 (by decide) ?_
            refine nr_bne1 (tgt := 56) hx hb dX2_inside_49 (by decide) (fun c49 => ?_) (fun c49 => ?_)
            · refine lv_iconst (v := nI 0) hx hb dX2_inside_56 (by decide) ?_
              refine lv_istore (lv' := [(5, _), (0, _), (1, _), (2, _), (3, _), (4, _)]) hx hb dX2_inside_57 hl (by decide) rfl (fun ls hl => ?_)
              refine lv_iload hx hb dX2_inside_59 (lv_at hl 0 rfl) ?_
              refine lv_if_eq (tgt := 70) hx hb dX2_inside_61 (by decide) (fun c61 => ?_) (fun c61 => absurd nI_0 c61)
              refine lv_iload_n hx hb dX2_inside_70 rfl (lv_at hl 4 rfl) ?_
              refine lv_istore_n (lv' := [(3, _), (5, _), (0, _), (1, _), (2, _), (4, _)]) hx hb dX2_inside_71 rfl hl (by decide) rfl (fun ls hl => ?_)
              refine lv_iinc (v := nI (k + 1)) (lv' := [(4, _), (3, _), (5, _), (0, _), (1, _), (2, _)]) hx hb dX2_inside_72 hl (k := 5) rfl (nI_1 _) (by decide) rfl (fun ls hl => ?_)
              refine lv_goto (tgt := 5) hx hb dX2_inside_75 (by decide) ?_
              exact ih_loop (k + 1) z (by omega) (by omega) (by rw [cn_s, hz, c19, c34, c49]; rfl) _ _ hP hD hS _ (lv_sub hl [3, 4, 5, 1, 0] rfl)
            · refine lv_iconst (v := nI 1) hx hb dX2_inside_52 (by decide) ?_
              refine lv_goto (tgt := 57) hx hb dX2_inside_53 (by decide) ?_
              refine lv_istore (lv' := [(5, _), (0, _), (1, _), (2, _), (3, _), (4, _)]) hx hb dX2_inside_57 hl (by decide) rfl (fun ls hl => ?_)
              refine lv_iload hx hb dX2_inside_59 (lv_at hl 0 rfl) ?_
              refine lv_if_eq (tgt := 70) hx hb dX2_inside_61 (by decide) (fun c61 => absurd c61 (by decide)) (fun c61 => ?_)
              refine lv_iload_n hx hb dX2_inside_64 rfl (lv_at hl 4 rfl) ?_
              refine lv_iconst (v := nI 1) hx hb dX2_inside_65 (by decide) ?_
              refine nr_add hx hb dX2_inside_66 ?_
              refine lv_goto (tgt := 71) hx hb dX2_inside_67 (by decide) ?_
              refine lv_istore_n (lv' := [(3, _), (5, _), (0, _), (1, _), (2, _), (4, _)]) hx hb dX2_inside_71 rfl hl (by decide) rfl (fun ls hl => ?_)
              refine lv_iinc (v := nI (k + 1)) (lv' := [(4, _), (3, _), (5, _), (0, _), (1, _), (2, _)]) hx hb dX2_inside_72 hl (k := 5) rfl (nI_1 _) (by decide) rfl (fun ls hl => ?_)
              refine lv_goto (tgt := 5) hx hb dX2_inside_75 (by decide) ?_
              exact ih_loop (k + 1) (z + 1) (by omega) (by omega) (by rw [cn_s, hz, c19, c34, c49]; rfl) _ _ hP hD hS _ (lv_sub hl [3, 4, 5, 1, 0] rfl)
  exact loop 14 0 0 (by omega) (by omega) rfl _ _ hP hD hS _ (lv_sub hl [2, 3, 4, 1, 0] rfl)
end
section
theorem and_alm {X : Bool} {f : Nat → Bool} {n m : Nat} (hnm : n ≤ m) (h : (X && al_ n f) = false) : (X && al_ m f) = false := by
  cases X with
  | false => rfl
  | true =>
    rw [Bool.true_and] at h ⊢
    exact al_mono hnm h

set_option maxHeartbeats 4000000 in
set_option maxRecDepth 100000 in
/-- loose -/
theorem mX2_loose (l : Launch) (D : va_G) (dZ dN : ClassId) (ad : Nat → Nat) (sz : Nat) (J P : Nat) (mA mB : Nat → Nat) (S : Nat) (hJ : J ≤ 6) (hmb : mb_ mA mB) (hS8 : S < 8192) : mt_i l yX2_loose cX2_loose 5 .boolean (rr_ 1 25) D [(dZ, .boolean), (dN, .int)] (wM dZ dN ad J P mA mB) sz [.ref (ad 0), .int (nI S)] (fun (r : Int32) (_ : Unit) => r = nI (lo_ J mA mB S).toNat) (fun _ => wM dZ dN ad J P mA mB) := by
  refine en_i (by decide +kernel) (Nat.le_of_ble_eq_true rfl) ?_
  intro p e s m args below meth c A0 H0 Q hx hb hml hown hts hK hP hD hA hS ret ls hl
  have hown : s.vm.findClass RX2 = some m.cls := hown
  have hl : lv_has ls 5 [(0, .ref (ad 0)), (1, .int (nI S))] := hl
  refine lv_iconst (v := nI 1) hx hb dX2_loose_0 (by decide) ?_
  refine lv_istore_n (lv' := [(2, _), (0, _), (1, _)]) hx hb dX2_loose_1 rfl hl (by decide) rfl (fun ls hl => ?_)
  refine lv_iconst (v := nI 0) hx hb dX2_loose_2 (by decide) ?_
  refine lv_istore_n (lv' := [(3, _), (2, _), (0, _), (1, _)]) hx hb dX2_loose_3 rfl hl (by decide) rfl (fun ls hl => ?_)
  have h64 := p_64 hJ
  have loop : ∀ (n : Nat) (g : Nat) (ok : Bool), (2 ^ J + 1 ≤ g + n) → (g ≤ 2 ^ J) → (ok = al_ g (fun G => decide (sz_ G < 2) || decide (bi_ mA mB S G + 3 ≤ 2 * sz_ G))) → ∀ (H : Heap) (locs : List Loc), va_P D vwCl (wM dZ dN ad J P mA mB) H → va_D A0 (wM dZ dN ad J P mA mB) → va_S A0 H0 H locs → ∀ ls : Array Slot, lv_has ls 5 [(0, .ref (ad 0)), (1, .int (nI S)), (2, .int (nI ok.toNat)), (3, .int (nI g))] → W p l e (rr_ 1 25) s m args below meth c H locs 0 0 Q (F0 m 4 ls []) := by
    intro n
    induction n with
    | zero =>
      intro g ok hn hg hokk
      exfalso
      omega
    | succ n ih_loop =>
      intro g ok hn hg hokk H locs hP hD hS ls hl
      refine lv_iload_n hx hb dX2_loose_4 rfl (lv_at hl 3 rfl) ?_
      refine lv_iconst (v := nI 1) hx hb dX2_loose_5 (by decide) ?_
      refine lv_aload_n hx hb dX2_loose_6 rfl (lv_at hl 0 rfl) ?_
      refine gf2 hx hb hts hown hK hP rfl 0 (by decide) q180 rfl rfl dX2_loose_7 ?_
      refine nr_shl hx hb (by omega) dX2_loose_10 ?_
      refine nr_icmp_ge (tgt := 58) hx hb (by omega) (by omega) dX2_loose_11 (by decide) (fun c11 => ?_) (fun c11 => ?_)
      · refine lv_iload_n hx hb dX2_loose_58 rfl (lv_at hl 2 rfl) ?_
        exact ret _ _ _ _ _ () dX2_loose_59 (wd_rz _) (by rw [hokk, show g = 2 ^ J by omega]; rfl) hP hD hS
      · refine lv_iload_n hx hb dX2_loose_14 rfl (lv_at hl 2 rfl) ?_
        refine nr_beq (tgt := 58) hx hb dX2_loose_15 (by decide) (fun c15 => ?_) (fun c15 => ?_)
        · refine lv_iload_n hx hb dX2_loose_58 rfl (lv_at hl 2 rfl) ?_
          exact ret _ _ _ _ _ () dX2_loose_59 (wd_rz _) (by rw [c15, show lo_ J mA mB S = false from al_mono hg (by rw [← hokk]; exact c15)]) hP hD hS
        · refine lv_aload_n hx hb dX2_loose_18 rfl (lv_at hl 0 rfl) ?_
          refine lv_iload_n hx hb dX2_loose_19 rfl (lv_at hl 3 rfl) ?_
          refine cl_i ⟨hx, hb, hml, hown, hts⟩ hK hP hD hA hS rfl rfl (mX2_count l D dZ dN ad _ J P mA mB g (by omega)) (cwV 1 hts (lw_V q220 q222 qs12 q19 q223) rfl rfl rfl (by decide +kernel) ⟨Nat.le_of_ble_eq_true rfl, Nat.le_of_ble_eq_true rfl⟩) rfl hl.1 rfl (Nat.le_of_ble_eq_true rfl) ⟨Nat.le_refl _, Nat.le_refl _⟩ dX2_loose_20 (fun r1 u1 H locs hw hP hD hS => ?_)
          subst hw
          refine lv_istore (lv' := [(4, _), (0, _), (1, _), (2, _), (3, _)]) hx hb dX2_loose_23 hl (by decide) rfl (fun ls hl => ?_)
          refine lv_iload hx hb dX2_loose_25 (lv_at hl 0 rfl) ?_
          refine lv_iconst (v := nI 2) hx hb dX2_loose_27 (by decide) ?_
          refine nr_icmp_lt (tgt := 46) hx hb (sz_31 _) (by omega) dX2_loose_28 (by decide) (fun c28 => ?_) (fun c28 => ?_)
          · refine lv_iconst (v := nI 1) hx hb dX2_loose_46 (by decide) ?_
            refine lv_goto (tgt := 51) hx hb dX2_loose_47 (by decide) ?_
            refine lv_istore_n (lv' := [(2, _), (4, _), (0, _), (1, _), (3, _)]) hx hb dX2_loose_51 rfl hl (by decide) rfl (fun ls hl => ?_)
            refine lv_iinc (v := nI (g + 1)) (lv' := [(3, _), (2, _), (4, _), (0, _), (1, _)]) hx hb dX2_loose_52 hl (k := 4) rfl (nI_1 _) (by decide) rfl (fun ls hl => ?_)
            refine lv_goto (tgt := 4) hx hb dX2_loose_55 (by decide) ?_
            exact ih_loop (g + 1) true (by omega) (by omega) (by rw [al_s, ← hokk, c15, show decide (sz_ g < 2) = true from decide_eq_true c28]; rfl) _ _ hP hD hS _ (lv_sub hl [3, 4, 1, 0] rfl)
          · refine lv_aload_n hx hb dX2_loose_31 rfl (lv_at hl 1 rfl) ?_
            refine lv_iload_n hx hb dX2_loose_32 rfl (lv_at hl 2 rfl) ?_
            refine lv_iload_n hx hb dX2_loose_33 rfl (lv_at hl 4 rfl) ?_
            refine cl_i ⟨hx, hb, hml, hown, hts⟩ hK hP hD hA hS rfl rfl (mX2_inside l D dZ dN ad _ J P mA mB S g hmb hS8 (by omega)) (cwV 2 hts (lw_V q224 q226 qs13 q19 q227) rfl rfl rfl (by decide +kernel) ⟨Nat.le_of_ble_eq_true rfl, Nat.le_of_ble_eq_true rfl⟩) rfl hl.1 rfl (Nat.le_of_ble_eq_true rfl) ⟨Nat.le_refl _, Nat.le_refl _⟩ dX2_loose_34 (fun r2 u2 H locs hw hP hD hS => ?_)
            subst hw
            refine lv_iconst (v := nI 2) hx hb dX2_loose_37 (by decide) ?_
            refine lv_iload hx hb dX2_loose_38 (lv_at hl 0 rfl) ?_
            refine nr_mul hx hb dX2_loose_40 ?_
            refine lv_iconst (v := nI 3) hx hb dX2_loose_41 (by decide) ?_
            refine nr_sub hx hb (by omega) dX2_loose_42 ?_
            refine nr_icmp_gt (tgt := 50) hx hb (Nat.lt_of_le_of_lt (cn_le _ 13) (by decide)) (by have := cn_le (fun k => Nat.testBit g k) 13; unfold sz_; omega) dX2_loose_43 (by decide) (fun c43 => ?_) (fun c43 => ?_)
            · refine lv_iconst (v := nI 0) hx hb dX2_loose_50 (by decide) ?_
              refine lv_istore_n (lv' := [(2, _), (4, _), (0, _), (1, _), (3, _)]) hx hb dX2_loose_51 rfl hl (by decide) rfl (fun ls hl => ?_)
              refine lv_iinc (v := nI (g + 1)) (lv' := [(3, _), (2, _), (4, _), (0, _), (1, _)]) hx hb dX2_loose_52 hl (k := 4) rfl (nI_1 _) (by decide) rfl (fun ls hl => ?_)
              refine lv_goto (tgt := 4) hx hb dX2_loose_55 (by decide) ?_
              exact ih_loop (g + 1) false (by omega) (by omega) (by rw [al_s, ← hokk, c15, show decide (sz_ g < 2) = false from decide_eq_false (by omega), show decide (bi_ mA mB S g + 3 ≤ 2 * sz_ g) = false from decide_eq_false (by omega)]; rfl) _ _ hP hD hS _ (lv_sub hl [3, 4, 1, 0] rfl)
            · refine lv_iconst (v := nI 1) hx hb dX2_loose_46 (by decide) ?_
              refine lv_goto (tgt := 51) hx hb dX2_loose_47 (by decide) ?_
              refine lv_istore_n (lv' := [(2, _), (4, _), (0, _), (1, _), (3, _)]) hx hb dX2_loose_51 rfl hl (by decide) rfl (fun ls hl => ?_)
              refine lv_iinc (v := nI (g + 1)) (lv' := [(3, _), (2, _), (4, _), (0, _), (1, _)]) hx hb dX2_loose_52 hl (k := 4) rfl (nI_1 _) (by decide) rfl (fun ls hl => ?_)
              refine lv_goto (tgt := 4) hx hb dX2_loose_55 (by decide) ?_
              exact ih_loop (g + 1) true (by omega) (by omega) (by rw [al_s, ← hokk, c15, show decide (sz_ g < 2) = false from decide_eq_false (by omega), show decide (bi_ mA mB S g + 3 ≤ 2 * sz_ g) = true from decide_eq_true (by omega)]; rfl) _ _ hP hD hS _ (lv_sub hl [3, 4, 1, 0] rfl)
  exact loop (2 ^ J + 1) 0 true (by omega) (Nat.zero_le _) rfl _ _ hP hD hS _ (lv_sub hl [2, 3, 1, 0] rfl)

set_option maxHeartbeats 4000000 in
set_option maxRecDepth 100000 in
/-- taken -/
theorem mX2_taken (l : Launch) (D : va_G) (dZ dN : ClassId) (ad : Nat → Nat) (sz : Nat) (J P : Nat) (mA mB : Nat → Nat) (S : Nat) (hJ : J ≤ 6) (hmb : mb_ mA mB) (hS8 : S < 8192) : mt_i l yX2_taken cX2_taken 5 .int (rr_ 2 49) D [(dZ, .boolean), (dN, .int)] (wM dZ dN ad J P mA mB) sz [.ref (ad 0), .int (nI S)] (fun (r : Int32) (_ : Unit) => r = nI (tk_ J mA mB S 13)) (fun _ => wM dZ dN ad J P mA mB) := by
  refine en_i (by decide +kernel) (Nat.le_of_ble_eq_true rfl) ?_
  intro p e s m args below meth c A0 H0 Q hx hb hml hown hts hK hP hD hA hS ret ls hl
  have hown : s.vm.findClass RX2 = some m.cls := hown
  have hl : lv_has ls 5 [(0, .ref (ad 0)), (1, .int (nI S))] := hl
  refine lv_iconst (v := nI 0) hx hb dX2_taken_0 (by decide) ?_
  refine lv_istore_n (lv' := [(2, _), (0, _), (1, _)]) hx hb dX2_taken_1 rfl hl (by decide) rfl (fun ls hl => ?_)
  refine lv_iconst (v := nI 0) hx hb dX2_taken_2 (by decide) ?_
  refine lv_istore_n (lv' := [(3, _), (2, _), (0, _), (1, _)]) hx hb dX2_taken_3 rfl hl (by decide) rfl (fun ls hl => ?_)
  have loop : ∀ (n : Nat) (k z : Nat), (13 + 1 ≤ k + n) → (k ≤ 13) → (z = tk_ J mA mB S k) → ∀ (H : Heap) (locs : List Loc), va_P D vwCl (wM dZ dN ad J P mA mB) H → va_D A0 (wM dZ dN ad J P mA mB) → va_S A0 H0 H locs → ∀ ls : Array Slot, lv_has ls 5 [(0, .ref (ad 0)), (1, .int (nI S)), (2, .int (nI z)), (3, .int (nI k))] → W p l e (rr_ 2 49) s m args below meth c H locs 0 0 Q (F0 m 4 ls []) := by
    intro n
    induction n with
    | zero =>
      intro k z hn hk hz
      exfalso
      omega
    | succ n ih_loop =>
      intro k z hn hk hz H locs hP hD hS ls hl
      refine lv_iload_n hx hb dX2_taken_4 rfl (lv_at hl 3 rfl) ?_
      refine lv_bipush (v := nI 13) hx hb dX2_taken_5 (by decide) ?_
      refine nr_icmp_ge (tgt := 59) hx hb (by omega) (by omega) dX2_taken_7 (by decide) (fun c7 => ?_) (fun c7 => ?_)
      · refine lv_iload_n hx hb dX2_taken_59 rfl (lv_at hl 2 rfl) ?_
        exact ret _ _ _ _ _ () dX2_taken_60 (rfl) (by rw [hz, show k = 13 by omega]) hP hD hS
      · have hz8 : z < 8192 := by rw [hz]; exact tk_31b _ _ _ _ _ hk
        refine lv_iload_n hx hb dX2_taken_10 rfl (lv_at hl 1 rfl) ?_
        refine lv_iload_n hx hb dX2_taken_11 rfl (lv_at hl 3 rfl) ?_
        refine nr_bit hx hb (by omega) (by omega) dX2_taken_12 dX2_taken_13 dX2_taken_14 ?_
        refine lv_iconst (v := nI 1) hx hb dX2_taken_15 (by decide) ?_
        refine nr_bne1 (tgt := 35) hx hb dX2_taken_16 (by decide) (fun c16 => ?_) (fun c16 => ?_)
        · refine lv_iconst (v := nI 0) hx hb dX2_taken_35 (by decide) ?_
          refine lv_istore (lv' := [(4, _), (0, _), (1, _), (2, _), (3, _)]) hx hb dX2_taken_36 hl (by decide) rfl (fun ls hl => ?_)
          refine lv_iload hx hb dX2_taken_38 (lv_at hl 0 rfl) ?_
          refine lv_if_eq (tgt := 51) hx hb dX2_taken_40 (by decide) (fun c40 => ?_) (fun c40 => absurd nI_0 c40)
          refine lv_iload_n hx hb dX2_taken_51 rfl (lv_at hl 3 rfl) ?_
          refine lv_istore_n (lv' := [(2, _), (4, _), (0, _), (1, _), (3, _)]) hx hb dX2_taken_52 rfl hl (by decide) rfl (fun ls hl => ?_)
          refine lv_iinc (v := nI (k + 1)) (lv' := [(3, _), (2, _), (4, _), (0, _), (1, _)]) hx hb dX2_taken_53 hl (k := 4) rfl (nI_1 _) (by decide) rfl (fun ls hl => ?_)
          refine lv_goto (tgt := 4) hx hb dX2_taken_56 (by decide) ?_
          exact ih_loop (k + 1) z (by omega) (by omega) (by rw [tk_s, ← hz, c16]; rfl) _ _ hP hD hS _ (lv_sub hl [3, 4, 1, 0] rfl)
        · refine lv_aload_n hx hb dX2_taken_19 rfl (lv_at hl 0 rfl) ?_
          refine lv_iload_n hx hb dX2_taken_20 rfl (lv_at hl 2 rfl) ?_
          refine lv_iconst (v := nI 1) hx hb dX2_taken_21 (by decide) ?_
          refine lv_iload_n hx hb dX2_taken_22 rfl (lv_at hl 3 rfl) ?_
          refine nr_shl hx hb (by omega) dX2_taken_23 ?_
          refine nr_or hx hb dX2_taken_24 ?_
          refine cl_i ⟨hx, hb, hml, hown, hts⟩ hK hP hD hA hS rfl rfl (mX2_loose l D dZ dN ad _ J P mA mB (z ||| 2 ^ k) hJ hmb (or_lt (n := 13) hz8 (p_lt c7))) (cwV 1 hts (lw_V q216 q218 qs11 q19 q219) rfl rfl rfl (by decide +kernel) ⟨Nat.le_of_ble_eq_true rfl, Nat.le_of_ble_eq_true rfl⟩) rfl hl.1 rfl (Nat.le_of_ble_eq_true rfl) ⟨Nat.le_refl _, Nat.le_refl _⟩ dX2_taken_25 (fun r1 u1 H locs hw hP hD hS => ?_)
          subst hw
          refine nr_beq (tgt := 35) hx hb dX2_taken_28 (by decide) (fun c28 => ?_) (fun c28 => ?_)
          · refine lv_iconst (v := nI 0) hx hb dX2_taken_35 (by decide) ?_
            refine lv_istore (lv' := [(4, _), (0, _), (1, _), (2, _), (3, _)]) hx hb dX2_taken_36 hl (by decide) rfl (fun ls hl => ?_)
            refine lv_iload hx hb dX2_taken_38 (lv_at hl 0 rfl) ?_
            refine lv_if_eq (tgt := 51) hx hb dX2_taken_40 (by decide) (fun c40 => ?_) (fun c40 => absurd nI_0 c40)
            refine lv_iload_n hx hb dX2_taken_51 rfl (lv_at hl 3 rfl) ?_
            refine lv_istore_n (lv' := [(2, _), (4, _), (0, _), (1, _), (3, _)]) hx hb dX2_taken_52 rfl hl (by decide) rfl (fun ls hl => ?_)
            refine lv_iinc (v := nI (k + 1)) (lv' := [(3, _), (2, _), (4, _), (0, _), (1, _)]) hx hb dX2_taken_53 hl (k := 4) rfl (nI_1 _) (by decide) rfl (fun ls hl => ?_)
            refine lv_goto (tgt := 4) hx hb dX2_taken_56 (by decide) ?_
            exact ih_loop (k + 1) z (by omega) (by omega) (by rw [tk_s, ← hz, c16, c28]; rfl) _ _ hP hD hS _ (lv_sub hl [3, 4, 1, 0] rfl)
          · refine lv_iconst (v := nI 1) hx hb dX2_taken_31 (by decide) ?_
            refine lv_goto (tgt := 36) hx hb dX2_taken_32 (by decide) ?_
            refine lv_istore (lv' := [(4, _), (0, _), (1, _), (2, _), (3, _)]) hx hb dX2_taken_36 hl (by decide) rfl (fun ls hl => ?_)
            refine lv_iload hx hb dX2_taken_38 (lv_at hl 0 rfl) ?_
            refine lv_if_eq (tgt := 51) hx hb dX2_taken_40 (by decide) (fun c40 => absurd c40 (by decide)) (fun c40 => ?_)
            refine lv_iload_n hx hb dX2_taken_43 rfl (lv_at hl 3 rfl) ?_
            refine lv_iconst (v := nI 1) hx hb dX2_taken_44 (by decide) ?_
            refine lv_iload_n hx hb dX2_taken_45 rfl (lv_at hl 4 rfl) ?_
            refine nr_shl hx hb (by omega) dX2_taken_46 ?_
            refine nr_or hx hb dX2_taken_47 ?_
            refine lv_goto (tgt := 52) hx hb dX2_taken_48 (by decide) ?_
            refine lv_istore_n (lv' := [(2, _), (4, _), (0, _), (1, _), (3, _)]) hx hb dX2_taken_52 rfl hl (by decide) rfl (fun ls hl => ?_)
            refine lv_iinc (v := nI (k + 1)) (lv' := [(3, _), (2, _), (4, _), (0, _), (1, _)]) hx hb dX2_taken_53 hl (k := 4) rfl (nI_1 _) (by decide) rfl (fun ls hl => ?_)
            refine lv_goto (tgt := 4) hx hb dX2_taken_56 (by decide) ?_
            exact ih_loop (k + 1) (z ||| (2 ^ k)) (by omega) (by omega) (by rw [tk_s, ← hz, c16, c28]; rfl) _ _ hP hD hS _ (lv_sub hl [3, 4, 1, 0] rfl)
  exact loop 14 0 0 (by omega) (by omega) rfl _ _ hP hD hS _ (lv_sub hl [2, 3, 1, 0] rfl)

set_option maxHeartbeats 4000000 in
set_option maxRecDepth 100000 in
/-- rankOf -/
theorem mX2_rankOf (l : Launch) (D : va_G) (dZ dN : ClassId) (ad : Nat → Nat) (sz : Nat) (J P : Nat) (mA mB : Nat → Nat) (S : Nat) (hJ : J ≤ 6) (hmb : mb_ mA mB) (hS8 : S < 8192) : mt_i l yX2_rankOf cX2_rankOf 3 .int (rr_ 3 73) D [(dZ, .boolean), (dN, .int)] (wM dZ dN ad J P mA mB) sz [.ref (ad 0), .int (nI S)] (fun (r : Int32) (_ : Unit) => r = nI (sz_ (tk_ J mA mB S 13))) (fun _ => wM dZ dN ad J P mA mB) := by
  refine en_i (by decide +kernel) (Nat.le_of_ble_eq_true rfl) ?_
  intro p e s m args below meth c A0 H0 Q hx hb hml hown hts hK hP hD hA hS ret ls hl
  have hown : s.vm.findClass RX2 = some m.cls := hown
  have hl : lv_has ls 3 [(0, .ref (ad 0)), (1, .int (nI S))] := hl
  refine lv_aload_n hx hb dX2_rankOf_0 rfl (lv_at hl 0 rfl) ?_
  refine lv_iload_n hx hb dX2_rankOf_1 rfl (lv_at hl 1 rfl) ?_
  refine cl_i ⟨hx, hb, hml, hown, hts⟩ hK hP hD hA hS rfl rfl (mX2_taken l D dZ dN ad _ J P mA mB S hJ hmb hS8) (cwV 1 hts (lw_V q236 q238 qs15 q19 q239) rfl rfl rfl (by decide +kernel) ⟨Nat.le_of_ble_eq_true rfl, Nat.le_of_ble_eq_true rfl⟩) rfl hl.1 rfl (Nat.le_of_ble_eq_true rfl) ⟨Nat.le_refl _, Nat.le_refl _⟩ dX2_rankOf_2 (fun r1 u1 H locs hw hP hD hS => ?_)
  subst hw
  refine lv_istore_n (lv' := [(2, _), (0, _), (1, _)]) hx hb dX2_rankOf_5 rfl hl (by decide) rfl (fun ls hl => ?_)
  refine lv_aload_n hx hb dX2_rankOf_6 rfl (lv_at hl 1 rfl) ?_
  refine lv_iload_n hx hb dX2_rankOf_7 rfl (lv_at hl 0 rfl) ?_
  refine cl_i ⟨hx, hb, hml, hown, hts⟩ hK hP hD hA hS rfl rfl (mX2_count l D dZ dN ad _ J P mA mB (tk_ J mA mB S 13) (tk_31b _ _ _ _ _ (by decide))) (cwV 1 hts (lw_V q220 q222 qs12 q19 q223) rfl rfl rfl (by decide +kernel) ⟨Nat.le_of_ble_eq_true rfl, Nat.le_of_ble_eq_true rfl⟩) rfl hl.1 rfl (Nat.le_of_ble_eq_true rfl) ⟨Nat.le_refl _, Nat.le_refl _⟩ dX2_rankOf_8 (fun r2 u2 H locs hw hP hD hS => ?_)
  subst hw
  exact ret _ _ _ _ _ () dX2_rankOf_11 (rfl) (rfl) hP hD hS

set_option maxHeartbeats 4000000 in
set_option maxRecDepth 100000 in
/-- free -/
theorem mX2_free (l : Launch) (D : va_G) (dZ dN : ClassId) (ad : Nat → Nat) (sz : Nat) (J P : Nat) (A B : Nat → Nat) (x0 y0 : Nat) (x : Int32) (hok : ok_ J P A B) (hmb : mb_ (up_ A 12 x0) (up_ B 12 y0)) : mt_i l yX2_free cX2_free 2 .boolean (rr_ 2 49) D [(dZ, .boolean), (dN, .int)] (wM dZ dN ad J P (up_ A 12 x0) (up_ B 12 y0)) sz [.ref (ad 0), .int x] (fun (r : Int32) (_ : Unit) => r = nI (lo_ J A B (un_ x &&& P)).toNat) (fun _ => wM dZ dN ad J P (up_ A 12 x0) (up_ B 12 y0)) := by
  refine en_i (by decide +kernel) (Nat.le_of_ble_eq_true rfl) ?_
  intro p e s m args below meth c A0 H0 Q hx hb hml hown hts hK hP hD hA hS ret ls hl
  have hown : s.vm.findClass RX2 = some m.cls := hown
  have hl : lv_has ls 2 [(0, .ref (ad 0)), (1, .int x)] := hl
  rw [un_eq x] at hl
  refine lv_aload_n hx hb dX2_free_0 rfl (lv_at hl 0 rfl) ?_
  refine lv_iload_n hx hb dX2_free_1 rfl (lv_at hl 1 rfl) ?_
  refine lv_aload_n hx hb dX2_free_2 rfl (lv_at hl 0 rfl) ?_
  refine cl_i ⟨hx, hb, hml, hown, hts⟩ hK hP hD hA hS rfl rfl (mX2_bars l D dZ dN ad _ J P (up_ A 12 x0) (up_ B 12 y0) hok.2.2.1) (cwV 0 hts (lw_V q215 q208 q209 q19 q210) rfl rfl rfl (by decide +kernel) ⟨Nat.le_of_ble_eq_true rfl, Nat.le_of_ble_eq_true rfl⟩) rfl hl.1 rfl (Nat.le_of_ble_eq_true rfl) ⟨Nat.le_refl _, Nat.le_refl _⟩ dX2_free_3 (fun r1 u1 H locs hw hP hD hS => ?_)
  subst hw
  refine nr_and hx hb dX2_free_6 ?_
  refine cl_i ⟨hx, hb, hml, hown, hts⟩ hK hP hD hA hS rfl rfl (mX2_loose l D dZ dN ad _ J P (up_ A 12 x0) (up_ B 12 y0) (un_ x &&& P) hok.2.1 hmb (Nat.lt_trans (and_lt2 (n := 12) hok.2.2.1) (by decide))) (cwV 1 hts (lw_V q216 q218 qs11 q19 q219) rfl rfl rfl (by decide +kernel) ⟨Nat.le_of_ble_eq_true rfl, Nat.le_of_ble_eq_true rfl⟩) rfl hl.1 rfl (Nat.le_of_ble_eq_true rfl) ⟨Nat.le_refl _, Nat.le_refl _⟩ dX2_free_7 (fun r2 u2 H locs hw hP hD hS => ?_)
  rw [lo_12 (and_lt2 (n := 12) hok.2.2.1)] at hw
  subst hw
  exact ret _ _ _ _ _ () dX2_free_10 (wd_rz _) (rfl) hP hD hS

set_option maxHeartbeats 4000000 in
set_option maxRecDepth 100000 in
/-- rank -/
theorem mX2_rank (l : Launch) (D : va_G) (dZ dN : ClassId) (ad : Nat → Nat) (sz : Nat) (J P : Nat) (A B : Nat → Nat) (x0 y0 : Nat) (x : Int32) (hok : ok_ J P A B) (hmb : mb_ (up_ A 12 x0) (up_ B 12 y0)) : mt_i l yX2_rank cX2_rank 2 .int (rr_ 4 95) D [(dZ, .boolean), (dN, .int)] (wM dZ dN ad J P (up_ A 12 x0) (up_ B 12 y0)) sz [.ref (ad 0), .int x] (fun (r : Int32) (_ : Unit) => r = nI (sz_ (tk_ J A B (un_ x &&& P) 12))) (fun _ => wM dZ dN ad J P (up_ A 12 x0) (up_ B 12 y0)) := by
  refine en_i (by decide +kernel) (Nat.le_of_ble_eq_true rfl) ?_
  intro p e s m args below meth c A0 H0 Q hx hb hml hown hts hK hP hD hA hS ret ls hl
  have hown : s.vm.findClass RX2 = some m.cls := hown
  have hl : lv_has ls 2 [(0, .ref (ad 0)), (1, .int x)] := hl
  rw [un_eq x] at hl
  refine lv_aload_n hx hb dX2_rank_0 rfl (lv_at hl 0 rfl) ?_
  refine lv_iload_n hx hb dX2_rank_1 rfl (lv_at hl 1 rfl) ?_
  refine lv_aload_n hx hb dX2_rank_2 rfl (lv_at hl 0 rfl) ?_
  refine cl_i ⟨hx, hb, hml, hown, hts⟩ hK hP hD hA hS rfl rfl (mX2_bars l D dZ dN ad _ J P (up_ A 12 x0) (up_ B 12 y0) hok.2.2.1) (cwV 0 hts (lw_V q215 q208 q209 q19 q210) rfl rfl rfl (by decide +kernel) ⟨Nat.le_of_ble_eq_true rfl, Nat.le_of_ble_eq_true rfl⟩) rfl hl.1 rfl (Nat.le_of_ble_eq_true rfl) ⟨Nat.le_refl _, Nat.le_refl _⟩ dX2_rank_3 (fun r1 u1 H locs hw hP hD hS => ?_)
  subst hw
  refine nr_and hx hb dX2_rank_6 ?_
  refine cl_i ⟨hx, hb, hml, hown, hts⟩ hK hP hD hA hS rfl rfl (mX2_rankOf l D dZ dN ad _ J P (up_ A 12 x0) (up_ B 12 y0) (un_ x &&& P) hok.2.1 hmb (Nat.lt_trans (and_lt2 (n := 12) hok.2.2.1) (by decide))) (cwV 1 hts (lw_V q232 q234 qs14 q19 q235) rfl rfl rfl (by decide +kernel) ⟨Nat.le_of_ble_eq_true rfl, Nat.le_of_ble_eq_true rfl⟩) rfl hl.1 rfl (Nat.le_of_ble_eq_true rfl) ⟨Nat.le_refl _, Nat.le_refl _⟩ dX2_rank_7 (fun r2 u2 H locs hw hP hD hS => ?_)
  rw [tk_13 (and_lt2 (n := 12) hok.2.2.1)] at hw
  subst hw
  exact ret _ _ _ _ _ () dX2_rank_10 (rfl) (rfl) hP hD hS

set_option maxHeartbeats 4000000 in
set_option maxRecDepth 100000 in
/-- frame -/
theorem mX2_frame (l : Launch) (D : va_G) (dZ dN : ClassId) (ad : Nat → Nat) (sz : Nat) (J P : Nat) (A B : Nat → Nat) (x0 y0 : Nat)  (hok : ok_ J P A B) (hmb : mb_ (up_ A 12 x0) (up_ B 12 y0)) : mt_i l yX2_frame cX2_frame 1 .int (rr_ 3 73) D [(dZ, .boolean), (dN, .int)] (wM dZ dN ad J P (up_ A 12 x0) (up_ B 12 y0)) sz [.ref (ad 0)] (fun (r : Int32) (_ : Unit) => r = nI (tk_ J A B P 12)) (fun _ => wM dZ dN ad J P (up_ A 12 x0) (up_ B 12 y0)) := by
  refine en_i (by decide +kernel) (Nat.le_of_ble_eq_true rfl) ?_
  intro p e s m args below meth c A0 H0 Q hx hb hml hown hts hK hP hD hA hS ret ls hl
  have hown : s.vm.findClass RX2 = some m.cls := hown
  have hl : lv_has ls 1 [(0, .ref (ad 0))] := hl
  refine lv_aload_n hx hb dX2_frame_0 rfl (lv_at hl 0 rfl) ?_
  refine lv_aload_n hx hb dX2_frame_1 rfl (lv_at hl 0 rfl) ?_
  refine cl_i ⟨hx, hb, hml, hown, hts⟩ hK hP hD hA hS rfl rfl (mX2_bars l D dZ dN ad _ J P (up_ A 12 x0) (up_ B 12 y0) hok.2.2.1) (cwV 0 hts (lw_V q215 q208 q209 q19 q210) rfl rfl rfl (by decide +kernel) ⟨Nat.le_of_ble_eq_true rfl, Nat.le_of_ble_eq_true rfl⟩) rfl hl.1 rfl (Nat.le_of_ble_eq_true rfl) ⟨Nat.le_refl _, Nat.le_refl _⟩ dX2_frame_2 (fun r1 u1 H locs hw hP hD hS => ?_)
  subst hw
  refine cl_i ⟨hx, hb, hml, hown, hts⟩ hK hP hD hA hS rfl rfl (mX2_taken l D dZ dN ad _ J P (up_ A 12 x0) (up_ B 12 y0) P hok.2.1 hmb (Nat.lt_trans hok.2.2.1 (by decide))) (cwV 1 hts (lw_V q236 q238 qs15 q19 q239) rfl rfl rfl (by decide +kernel) ⟨Nat.le_of_ble_eq_true rfl, Nat.le_of_ble_eq_true rfl⟩) rfl hl.1 rfl (Nat.le_of_ble_eq_true rfl) ⟨Nat.le_refl _, Nat.le_refl _⟩ dX2_frame_5 (fun r2 u2 H locs hw hP hD hS => ?_)
  rw [tk_13 hok.2.2.1] at hw
  subst hw
  exact ret _ _ _ _ _ () dX2_frame_8 (rfl) (rfl) hP hD hS

set_option maxHeartbeats 4000000 in
set_option maxRecDepth 100000 in
/-- freedom -/
theorem mX2_freedom (l : Launch) (D : va_G) (dZ dN : ClassId) (ad : Nat → Nat) (sz : Nat) (J P : Nat) (A B : Nat → Nat) (x0 y0 : Nat)  (hok : ok_ J P A B) (hmb : mb_ (up_ A 12 x0) (up_ B 12 y0)) : mt_i l yX2_freedom cX2_freedom 1 .int (rr_ 4 95) D [(dZ, .boolean), (dN, .int)] (wM dZ dN ad J P (up_ A 12 x0) (up_ B 12 y0)) sz [.ref (ad 0)] (fun (r : Int32) (_ : Unit) => r = fd_ J A B P) (fun _ => wM dZ dN ad J P (up_ A 12 x0) (up_ B 12 y0)) := by
  refine en_i (by decide +kernel) (Nat.le_of_ble_eq_true rfl) ?_
  intro p e s m args below meth c A0 H0 Q hx hb hml hown hts hK hP hD hA hS ret ls hl
  have hown : s.vm.findClass RX2 = some m.cls := hown
  have hl : lv_has ls 1 [(0, .ref (ad 0))] := hl
  refine lv_iconst (v := nI 2) hx hb dX2_freedom_0 (by decide) ?_
  refine lv_aload_n hx hb dX2_freedom_1 rfl (lv_at hl 0 rfl) ?_
  refine gf2 hx hb hts hown hK hP rfl 0 (by decide) q180 rfl rfl dX2_freedom_2 ?_
  refine nr_mul hx hb dX2_freedom_5 ?_
  refine lv_iconst (v := nI 3) hx hb dX2_freedom_6 (by decide) ?_
  refine nr_sub hx hb (by have := hok.1; omega) dX2_freedom_7 ?_
  refine lv_aload_n hx hb dX2_freedom_8 rfl (lv_at hl 0 rfl) ?_
  refine lv_aload_n hx hb dX2_freedom_9 rfl (lv_at hl 0 rfl) ?_
  refine cl_i ⟨hx, hb, hml, hown, hts⟩ hK hP hD hA hS rfl rfl (mX2_bars l D dZ dN ad _ J P (up_ A 12 x0) (up_ B 12 y0) hok.2.2.1) (cwV 0 hts (lw_V q215 q208 q209 q19 q210) rfl rfl rfl (by decide +kernel) ⟨Nat.le_of_ble_eq_true rfl, Nat.le_of_ble_eq_true rfl⟩) rfl hl.1 rfl (Nat.le_of_ble_eq_true rfl) ⟨Nat.le_refl _, Nat.le_refl _⟩ dX2_freedom_10 (fun r1 u1 H locs hw hP hD hS => ?_)
  subst hw
  refine cl_i ⟨hx, hb, hml, hown, hts⟩ hK hP hD hA hS rfl rfl (mX2_rankOf l D dZ dN ad _ J P (up_ A 12 x0) (up_ B 12 y0) P hok.2.1 hmb (Nat.lt_trans hok.2.2.1 (by decide))) (cwV 1 hts (lw_V q232 q234 qs14 q19 q235) rfl rfl rfl (by decide +kernel) ⟨Nat.le_of_ble_eq_true rfl, Nat.le_of_ble_eq_true rfl⟩) rfl hl.1 rfl (Nat.le_of_ble_eq_true rfl) ⟨Nat.le_refl _, Nat.le_refl _⟩ dX2_freedom_13 (fun r2 u2 H locs hw hP hD hS => ?_)
  rw [tk_13 hok.2.2.1] at hw
  subst hw
  refine lv_isub hx hb dX2_freedom_16 ?_
  exact ret _ _ _ _ _ () dX2_freedom_17 (rfl) (rfl) hP hD hS

set_option maxHeartbeats 4000000 in
set_option maxRecDepth 100000 in
/-- rigid -/
theorem mX2_rigid (l : Launch) (D : va_G) (dZ dN : ClassId) (ad : Nat → Nat) (sz : Nat) (J P : Nat) (A B : Nat → Nat) (x0 y0 : Nat)  (hok : ok_ J P A B) (hmb : mb_ (up_ A 12 x0) (up_ B 12 y0)) : mt_i l yX2_rigid cX2_rigid 1 .boolean (rr_ 5 115) D [(dZ, .boolean), (dN, .int)] (wM dZ dN ad J P (up_ A 12 x0) (up_ B 12 y0)) sz [.ref (ad 0)] (fun (r : Int32) (_ : Unit) => r = nI (decide (fd_ J A B P = 0)).toNat) (fun _ => wM dZ dN ad J P (up_ A 12 x0) (up_ B 12 y0)) := by
  refine en_i (by decide +kernel) (Nat.le_of_ble_eq_true rfl) ?_
  intro p e s m args below meth c A0 H0 Q hx hb hml hown hts hK hP hD hA hS ret ls hl
  have hown : s.vm.findClass RX2 = some m.cls := hown
  have hl : lv_has ls 1 [(0, .ref (ad 0))] := hl
  refine lv_aload_n hx hb dX2_rigid_0 rfl (lv_at hl 0 rfl) ?_
  refine cl_i ⟨hx, hb, hml, hown, hts⟩ hK hP hD hA hS rfl rfl (mX2_freedom l D dZ dN ad _ J P A B x0 y0 hok hmb) (cwV 0 hts (lw_V q248 q249 q250 q19 q251) rfl rfl rfl (by decide +kernel) ⟨Nat.le_of_ble_eq_true rfl, Nat.le_of_ble_eq_true rfl⟩) rfl hl.1 rfl (Nat.le_of_ble_eq_true rfl) ⟨Nat.le_refl _, Nat.le_refl _⟩ dX2_rigid_1 (fun r1 u1 H locs hw hP hD hS => ?_)
  subst hw
  refine lv_if_ne (tgt := 11) hx hb dX2_rigid_4 (by decide) (fun c4 => ?_) (fun c4 => ?_)
  · refine lv_iconst (v := nI 0) hx hb dX2_rigid_11 (by decide) ?_
    exact ret _ _ _ _ _ () dX2_rigid_12 (rfl) (by rw [decide_eq_false c4]; rfl) hP hD hS
  · refine lv_iconst (v := nI 1) hx hb dX2_rigid_7 (by decide) ?_
    refine lv_goto (tgt := 12) hx hb dX2_rigid_8 (by decide) ?_
    exact ret _ _ _ _ _ () dX2_rigid_12 (rfl) (by rw [decide_eq_true c4]; rfl) hP hD hS
end
section
set_option maxHeartbeats 4000000 in
set_option maxRecDepth 100000 in
/-- held -/
theorem mX2_held (l : Launch) (D : va_G) (dZ dN : ClassId) (ad : Nat → Nat) (sz : Nat) (J P : Nat) (A B : Nat → Nat) (x0 y0 : Nat) (x y : Int32) (hok : ok_ J P A B) (hmb : mb_ (up_ A 12 x0) (up_ B 12 y0)) : mt_i l yX2_held cX2_held 4 .boolean (rr_ 4 95) D [(dZ, .boolean), (dN, .int)] (wM dZ dN ad J P (up_ A 12 x0) (up_ B 12 y0)) sz [.ref (ad 0), .int x, .int y] (fun (r : Int32) (u : Nat × Nat) => r = nI (he_ J A B P x y).toNat ∧ mb_ (up_ A 12 u.1) (up_ B 12 u.2)) (fun u => wM dZ dN ad J P (up_ A 12 u.1) (up_ B 12 u.2)) := by
  refine en_i (by decide +kernel) (Nat.le_of_ble_eq_true rfl) ?_
  intro p e s m args below meth c A0 H0 Q hx hb hml hown hts hK hP hD hA hS ret ls hl
  have hown : s.vm.findClass RX2 = some m.cls := hown
  have hl : lv_has ls 4 [(0, .ref (ad 0)), (1, .int x), (2, .int y)] := hl
  refine lv_iload_n hx hb dX2_held_0 rfl (lv_at hl 1 rfl) ?_
  refine lv_iload_n hx hb dX2_held_1 rfl (lv_at hl 2 rfl) ?_
  refine lv_icmp_eq (tgt := 21) hx hb dX2_held_2 (by decide) (fun c2 => ?_) (fun c2 => ?_)
  · refine lv_iconst (v := nI 0) hx hb dX2_held_21 (by decide) ?_
    have hba : ba_ J x y = true := by first | exact ba_eq c2 | exact ba_x c10 | exact ba_y c18
    exact ret _ _ _ _ _ (x0, y0) dX2_held_22 rfl ⟨by unfold he_; rw [hba]; rfl, hmb⟩ hP hD hS
  · refine lv_aload_n hx hb dX2_held_5 rfl (lv_at hl 0 rfl) ?_
    refine lv_iload_n hx hb dX2_held_6 rfl (lv_at hl 1 rfl) ?_
    refine cl_i ⟨hx, hb, hml, hown, hts⟩ hK hP hD hA hS rfl rfl (mX2_joint l D dZ dN ad _ J P (up_ A 12 x0) (up_ B 12 y0) x) (cwV 1 hts (lw_V q199 q201 qs10 q19 q202) rfl rfl rfl (by decide +kernel) ⟨Nat.le_of_ble_eq_true rfl, Nat.le_of_ble_eq_true rfl⟩) rfl hl.1 rfl (Nat.le_of_ble_eq_true rfl) ⟨Nat.le_refl _, Nat.le_refl _⟩ dX2_held_7 (fun r1 u1 H locs hw hP hD hS => ?_)
    subst hw
    refine nr_beq (tgt := 21) hx hb dX2_held_10 (by decide) (fun c10 => ?_) (fun c10 => ?_)
    · refine lv_iconst (v := nI 0) hx hb dX2_held_21 (by decide) ?_
      have hba : ba_ J x y = true := by first | exact ba_eq c2 | exact ba_x c10 | exact ba_y c18
      exact ret _ _ _ _ _ (x0, y0) dX2_held_22 rfl ⟨by unfold he_; rw [hba]; rfl, hmb⟩ hP hD hS
    · refine lv_aload_n hx hb dX2_held_13 rfl (lv_at hl 0 rfl) ?_
      refine lv_iload_n hx hb dX2_held_14 rfl (lv_at hl 2 rfl) ?_
      refine cl_i ⟨hx, hb, hml, hown, hts⟩ hK hP hD hA hS rfl rfl (mX2_joint l D dZ dN ad _ J P (up_ A 12 x0) (up_ B 12 y0) y) (cwV 1 hts (lw_V q199 q201 qs10 q19 q202) rfl rfl rfl (by decide +kernel) ⟨Nat.le_of_ble_eq_true rfl, Nat.le_of_ble_eq_true rfl⟩) rfl hl.1 rfl (Nat.le_of_ble_eq_true rfl) ⟨Nat.le_refl _, Nat.le_refl _⟩ dX2_held_15 (fun r2 u2 H locs hw hP hD hS => ?_)
      subst hw
      refine nr_bne (tgt := 23) hx hb dX2_held_18 (by decide) (fun c18 => ?_) (fun c18 => ?_)
      · have hJ := hok.2.1
        obtain ⟨a, ha, rfl⟩ := (jo_iff (by omega)).mp c10
        obtain ⟨b, hb2, rfl⟩ := (jo_iff (by omega)).mp c18
        have hba := ba_no c2 c10 c18
        have hne : a ≠ b := fun q => c2 (by rw [q])
        refine lv_aload_n hx hb dX2_held_23 rfl (lv_at hl 0 rfl) ?_
        refine gf2 hx hb hts hown hK hP rfl 2 (by decide) q182 rfl rfl dX2_held_24 ?_
        refine lv_bipush (v := nI 12) hx hb dX2_held_27 (by decide) ?_
        refine lv_iload_n hx hb dX2_held_29 rfl (lv_at hl 1 rfl) ?_
        refine nr_iast hx hb hK hP hD hS 2 1 rfl rfl (by decide) (by omega) dX2_held_30 (fun H locs hP hD hS => ?_)
        have hP : va_P D vwCl (wM dZ dN ad J P (up_ (up_ A 12 x0) 12 a) (up_ B 12 y0)) H := hP
        have hD : va_D A0 (wM dZ dN ad J P (up_ (up_ A 12 x0) 12 a) (up_ B 12 y0)) := hD
        refine lv_aload_n hx hb dX2_held_31 rfl (lv_at hl 0 rfl) ?_
        refine gf2 hx hb hts hown hK hP rfl 3 (by decide) q183 rfl rfl dX2_held_32 ?_
        refine lv_bipush (v := nI 12) hx hb dX2_held_35 (by decide) ?_
        refine lv_iload_n hx hb dX2_held_37 rfl (lv_at hl 2 rfl) ?_
        refine nr_iast hx hb hK hP hD hS 3 1 rfl rfl (by decide) (by omega) dX2_held_38 (fun H locs hP hD hS => ?_)
        have hP : va_P D vwCl (wM dZ dN ad J P (up_ (up_ A 12 x0) 12 a) (up_ (up_ B 12 y0) 12 b)) H := hP
        have hD : va_D A0 (wM dZ dN ad J P (up_ (up_ A 12 x0) 12 a) (up_ (up_ B 12 y0) 12 b)) := hD
        rw [up_up, up_up] at hP hD
        have hP : va_P D vwCl (wM dZ dN ad J P (up_ A 12 a) (up_ B 12 b)) H := hP
        have hD : va_D A0 (wM dZ dN ad J P (up_ A 12 a) (up_ B 12 b)) := hD
        have hmb := mb_up (a := a) (b := b) hmb (by omega) (by omega)
        refine lv_aload_n hx hb dX2_held_39 rfl (lv_at hl 0 rfl) ?_
        refine cl_i ⟨hx, hb, hml, hown, hts⟩ hK hP hD hA hS rfl rfl (mX2_bars l D dZ dN ad _ J P (up_ A 12 a) (up_ B 12 b) hok.2.2.1) (cwV 0 hts (lw_V q215 q208 q209 q19 q210) rfl rfl rfl (by decide +kernel) ⟨Nat.le_of_ble_eq_true rfl, Nat.le_of_ble_eq_true rfl⟩) rfl hl.1 rfl (Nat.le_of_ble_eq_true rfl) ⟨Nat.le_refl _, Nat.le_refl _⟩ dX2_held_40 (fun r3 u3 H locs hw hP hD hS => ?_)
        subst hw
        refine lv_istore_n (lv' := [(3, _), (0, _), (1, _), (2, _)]) hx hb dX2_held_43 rfl hl (by decide) rfl (fun ls hl => ?_)
        refine lv_aload_n hx hb dX2_held_44 rfl (lv_at hl 1 rfl) ?_
        refine lv_iload_n hx hb dX2_held_45 rfl (lv_at hl 0 rfl) ?_
        refine lv_sipush (v := nI 4096) hx hb dX2_held_46 (by decide) ?_
        refine nr_or hx hb dX2_held_49 ?_
        refine cl_i ⟨hx, hb, hml, hown, hts⟩ hK hP hD hA hS rfl rfl (mX2_rankOf l D dZ dN ad _ J P (up_ A 12 a) (up_ B 12 b) (P ||| 4096) hok.2.1 hmb (or_lt (n := 13) (Nat.lt_trans hok.2.2.1 (by decide)) (by decide))) (cwV 1 hts (lw_V q232 q234 qs14 q19 q235) rfl rfl rfl (by decide +kernel) ⟨Nat.le_of_ble_eq_true rfl, Nat.le_of_ble_eq_true rfl⟩) rfl hl.1 rfl (Nat.le_of_ble_eq_true rfl) ⟨Nat.le_refl _, Nat.le_refl _⟩ dX2_held_50 (fun r4 u4 H locs hw hP hD hS => ?_)
        subst hw
        refine lv_aload_n hx hb dX2_held_53 rfl (lv_at hl 1 rfl) ?_
        refine lv_iload_n hx hb dX2_held_54 rfl (lv_at hl 0 rfl) ?_
        refine cl_i ⟨hx, hb, hml, hown, hts⟩ hK hP hD hA hS rfl rfl (mX2_rankOf l D dZ dN ad _ J P (up_ A 12 a) (up_ B 12 b) P hok.2.1 hmb (Nat.lt_trans hok.2.2.1 (by decide))) (cwV 1 hts (lw_V q232 q234 qs14 q19 q235) rfl rfl rfl (by decide +kernel) ⟨Nat.le_of_ble_eq_true rfl, Nat.le_of_ble_eq_true rfl⟩) rfl hl.1 rfl (Nat.le_of_ble_eq_true rfl) ⟨Nat.le_refl _, Nat.le_refl _⟩ dX2_held_55 (fun r5 u5 H locs hw hP hD hS => ?_)
        subst hw
        refine nr_icmp_ne (tgt := 65) hx hb (sz_31 _) (sz_31 _) dX2_held_58 (by decide) (fun c58 => ?_) (fun c58 => ?_)
        · refine lv_iconst (v := nI 0) hx hb dX2_held_65 (by decide) ?_
          have hft : ft_ J A B (tk_ J A B P 12) a b = true := Bool.not_eq_false _ ▸ (fun q => c58 ((tk_held hok.2.2.1 hne (by omega) (by omega)).mpr q))
          exact ret _ _ _ _ _ (a, b) dX2_held_66 rfl ⟨by unfold he_; rw [hba, nI_clamp (by omega), nI_clamp (by omega), hft]; rfl, hmb⟩ hP hD hS
        · refine lv_iconst (v := nI 1) hx hb dX2_held_61 (by decide) ?_
          refine lv_goto (tgt := 66) hx hb dX2_held_62 (by decide) ?_
          have hft := (tk_held hok.2.2.1 hne (by omega) (by omega)).mp c58
          exact ret _ _ _ _ _ (a, b) dX2_held_66 rfl ⟨by unfold he_; rw [hba, nI_clamp (by omega), nI_clamp (by omega), hft]; rfl, hmb⟩ hP hD hS
      · refine lv_iconst (v := nI 0) hx hb dX2_held_21 (by decide) ?_
        have hba : ba_ J x y = true := by first | exact ba_eq c2 | exact ba_x c10 | exact ba_y c18
        exact ret _ _ _ _ _ (x0, y0) dX2_held_22 rfl ⟨by unfold he_; rw [hba]; rfl, hmb⟩ hP hD hS

set_option maxHeartbeats 4000000 in
set_option maxRecDepth 100000 in
/-- redundant -/
theorem mX2_redundant (l : Launch) (D : va_G) (dZ dN : ClassId) (ad : Nat → Nat) (sz : Nat) (J P : Nat) (A B : Nat → Nat) (x0 y0 : Nat) (x : Int32) (hok : ok_ J P A B) (hmb : mb_ (up_ A 12 x0) (up_ B 12 y0)) : mt_i l yX2_redundant cX2_redundant 3 .boolean (rr_ 4 95) D [(dZ, .boolean), (dN, .int)] (wM dZ dN ad J P (up_ A 12 x0) (up_ B 12 y0)) sz [.ref (ad 0), .int x] (fun (r : Int32) (_ : Unit) => r = nI (rd_ J A B P x).toNat) (fun _ => wM dZ dN ad J P (up_ A 12 x0) (up_ B 12 y0)) := by
  refine en_i (by decide +kernel) (Nat.le_of_ble_eq_true rfl) ?_
  intro p e s m args below meth c A0 H0 Q hx hb hml hown hts hK hP hD hA hS ret ls hl
  have hown : s.vm.findClass RX2 = some m.cls := hown
  have hl : lv_has ls 3 [(0, .ref (ad 0)), (1, .int x)] := hl
  refine lv_aload_n hx hb dX2_redundant_0 rfl (lv_at hl 0 rfl) ?_
  refine cl_i ⟨hx, hb, hml, hown, hts⟩ hK hP hD hA hS rfl rfl (mX2_bars l D dZ dN ad _ J P (up_ A 12 x0) (up_ B 12 y0) hok.2.2.1) (cwV 0 hts (lw_V q215 q208 q209 q19 q210) rfl rfl rfl (by decide +kernel) ⟨Nat.le_of_ble_eq_true rfl, Nat.le_of_ble_eq_true rfl⟩) rfl hl.1 rfl (Nat.le_of_ble_eq_true rfl) ⟨Nat.le_refl _, Nat.le_refl _⟩ dX2_redundant_1 (fun r1 u1 H locs hw hP hD hS => ?_)
  subst hw
  refine lv_istore_n (lv' := [(2, _), (0, _), (1, _)]) hx hb dX2_redundant_4 rfl hl (by decide) rfl (fun ls hl => ?_)
  refine lv_iload_n hx hb dX2_redundant_5 rfl (lv_at hl 2 rfl) ?_
  refine lv_if_lt (tgt := 47) hx hb dX2_redundant_6 (by decide) (fun c6 => ?_) (fun c6 => ?_)
  · refine lv_iconst (v := nI 0) hx hb dX2_redundant_47 (by decide) ?_
    exact ret _ _ _ _ _ () dX2_redundant_48 rfl (by unfold rd_; rw [ha_no (jo_no (Or.inl c6))]; rfl) hP hD hS
  · refine lv_iload_n hx hb dX2_redundant_9 rfl (lv_at hl 2 rfl) ?_
    refine lv_bipush (v := nI 12) hx hb dX2_redundant_10 (by decide) ?_
    refine lv_icmp_ge (tgt := 47) hx hb dX2_redundant_12 (by decide) (fun c12 => ?_) (fun c12 => ?_)
    · refine lv_iconst (v := nI 0) hx hb dX2_redundant_47 (by decide) ?_
      exact ret _ _ _ _ _ () dX2_redundant_48 rfl (by unfold rd_; rw [ha_no (jo_no (Or.inr c12))]; rfl) hP hD hS
    · have hjo := jo_yes (J := 12) c6 c12
      obtain ⟨k, hk, rfl⟩ := (jo_iff (by decide)).mp hjo
      refine lv_aload_n hx hb dX2_redundant_15 rfl (lv_at hl 1 rfl) ?_
      refine gf2 hx hb hts hown hK hP rfl 1 (by decide) q181 rfl rfl dX2_redundant_16 ?_
      refine lv_iload_n hx hb dX2_redundant_19 rfl (lv_at hl 2 rfl) ?_
      refine nr_zald hx hb hK hP 1 0 rfl rfl (by decide) (by omega) dX2_redundant_20 ?_
      refine nr_beq (tgt := 47) hx hb dX2_redundant_21 (by decide) (fun c21 => ?_) (fun c21 => ?_)
      · refine lv_iconst (v := nI 0) hx hb dX2_redundant_47 (by decide) ?_
        exact ret _ _ _ _ _ () dX2_redundant_48 rfl (by unfold rd_; rw [ha_nI hk, c21]; rfl) hP hD hS
      · refine lv_aload_n hx hb dX2_redundant_24 rfl (lv_at hl 1 rfl) ?_
        refine lv_iload_n hx hb dX2_redundant_25 rfl (lv_at hl 0 rfl) ?_
        refine lv_iconst (v := nI 1) hx hb dX2_redundant_26 (by decide) ?_
        refine lv_iload_n hx hb dX2_redundant_27 rfl (lv_at hl 2 rfl) ?_
        refine nr_shl hx hb (by omega) dX2_redundant_28 ?_
        refine nr_andn hx hb dX2_redundant_29 dX2_redundant_30 dX2_redundant_31 ?_
        refine cl_i ⟨hx, hb, hml, hown, hts⟩ hK hP hD hA hS rfl rfl (mX2_rankOf l D dZ dN ad _ J P (up_ A 12 x0) (up_ B 12 y0) (an_ P (2 ^ k)) hok.2.1 hmb (Nat.lt_trans (an_lt (n := 12) hok.2.2.1) (by decide))) (cwV 1 hts (lw_V q232 q234 qs14 q19 q235) rfl rfl rfl (by decide +kernel) ⟨Nat.le_of_ble_eq_true rfl, Nat.le_of_ble_eq_true rfl⟩) rfl hl.1 rfl (Nat.le_of_ble_eq_true rfl) ⟨Nat.le_refl _, Nat.le_refl _⟩ dX2_redundant_32 (fun r2 u2 H locs hw hP hD hS => ?_)
        rw [tk_13 (an_lt (n := 12) hok.2.2.1)] at hw
        subst hw
        refine lv_aload_n hx hb dX2_redundant_35 rfl (lv_at hl 1 rfl) ?_
        refine lv_iload_n hx hb dX2_redundant_36 rfl (lv_at hl 0 rfl) ?_
        refine cl_i ⟨hx, hb, hml, hown, hts⟩ hK hP hD hA hS rfl rfl (mX2_rankOf l D dZ dN ad _ J P (up_ A 12 x0) (up_ B 12 y0) P hok.2.1 hmb (Nat.lt_trans hok.2.2.1 (by decide))) (cwV 1 hts (lw_V q232 q234 qs14 q19 q235) rfl rfl rfl (by decide +kernel) ⟨Nat.le_of_ble_eq_true rfl, Nat.le_of_ble_eq_true rfl⟩) rfl hl.1 rfl (Nat.le_of_ble_eq_true rfl) ⟨Nat.le_refl _, Nat.le_refl _⟩ dX2_redundant_37 (fun r3 u3 H locs hw hP hD hS => ?_)
        rw [tk_13 hok.2.2.1] at hw
        subst hw
        refine nr_icmp_ne (tgt := 47) hx hb (sz_31 _) (sz_31 _) dX2_redundant_40 (by decide) (fun c40 => ?_) (fun c40 => ?_)
        · refine lv_iconst (v := nI 0) hx hb dX2_redundant_47 (by decide) ?_
          exact ret _ _ _ _ _ () dX2_redundant_48 rfl (by unfold rd_; rw [ha_nI hk, c21, nI_clamp (by omega), decide_eq_false c40]; rfl) hP hD hS
        · refine lv_iconst (v := nI 1) hx hb dX2_redundant_43 (by decide) ?_
          refine lv_goto (tgt := 48) hx hb dX2_redundant_44 (by decide) ?_
          exact ret _ _ _ _ _ () dX2_redundant_48 rfl (by unfold rd_; rw [ha_nI hk, c21, nI_clamp (by omega), decide_eq_true c40]; rfl) hP hD hS

set_option maxHeartbeats 4000000 in
set_option maxRecDepth 100000 in
/-- ring -/
theorem mX2_ring (l : Launch) (D : va_G) (dZ dN : ClassId) (ad : Nat → Nat) (sz : Nat) (J P : Nat) (A B : Nat → Nat) (x0 y0 : Nat) (x : Int32) (hok : ok_ J P A B) (hmb : mb_ (up_ A 12 x0) (up_ B 12 y0)) : mt_i l yX2_ring cX2_ring 6 .int (rr_ 4 93) D [(dZ, .boolean), (dN, .int)] (wM dZ dN ad J P (up_ A 12 x0) (up_ B 12 y0)) sz [.ref (ad 0), .int x] (fun (r : Int32) (_ : Unit) => r = nI (rg_ J A B P x)) (fun _ => wM dZ dN ad J P (up_ A 12 x0) (up_ B 12 y0)) := by
  refine en_i (by decide +kernel) (Nat.le_of_ble_eq_true rfl) ?_
  intro p e s m args below meth c A0 H0 Q hx hb hml hown hts hK hP hD hA hS ret ls hl
  have hown : s.vm.findClass RX2 = some m.cls := hown
  have hl : lv_has ls 6 [(0, .ref (ad 0)), (1, .int x)] := hl
  refine lv_aload_n hx hb dX2_ring_0 rfl (lv_at hl 0 rfl) ?_
  refine cl_i ⟨hx, hb, hml, hown, hts⟩ hK hP hD hA hS rfl rfl (mX2_frame l D dZ dN ad _ J P A B x0 y0 hok hmb) (cwV 0 hts (lw_V q265 q241 q242 q19 q243) rfl rfl rfl (by decide +kernel) ⟨Nat.le_of_ble_eq_true rfl, Nat.le_of_ble_eq_true rfl⟩) rfl hl.1 rfl (Nat.le_of_ble_eq_true rfl) ⟨Nat.le_refl _, Nat.le_refl _⟩ dX2_ring_1 (fun r1 u1 H locs hw hP hD hS => ?_)
  subst hw
  refine lv_istore_n (lv' := [(2, _), (0, _), (1, _)]) hx hb dX2_ring_4 rfl hl (by decide) rfl (fun ls hl => ?_)
  obtain ⟨F, hF⟩ : ∃ F, F = tk_ J A B P 12 := ⟨_, rfl⟩
  rw [← hF] at hl
  have hF4 : F < 4096 := by rw [hF]; exact tk_lt _ _ _ _ _
  refine lv_iload_n hx hb dX2_ring_5 rfl (lv_at hl 2 rfl) ?_
  refine lv_if_lt (tgt := 33) hx hb dX2_ring_6 (by decide) (fun c6 => ?_) (fun c6 => ?_)
  · refine lv_iconst (v := nI 0) hx hb dX2_ring_33 (by decide) ?_
    exact ret _ _ _ _ _ () dX2_ring_34 rfl (by unfold rg_; rw [ha_no (jo_no (Or.inl c6))]; rfl) hP hD hS
  · refine lv_iload_n hx hb dX2_ring_9 rfl (lv_at hl 2 rfl) ?_
    refine lv_bipush (v := nI 11) hx hb dX2_ring_10 (by decide) ?_
    refine lv_icmp_gt (tgt := 33) hx hb dX2_ring_12 (by decide) (fun c12 => ?_) (fun c12 => ?_)
    · refine lv_iconst (v := nI 0) hx hb dX2_ring_33 (by decide) ?_
      exact ret _ _ _ _ _ () dX2_ring_34 rfl (by unfold rg_; rw [ha_no (jo_12n c12)]; rfl) hP hD hS
    · have hjo := jo_12 c6 c12
      obtain ⟨k, hk, rfl⟩ := (jo_iff (by decide)).mp hjo
      refine lv_aload_n hx hb dX2_ring_15 rfl (lv_at hl 1 rfl) ?_
      refine gf2 hx hb hts hown hK hP rfl 1 (by decide) q181 rfl rfl dX2_ring_16 ?_
      refine lv_iload_n hx hb dX2_ring_19 rfl (lv_at hl 2 rfl) ?_
      refine nr_zald hx hb hK hP 1 0 rfl rfl (by decide) (by omega) dX2_ring_20 ?_
      refine nr_beq (tgt := 33) hx hb dX2_ring_21 (by decide) (fun c21 => ?_) (fun c21 => ?_)
      · refine lv_iconst (v := nI 0) hx hb dX2_ring_33 (by decide) ?_
        exact ret _ _ _ _ _ () dX2_ring_34 rfl (by unfold rg_; rw [ha_nI hk, c21]; rfl) hP hD hS
      · refine lv_iload_n hx hb dX2_ring_24 rfl (lv_at hl 0 rfl) ?_
        refine lv_iload_n hx hb dX2_ring_25 rfl (lv_at hl 2 rfl) ?_
        refine nr_bit hx hb (by omega) (by omega) dX2_ring_26 dX2_ring_27 dX2_ring_28 ?_
        refine lv_iconst (v := nI 1) hx hb dX2_ring_29 (by decide) ?_
        refine nr_bne1 (tgt := 35) hx hb dX2_ring_30 (by decide) (fun c30 => ?_) (fun c30 => ?_)
        · refine lv_iconst (v := nI 1) hx hb dX2_ring_35 (by decide) ?_
          refine lv_iload_n hx hb dX2_ring_36 rfl (lv_at hl 2 rfl) ?_
          refine nr_shl hx hb (by omega) dX2_ring_37 ?_
          refine lv_istore_n (lv' := [(3, _), (2, _), (0, _), (1, _)]) hx hb dX2_ring_38 rfl hl (by decide) rfl (fun ls hl => ?_)
          refine lv_iconst (v := nI 0) hx hb dX2_ring_39 (by decide) ?_
          refine lv_istore (lv' := [(4, _), (3, _), (2, _), (0, _), (1, _)]) hx hb dX2_ring_40 hl (by decide) rfl (fun ls hl => ?_)
          have loop : ∀ (n : Nat) (f z : Nat), (12 + 1 ≤ f + n) → (f ≤ 12) → (z = rn_ J A B F k f) → ∀ (H : Heap) (locs : List Loc), va_P D vwCl (wM dZ dN ad J P (up_ A 12 x0) (up_ B 12 y0)) H → va_D A0 (wM dZ dN ad J P (up_ A 12 x0) (up_ B 12 y0)) → va_S A0 H0 H locs → ∀ ls : Array Slot, lv_has ls 6 [(0, .ref (ad 0)), (1, .int (nI k)), (2, .int (nI F)), (3, .int (nI z)), (4, .int (nI f))] → W p l e (rr_ 4 93) s m args below meth c H locs 0 0 Q (F0 m 42 ls []) := by
            intro n
            induction n with
            | zero =>
              intro f z hn hf hz
              exfalso
              omega
            | succ n ih_loop =>
              intro f z hn hf hz H locs hP hD hS ls hl
              refine lv_iload hx hb dX2_ring_42 (lv_at hl 4 rfl) ?_
              refine lv_bipush (v := nI 12) hx hb dX2_ring_44 (by decide) ?_
              refine nr_icmp_ge (tgt := 107) hx hb (by omega) (by omega) dX2_ring_46 (by decide) (fun c46 => ?_) (fun c46 => ?_)
              · refine lv_iload_n hx hb dX2_ring_107 rfl (lv_at hl 3 rfl) ?_
                exact ret _ _ _ _ _ () dX2_ring_108 rfl (by unfold rg_; rw [ha_nI hk, c21, nI_clamp (by omega), ← hF, c30, hz, show f = 12 by omega]; rfl) hP hD hS
              · refine lv_iload_n hx hb dX2_ring_49 rfl (lv_at hl 2 rfl) ?_
                refine lv_iload hx hb dX2_ring_50 (lv_at hl 4 rfl) ?_
                refine nr_bit hx hb (by omega) (by omega) dX2_ring_52 dX2_ring_53 dX2_ring_54 ?_
                refine lv_iconst (v := nI 1) hx hb dX2_ring_55 (by decide) ?_
                refine nr_bne1 (tgt := 82) hx hb dX2_ring_56 (by decide) (fun c56 => ?_) (fun c56 => ?_)
                · refine lv_iconst (v := nI 0) hx hb dX2_ring_82 (by decide) ?_
                  refine lv_istore (lv' := [(5, _), (0, _), (1, _), (2, _), (3, _), (4, _)]) hx hb dX2_ring_83 hl (by decide) rfl (fun ls hl => ?_)
                  refine lv_iload hx hb dX2_ring_85 (lv_at hl 0 rfl) ?_
                  refine lv_if_eq (tgt := 99) hx hb dX2_ring_87 (by decide) (fun c87 => ?_) (fun c87 => absurd nI_0 c87)
                  refine lv_iload_n hx hb dX2_ring_99 rfl (lv_at hl 4 rfl) ?_
                  refine lv_istore_n (lv' := [(3, _), (5, _), (0, _), (1, _), (2, _), (4, _)]) hx hb dX2_ring_100 rfl hl (by decide) rfl (fun ls hl => ?_)
                  refine lv_iinc (v := nI (f + 1)) (lv' := [(4, _), (3, _), (5, _), (0, _), (1, _), (2, _)]) hx hb dX2_ring_101 hl (k := 5) rfl (nI_1 _) (by decide) rfl (fun ls hl => ?_)
                  refine lv_goto (tgt := 42) hx hb dX2_ring_104 (by decide) ?_
                  exact ih_loop (f + 1) z (by omega) (by omega) (by rw [hz]; show _ = if _ then _ else _; rw [c56]; rfl) _ _ hP hD hS _ (lv_sub hl [3, 4, 5, 1, 0] rfl)
                · refine lv_aload_n hx hb dX2_ring_59 rfl (lv_at hl 0 rfl) ?_
                  refine lv_iload_n hx hb dX2_ring_60 rfl (lv_at hl 2 rfl) ?_
                  refine lv_iconst (v := nI 1) hx hb dX2_ring_61 (by decide) ?_
                  refine lv_iload hx hb dX2_ring_62 (lv_at hl 4 rfl) ?_
                  refine nr_shl hx hb (by omega) dX2_ring_64 ?_
                  refine nr_andn hx hb dX2_ring_65 dX2_ring_66 dX2_ring_67 ?_
                  refine lv_iconst (v := nI 1) hx hb dX2_ring_68 (by decide) ?_
                  refine lv_iload_n hx hb dX2_ring_69 rfl (lv_at hl 1 rfl) ?_
                  refine nr_shl hx hb (by omega) dX2_ring_70 ?_
                  refine nr_or hx hb dX2_ring_71 ?_
                  refine cl_i ⟨hx, hb, hml, hown, hts⟩ hK hP hD hA hS rfl rfl (mX2_loose l D dZ dN ad _ J P (up_ A 12 x0) (up_ B 12 y0) (an_ F (2 ^ f) ||| 2 ^ k) hok.2.1 hmb (Nat.lt_trans (or_lt (n := 12) (an_lt (n := 12) hF4) (p_lt hk)) (by decide))) (cwV 1 hts (lw_V q216 q218 qs11 q19 q219) rfl rfl rfl (by decide +kernel) ⟨Nat.le_of_ble_eq_true rfl, Nat.le_of_ble_eq_true rfl⟩) rfl hl.1 rfl (Nat.le_of_ble_eq_true rfl) ⟨Nat.le_refl _, Nat.le_refl _⟩ dX2_ring_72 (fun r2 u2 H locs hw hP hD hS => ?_)
                  rw [lo_12 (or_lt (n := 12) (an_lt (n := 12) hF4) (p_lt hk))] at hw
                  subst hw
                  refine nr_beq (tgt := 82) hx hb dX2_ring_75 (by decide) (fun c75 => ?_) (fun c75 => ?_)
                  · refine lv_iconst (v := nI 0) hx hb dX2_ring_82 (by decide) ?_
                    refine lv_istore (lv' := [(5, _), (0, _), (1, _), (2, _), (3, _), (4, _)]) hx hb dX2_ring_83 hl (by decide) rfl (fun ls hl => ?_)
                    refine lv_iload hx hb dX2_ring_85 (lv_at hl 0 rfl) ?_
                    refine lv_if_eq (tgt := 99) hx hb dX2_ring_87 (by decide) (fun c87 => ?_) (fun c87 => absurd nI_0 c87)
                    refine lv_iload_n hx hb dX2_ring_99 rfl (lv_at hl 4 rfl) ?_
                    refine lv_istore_n (lv' := [(3, _), (5, _), (0, _), (1, _), (2, _), (4, _)]) hx hb dX2_ring_100 rfl hl (by decide) rfl (fun ls hl => ?_)
                    refine lv_iinc (v := nI (f + 1)) (lv' := [(4, _), (3, _), (5, _), (0, _), (1, _), (2, _)]) hx hb dX2_ring_101 hl (k := 5) rfl (nI_1 _) (by decide) rfl (fun ls hl => ?_)
                    refine lv_goto (tgt := 42) hx hb dX2_ring_104 (by decide) ?_
                    exact ih_loop (f + 1) z (by omega) (by omega) (by rw [hz]; show _ = if _ then _ else _; rw [c56, c75]; rfl) _ _ hP hD hS _ (lv_sub hl [3, 4, 5, 1, 0] rfl)
                  · refine lv_iconst (v := nI 1) hx hb dX2_ring_78 (by decide) ?_
                    refine lv_goto (tgt := 83) hx hb dX2_ring_79 (by decide) ?_
                    refine lv_istore (lv' := [(5, _), (0, _), (1, _), (2, _), (3, _), (4, _)]) hx hb dX2_ring_83 hl (by decide) rfl (fun ls hl => ?_)
                    refine lv_iload hx hb dX2_ring_85 (lv_at hl 0 rfl) ?_
                    refine lv_if_eq (tgt := 99) hx hb dX2_ring_87 (by decide) (fun c87 => absurd c87 (by decide)) (fun c87 => ?_)
                    refine lv_iload_n hx hb dX2_ring_90 rfl (lv_at hl 4 rfl) ?_
                    refine lv_iconst (v := nI 1) hx hb dX2_ring_91 (by decide) ?_
                    refine lv_iload hx hb dX2_ring_92 (lv_at hl 5 rfl) ?_
                    refine nr_shl hx hb (by omega) dX2_ring_94 ?_
                    refine nr_or hx hb dX2_ring_95 ?_
                    refine lv_goto (tgt := 100) hx hb dX2_ring_96 (by decide) ?_
                    refine lv_istore_n (lv' := [(3, _), (5, _), (0, _), (1, _), (2, _), (4, _)]) hx hb dX2_ring_100 rfl hl (by decide) rfl (fun ls hl => ?_)
                    refine lv_iinc (v := nI (f + 1)) (lv' := [(4, _), (3, _), (5, _), (0, _), (1, _), (2, _)]) hx hb dX2_ring_101 hl (k := 5) rfl (nI_1 _) (by decide) rfl (fun ls hl => ?_)
                    refine lv_goto (tgt := 42) hx hb dX2_ring_104 (by decide) ?_
                    exact ih_loop (f + 1) (z ||| (2 ^ f)) (by omega) (by omega) (by rw [hz]; show _ = if _ then _ else _; rw [c56, c75]; rfl) _ _ hP hD hS _ (lv_sub hl [3, 4, 5, 1, 0] rfl)
          exact loop 13 0 (2 ^ k) (by omega) (by omega) rfl _ _ hP hD hS _ (lv_sub hl [3, 4, 2, 1, 0] rfl)
        · refine lv_iconst (v := nI 0) hx hb dX2_ring_33 (by decide) ?_
          exact ret _ _ _ _ _ () dX2_ring_34 rfl (by unfold rg_; rw [ha_nI hk, c21, nI_clamp (by omega), ← hF, c30]; rfl) hP hD hS
end
section
set_option maxHeartbeats 4000000 in
set_option maxRecDepth 100000 in
/-- heldTo -/
theorem mX2_heldTo (l : Launch) (D : va_G) (dZ dN : ClassId) (ad : Nat → Nat) (sz : Nat) (J P : Nat) (A B : Nat → Nat) (x0 y0 : Nat) (x : Int32) (hok : ok_ J P A B) (hmb : mb_ (up_ A 12 x0) (up_ B 12 y0)) : mt_i l yX2_heldTo cX2_heldTo 4 .int (rr_ 5 118) D [(dZ, .boolean), (dN, .int)] (wM dZ dN ad J P (up_ A 12 x0) (up_ B 12 y0)) sz [.ref (ad 0), .int x] (fun (r : Int32) (u : Nat × Nat) => r = nI (hT_ J A B P x) ∧ mb_ (up_ A 12 u.1) (up_ B 12 u.2)) (fun u => wM dZ dN ad J P (up_ A 12 u.1) (up_ B 12 u.2)) := by
  refine en_i (by decide +kernel) (Nat.le_of_ble_eq_true rfl) ?_
  intro p e s m args below meth c A0 H0 Q hx hb hml hown hts hK hP hD hA hS ret ls hl
  have hown : s.vm.findClass RX2 = some m.cls := hown
  have hl : lv_has ls 4 [(0, .ref (ad 0)), (1, .int x)] := hl
  refine lv_aload_n hx hb dX2_heldTo_0 rfl (lv_at hl 0 rfl) ?_
  refine lv_iload_n hx hb dX2_heldTo_1 rfl (lv_at hl 1 rfl) ?_
  refine cl_i ⟨hx, hb, hml, hown, hts⟩ hK hP hD hA hS rfl rfl (mX2_joint l D dZ dN ad _ J P (up_ A 12 x0) (up_ B 12 y0) x) (cwV 1 hts (lw_V q199 q201 qs10 q19 q202) rfl rfl rfl (by decide +kernel) ⟨Nat.le_of_ble_eq_true rfl, Nat.le_of_ble_eq_true rfl⟩) rfl hl.1 rfl (Nat.le_of_ble_eq_true rfl) ⟨Nat.le_refl _, Nat.le_refl _⟩ dX2_heldTo_2 (fun r1 u1 H locs hw hP hD hS => ?_)
  subst hw
  refine nr_beq (tgt := 14) hx hb dX2_heldTo_5 (by decide) (fun c5 => ?_) (fun c5 => ?_)
  · refine lv_iconst (v := nI 0) hx hb dX2_heldTo_14 (by decide) ?_
    refine lv_istore_n (lv' := [(2, _), (0, _), (1, _)]) hx hb dX2_heldTo_15 rfl hl (by decide) rfl (fun ls hl => ?_)
    refine lv_iconst (v := nI 0) hx hb dX2_heldTo_16 (by decide) ?_
    refine lv_istore_n (lv' := [(3, _), (2, _), (0, _), (1, _)]) hx hb dX2_heldTo_17 rfl hl (by decide) rfl (fun ls hl => ?_)
    refine lv_iload_n hx hb dX2_heldTo_18 rfl (lv_at hl 0 rfl) ?_
    refine lv_aload_n hx hb dX2_heldTo_19 rfl (lv_at hl 2 rfl) ?_
    refine gf2 hx hb hts hown hK hP rfl 0 (by decide) q180 rfl rfl dX2_heldTo_20 ?_
    refine nr_icmp_ge (tgt := 59) hx hb (by have := hok.2.1; omega) (by have := hok.2.1; omega) dX2_heldTo_23 (by decide) (fun c23 => absurd c23 (by have := hok.1; omega)) (fun c23 => ?_)
    refine lv_aload_n hx hb dX2_heldTo_26 rfl (lv_at hl 2 rfl) ?_
    refine lv_iload_n hx hb dX2_heldTo_27 rfl (lv_at hl 3 rfl) ?_
    refine cl_i ⟨hx, hb, hml, hown, hts⟩ hK hP hD hA hS rfl rfl (mX2_joint l D dZ dN ad _ J P (up_ A 12 x0) (up_ B 12 y0) x) (cwV 1 hts (lw_V q199 q201 qs10 q19 q202) rfl rfl rfl (by decide +kernel) ⟨Nat.le_of_ble_eq_true rfl, Nat.le_of_ble_eq_true rfl⟩) rfl hl.1 rfl (Nat.le_of_ble_eq_true rfl) ⟨Nat.le_refl _, Nat.le_refl _⟩ dX2_heldTo_28 (fun r2 u2 H locs hw hP hD hS => ?_)
    subst hw
    refine nr_beq (tgt := 59) hx hb dX2_heldTo_31 (by decide) (fun c31 => ?_) (fun c31 => absurd c31 (by rw [c5]; decide))
    refine lv_iload_n hx hb dX2_heldTo_59 rfl (lv_at hl 1 rfl) ?_
    exact ret _ _ _ _ _ (x0, y0) dX2_heldTo_60 rfl ⟨by unfold hT_; rw [if_neg (by rw [c5]; decide)], hmb⟩ hP hD hS
  · have hJ := hok.2.1
    obtain ⟨a, ha, rfl⟩ := (jo_iff (by omega)).mp c5
    refine lv_iconst (v := nI 1) hx hb dX2_heldTo_8 (by decide) ?_
    refine lv_iload_n hx hb dX2_heldTo_9 rfl (lv_at hl 1 rfl) ?_
    refine nr_shl hx hb (by omega) dX2_heldTo_10 ?_
    refine lv_goto (tgt := 15) hx hb dX2_heldTo_11 (by decide) ?_
    refine lv_istore_n (lv' := [(2, _), (0, _), (1, _)]) hx hb dX2_heldTo_15 rfl hl (by decide) rfl (fun ls hl => ?_)
    refine lv_iconst (v := nI 0) hx hb dX2_heldTo_16 (by decide) ?_
    refine lv_istore_n (lv' := [(3, _), (2, _), (0, _), (1, _)]) hx hb dX2_heldTo_17 rfl hl (by decide) rfl (fun ls hl => ?_)
    have loop : ∀ (n : Nat) (b z : Nat) (x0 y0 : Nat), (J + 1 ≤ b + n) → (b ≤ J) → (z = ht_ (hb_ J A B (tk_ J A B P 12)) a b) → (mb_ (up_ A 12 x0) (up_ B 12 y0)) → ∀ (H : Heap) (locs : List Loc), va_P D vwCl (wM dZ dN ad J P (up_ A 12 x0) (up_ B 12 y0)) H → va_D A0 (wM dZ dN ad J P (up_ A 12 x0) (up_ B 12 y0)) → va_S A0 H0 H locs → ∀ ls : Array Slot, lv_has ls 4 [(0, .ref (ad 0)), (1, .int (nI a)), (2, .int (nI z)), (3, .int (nI b))] → W p l e (rr_ 5 118) s m args below meth c H locs 0 0 Q (F0 m 18 ls []) := by
      intro n
      induction n with
      | zero =>
        intro b z x0 y0 hn hbJ hz hmb
        exfalso
        omega
      | succ n ih_loop =>
        intro b z x0 y0 hn hbJ hz hmb H locs hP hD hS ls hl
        refine lv_iload_n hx hb dX2_heldTo_18 rfl (lv_at hl 3 rfl) ?_
        refine lv_aload_n hx hb dX2_heldTo_19 rfl (lv_at hl 0 rfl) ?_
        refine gf2 hx hb hts hown hK hP rfl 0 (by decide) q180 rfl rfl dX2_heldTo_20 ?_
        refine nr_icmp_ge (tgt := 59) hx hb (by have := hok.2.1; omega) (by have := hok.2.1; omega) dX2_heldTo_23 (by decide) (fun c23 => ?_) (fun c23 => ?_)
        · refine lv_iload_n hx hb dX2_heldTo_59 rfl (lv_at hl 2 rfl) ?_
          exact ret _ _ _ _ _ (x0, y0) dX2_heldTo_60 rfl ⟨by unfold hT_; rw [if_pos c5, nI_clamp (by omega), hz, show b = J by omega], hmb⟩ hP hD hS
        · refine lv_aload_n hx hb dX2_heldTo_26 rfl (lv_at hl 0 rfl) ?_
          refine lv_iload_n hx hb dX2_heldTo_27 rfl (lv_at hl 1 rfl) ?_
          refine cl_i ⟨hx, hb, hml, hown, hts⟩ hK hP hD hA hS rfl rfl (mX2_joint l D dZ dN ad _ J P (up_ A 12 x0) (up_ B 12 y0) (nI a)) (cwV 1 hts (lw_V q199 q201 qs10 q19 q202) rfl rfl rfl (by decide +kernel) ⟨Nat.le_of_ble_eq_true rfl, Nat.le_of_ble_eq_true rfl⟩) rfl hl.1 rfl (Nat.le_of_ble_eq_true rfl) ⟨Nat.le_refl _, Nat.le_refl _⟩ dX2_heldTo_28 (fun r3 u3 H locs hw hP hD hS => ?_)
          subst hw
          refine nr_beq (tgt := 59) hx hb dX2_heldTo_31 (by decide) (fun c31 => absurd c31 (by rw [c5]; decide)) (fun c31 => ?_)
          refine lv_aload_n hx hb dX2_heldTo_34 rfl (lv_at hl 0 rfl) ?_
          refine lv_iload_n hx hb dX2_heldTo_35 rfl (lv_at hl 1 rfl) ?_
          refine lv_iload_n hx hb dX2_heldTo_36 rfl (lv_at hl 3 rfl) ?_
          refine cl_i ⟨hx, hb, hml, hown, hts⟩ hK hP hD hA hS rfl rfl (mX2_held l D dZ dN ad _ J P A B x0 y0 (nI a) (nI b) hok hmb) (cwV 2 hts (lw_V q270 q254 q255 q19 q256) rfl rfl rfl (by decide +kernel) ⟨Nat.le_of_ble_eq_true rfl, Nat.le_of_ble_eq_true rfl⟩) rfl hl.1 rfl (Nat.le_of_ble_eq_true rfl) ⟨Nat.le_refl _, Nat.le_refl _⟩ dX2_heldTo_37 (fun r4 u4 H locs hw hP hD hS => ?_)
          obtain ⟨xx4, yy4⟩ := u4
          obtain ⟨hr4, hmb⟩ := hw
          have hP : va_P D vwCl (wM dZ dN ad J P (up_ A 12 xx4) (up_ B 12 yy4)) H := hP
          have hD : va_D A0 (wM dZ dN ad J P (up_ A 12 xx4) (up_ B 12 yy4)) := hD
          have hmb : mb_ (up_ A 12 xx4) (up_ B 12 yy4) := hmb
          rw [he_nI (by omega) ha c23] at hr4
          subst hr4
          refine nr_beq (tgt := 51) hx hb dX2_heldTo_40 (by decide) (fun c40 => ?_) (fun c40 => ?_)
          · refine lv_iload_n hx hb dX2_heldTo_51 rfl (lv_at hl 2 rfl) ?_
            refine lv_istore_n (lv' := [(2, _), (0, _), (1, _), (3, _)]) hx hb dX2_heldTo_52 rfl hl (by decide) rfl (fun ls hl => ?_)
            refine lv_iinc (v := nI (b + 1)) (lv' := [(3, _), (2, _), (0, _), (1, _)]) hx hb dX2_heldTo_53 hl (k := 3) rfl (nI_1 _) (by decide) rfl (fun ls hl => ?_)
            refine lv_goto (tgt := 18) hx hb dX2_heldTo_56 (by decide) ?_
            exact ih_loop (b + 1) z xx4 yy4 (by omega) (by omega) (by rw [hz]; show _ = _ ||| (if _ then _ else _); rw [c40]; first | rfl | exact (Nat.or_zero _).symm) hmb _ _ hP hD hS _ (lv_sub hl [2, 3, 1, 0] rfl)
          · refine lv_iload_n hx hb dX2_heldTo_43 rfl (lv_at hl 2 rfl) ?_
            refine lv_iconst (v := nI 1) hx hb dX2_heldTo_44 (by decide) ?_
            refine lv_iload_n hx hb dX2_heldTo_45 rfl (lv_at hl 3 rfl) ?_
            refine nr_shl hx hb (by omega) dX2_heldTo_46 ?_
            refine nr_or hx hb dX2_heldTo_47 ?_
            refine lv_goto (tgt := 52) hx hb dX2_heldTo_48 (by decide) ?_
            refine lv_istore_n (lv' := [(2, _), (0, _), (1, _), (3, _)]) hx hb dX2_heldTo_52 rfl hl (by decide) rfl (fun ls hl => ?_)
            refine lv_iinc (v := nI (b + 1)) (lv' := [(3, _), (2, _), (0, _), (1, _)]) hx hb dX2_heldTo_53 hl (k := 3) rfl (nI_1 _) (by decide) rfl (fun ls hl => ?_)
            refine lv_goto (tgt := 18) hx hb dX2_heldTo_56 (by decide) ?_
            exact ih_loop (b + 1) (z ||| (2 ^ b)) xx4 yy4 (by omega) (by omega) (by rw [hz]; show _ = _ ||| (if _ then _ else _); rw [c40]; first | rfl | exact (Nat.or_zero _).symm) hmb _ _ hP hD hS _ (lv_sub hl [2, 3, 1, 0] rfl)
    exact loop (J + 1) 0 (2 ^ a) x0 y0 (by omega) (by omega) rfl hmb _ _ hP hD hS _ (lv_sub hl [2, 3, 1, 0] rfl)

set_option maxHeartbeats 4000000 in
set_option maxRecDepth 100000 in
/-- body -/
theorem mX2_body (l : Launch) (D : va_G) (dZ dN : ClassId) (ad : Nat → Nat) (sz : Nat) (J P : Nat) (A B : Nat → Nat) (x0 y0 : Nat) (G : Nat) (hok : ok_ J P A B) (hmb : mb_ (up_ A 12 x0) (up_ B 12 y0)) (hG : G < 4096) : mt_i l yX2_body cX2_body 7 .boolean (rr_ 5 118) D [(dZ, .boolean), (dN, .int)] (wM dZ dN ad J P (up_ A 12 x0) (up_ B 12 y0)) sz [.ref (ad 0), .int (nI G)] (fun (r : Int32) (u : Nat × Nat) => r = nI (bd_ (hb_ J A B (tk_ J A B P 12)) J G).toNat ∧ mb_ (up_ A 12 u.1) (up_ B 12 u.2)) (fun u => wM dZ dN ad J P (up_ A 12 u.1) (up_ B 12 u.2)) := by
  refine en_i (by decide +kernel) (Nat.le_of_ble_eq_true rfl) ?_
  intro p e s m args below meth c A0 H0 Q hx hb hml hown hts hK hP hD hA hS ret ls hl
  have hown : s.vm.findClass RX2 = some m.cls := hown
  have hl : lv_has ls 7 [(0, .ref (ad 0)), (1, .int (nI G))] := hl
  have hJ := hok.2.1
  have h64 := p_64 hJ
  have hhe : ∀ a b, a < J → b < J → he_ J A B P (nI a) (nI b) = hb_ J A B (tk_ J A B P 12) a b := fun a b ha hb => he_nI (by omega) ha hb
  generalize hh : hb_ J A B (tk_ J A B P 12) = h at hhe
  have loop : ∀ (n : Nat) (i : Nat) (ok : Bool) (x0 y0 : Nat), (36 + 1 ≤ i + n) → (i ≤ 36) → (ok = (decide (G < 2 ^ J) && al_ i (fun c => !(decide (c / 6 < c % 6) && (G.testBit (c / 6) && G.testBit (c % 6))) || h (c / 6) (c % 6)))) → (mb_ (up_ A 12 x0) (up_ B 12 y0)) → ∀ (H : Heap) (locs : List Loc), va_P D vwCl (wM dZ dN ad J P (up_ A 12 x0) (up_ B 12 y0)) H → va_D A0 (wM dZ dN ad J P (up_ A 12 x0) (up_ B 12 y0)) → va_S A0 H0 H locs → ∀ ls : Array Slot, lv_has ls 7 [(0, .ref (ad 0)), (1, .int (nI G)), (2, .int (nI ok.toNat)), (3, .int (nI i))] → W p l e (rr_ 5 118) s m args below meth c H locs 0 0 Q (F0 m 18 ls []) := by
    intro n
    induction n with
    | zero =>
      intro i ok x0 y0 hn hi hokk hmb
      exfalso
      omega
    | succ n ih_loop =>
      intro i ok x0 y0 hn hi hokk hmb H locs hP hD hS ls hl
      refine lv_iload_n hx hb dX2_body_18 rfl (lv_at hl 3 rfl) ?_
      refine lv_bipush (v := nI 36) hx hb dX2_body_19 (by decide) ?_
      refine nr_icmp_ge (tgt := 102) hx hb (by omega) (by omega) dX2_body_21 (by decide) (fun c21 => ?_) (fun c21 => ?_)
      · refine lv_iload_n hx hb dX2_body_102 rfl (lv_at hl 2 rfl) ?_
        exact ret _ _ _ _ _ (x0, y0) dX2_body_103 (wd_rz _) ⟨by rw [hokk, show i = 36 by omega, hh]; rfl, hmb⟩ hP hD hS
      · refine lv_iload_n hx hb dX2_body_24 rfl (lv_at hl 2 rfl) ?_
        refine nr_beq (tgt := 102) hx hb dX2_body_25 (by decide) (fun c25 => ?_) (fun c25 => ?_)
        · refine lv_iload_n hx hb dX2_body_102 rfl (lv_at hl 2 rfl) ?_
          exact ret _ _ _ _ _ (x0, y0) dX2_body_103 (wd_rz _) ⟨by rw [c25, hh]; exact congrArg (fun z : Bool => nI z.toNat) (and_alm hi (hokk.symm.trans c25)).symm, hmb⟩ hP hD hS
        · refine lv_iload_n hx hb dX2_body_28 rfl (lv_at hl 3 rfl) ?_
          refine lv_bipush (v := nI 6) hx hb dX2_body_29 (by decide) ?_
          refine nr_div hx hb (by omega) (by decide) (by decide) dX2_body_31 ?_
          refine lv_istore (lv' := [(4, _), (0, _), (1, _), (2, _), (3, _)]) hx hb dX2_body_32 hl (by decide) rfl (fun ls hl => ?_)
          refine lv_iload_n hx hb dX2_body_34 rfl (lv_at hl 4 rfl) ?_
          refine lv_bipush (v := nI 6) hx hb dX2_body_35 (by decide) ?_
          refine nr_rem hx hb (by omega) (by decide) (by decide) dX2_body_37 ?_
          refine lv_istore (lv' := [(5, _), (4, _), (0, _), (1, _), (2, _), (3, _)]) hx hb dX2_body_38 hl (by decide) rfl (fun ls hl => ?_)
          refine lv_iload hx hb dX2_body_40 (lv_at hl 1 rfl) ?_
          refine lv_iload hx hb dX2_body_42 (lv_at hl 0 rfl) ?_
          refine nr_icmp_ge (tgt := 71) hx hb (by omega) (by omega) dX2_body_44 (by decide) (fun c44 => ?_) (fun c44 => ?_)
          · refine lv_iconst (v := nI 0) hx hb dX2_body_71 (by decide) ?_
            refine lv_istore (lv' := [(6, _), (5, _), (4, _), (0, _), (1, _), (2, _), (3, _)]) hx hb dX2_body_72 hl (by decide) rfl (fun ls hl => ?_)
            refine lv_iload hx hb dX2_body_74 (lv_at hl 0 rfl) ?_
            refine lv_if_eq (tgt := 90) hx hb dX2_body_76 (by decide) (fun c76 => ?_) (fun c76 => absurd nI_0 c76)
            refine lv_iconst (v := nI 1) hx hb dX2_body_90 (by decide) ?_
            refine lv_goto (tgt := 95) hx hb dX2_body_91 (by decide) ?_
            refine lv_istore_n (lv' := [(2, _), (6, _), (5, _), (4, _), (0, _), (1, _), (3, _)]) hx hb dX2_body_95 rfl hl (by decide) rfl (fun ls hl => ?_)
            refine lv_iinc (v := nI (i + 1)) (lv' := [(3, _), (2, _), (6, _), (5, _), (4, _), (0, _), (1, _)]) hx hb dX2_body_96 hl (k := 6) rfl (nI_1 _) (by decide) rfl (fun ls hl => ?_)
            refine lv_goto (tgt := 18) hx hb dX2_body_99 (by decide) ?_
            exact ih_loop (i + 1) true x0 y0 (by omega) (by omega) (by rw [al_s, ← Bool.and_assoc, ← hokk, c25, show decide (i / 6 < i % 6) = false from decide_eq_false (by omega)]; rfl) hmb _ _ hP hD hS _ (lv_sub hl [5, 6, 1, 0] rfl)
          · refine lv_iload_n hx hb dX2_body_47 rfl (lv_at hl 3 rfl) ?_
            refine lv_iload hx hb dX2_body_48 (lv_at hl 1 rfl) ?_
            refine nr_bit hx hb (by omega) (by omega) dX2_body_50 dX2_body_51 dX2_body_52 ?_
            refine lv_iconst (v := nI 1) hx hb dX2_body_53 (by decide) ?_
            refine nr_bne1 (tgt := 71) hx hb dX2_body_54 (by decide) (fun c54 => ?_) (fun c54 => ?_)
            · refine lv_iconst (v := nI 0) hx hb dX2_body_71 (by decide) ?_
              refine lv_istore (lv' := [(6, _), (5, _), (4, _), (0, _), (1, _), (2, _), (3, _)]) hx hb dX2_body_72 hl (by decide) rfl (fun ls hl => ?_)
              refine lv_iload hx hb dX2_body_74 (lv_at hl 0 rfl) ?_
              refine lv_if_eq (tgt := 90) hx hb dX2_body_76 (by decide) (fun c76 => ?_) (fun c76 => absurd nI_0 c76)
              refine lv_iconst (v := nI 1) hx hb dX2_body_90 (by decide) ?_
              refine lv_goto (tgt := 95) hx hb dX2_body_91 (by decide) ?_
              refine lv_istore_n (lv' := [(2, _), (6, _), (5, _), (4, _), (0, _), (1, _), (3, _)]) hx hb dX2_body_95 rfl hl (by decide) rfl (fun ls hl => ?_)
              refine lv_iinc (v := nI (i + 1)) (lv' := [(3, _), (2, _), (6, _), (5, _), (4, _), (0, _), (1, _)]) hx hb dX2_body_96 hl (k := 6) rfl (nI_1 _) (by decide) rfl (fun ls hl => ?_)
              refine lv_goto (tgt := 18) hx hb dX2_body_99 (by decide) ?_
              exact ih_loop (i + 1) true x0 y0 (by omega) (by omega) (by rw [al_s, ← Bool.and_assoc, ← hokk, c25, show decide (i / 6 < i % 6) = true from decide_eq_true c44, c54]; rfl) hmb _ _ hP hD hS _ (lv_sub hl [5, 6, 1, 0] rfl)
            · refine lv_iload_n hx hb dX2_body_57 rfl (lv_at hl 3 rfl) ?_
              refine lv_iload hx hb dX2_body_58 (lv_at hl 0 rfl) ?_
              refine nr_bit hx hb (by omega) (by omega) dX2_body_60 dX2_body_61 dX2_body_62 ?_
              refine lv_iconst (v := nI 1) hx hb dX2_body_63 (by decide) ?_
              refine nr_bne1 (tgt := 71) hx hb dX2_body_64 (by decide) (fun c64 => ?_) (fun c64 => ?_)
              · refine lv_iconst (v := nI 0) hx hb dX2_body_71 (by decide) ?_
                refine lv_istore (lv' := [(6, _), (5, _), (4, _), (0, _), (1, _), (2, _), (3, _)]) hx hb dX2_body_72 hl (by decide) rfl (fun ls hl => ?_)
                refine lv_iload hx hb dX2_body_74 (lv_at hl 0 rfl) ?_
                refine lv_if_eq (tgt := 90) hx hb dX2_body_76 (by decide) (fun c76 => ?_) (fun c76 => absurd nI_0 c76)
                refine lv_iconst (v := nI 1) hx hb dX2_body_90 (by decide) ?_
                refine lv_goto (tgt := 95) hx hb dX2_body_91 (by decide) ?_
                refine lv_istore_n (lv' := [(2, _), (6, _), (5, _), (4, _), (0, _), (1, _), (3, _)]) hx hb dX2_body_95 rfl hl (by decide) rfl (fun ls hl => ?_)
                refine lv_iinc (v := nI (i + 1)) (lv' := [(3, _), (2, _), (6, _), (5, _), (4, _), (0, _), (1, _)]) hx hb dX2_body_96 hl (k := 6) rfl (nI_1 _) (by decide) rfl (fun ls hl => ?_)
                refine lv_goto (tgt := 18) hx hb dX2_body_99 (by decide) ?_
                exact ih_loop (i + 1) true x0 y0 (by omega) (by omega) (by rw [al_s, ← Bool.and_assoc, ← hokk, c25, show decide (i / 6 < i % 6) = true from decide_eq_true c44, c54, c64]; rfl) hmb _ _ hP hD hS _ (lv_sub hl [5, 6, 1, 0] rfl)
              · refine lv_iconst (v := nI 1) hx hb dX2_body_67 (by decide) ?_
                refine lv_goto (tgt := 72) hx hb dX2_body_68 (by decide) ?_
                refine lv_istore (lv' := [(6, _), (5, _), (4, _), (0, _), (1, _), (2, _), (3, _)]) hx hb dX2_body_72 hl (by decide) rfl (fun ls hl => ?_)
                refine lv_iload hx hb dX2_body_74 (lv_at hl 0 rfl) ?_
                refine lv_if_eq (tgt := 90) hx hb dX2_body_76 (by decide) (fun c76 => absurd c76 (by decide)) (fun c76 => ?_)
                have hGJ : G < 2 ^ J := by
                  have h1 := hokk.symm.trans c25
                  rw [Bool.and_eq_true, decide_eq_true_eq] at h1
                  exact h1.1
                have ha6 := tb_in hGJ c54
                have hb6 := tb_in hGJ c64
                refine lv_aload_n hx hb dX2_body_79 rfl (lv_at hl 3 rfl) ?_
                refine lv_iload hx hb dX2_body_80 (lv_at hl 2 rfl) ?_
                refine lv_iload hx hb dX2_body_82 (lv_at hl 1 rfl) ?_
                refine cl_i ⟨hx, hb, hml, hown, hts⟩ hK hP hD hA hS rfl rfl (mX2_held l D dZ dN ad _ J P A B x0 y0 (nI (i / 6)) (nI (i % 6)) hok hmb) (cwV 2 hts (lw_V q270 q254 q255 q19 q256) rfl rfl rfl (by decide +kernel) ⟨Nat.le_of_ble_eq_true rfl, Nat.le_of_ble_eq_true rfl⟩) rfl hl.1 rfl (Nat.le_of_ble_eq_true rfl) ⟨Nat.le_refl _, Nat.le_refl _⟩ dX2_body_84 (fun r1 u1 H locs hw hP hD hS => ?_)
                obtain ⟨xx1, yy1⟩ := u1
                obtain ⟨hr1, hmb⟩ := hw
                have hP : va_P D vwCl (wM dZ dN ad J P (up_ A 12 xx1) (up_ B 12 yy1)) H := hP
                have hD : va_D A0 (wM dZ dN ad J P (up_ A 12 xx1) (up_ B 12 yy1)) := hD
                have hmb : mb_ (up_ A 12 xx1) (up_ B 12 yy1) := hmb
                rw [hhe _ _ ha6 hb6] at hr1
                subst hr1
                refine nr_beq (tgt := 94) hx hb dX2_body_87 (by decide) (fun c87 => ?_) (fun c87 => ?_)
                · refine lv_iconst (v := nI 0) hx hb dX2_body_94 (by decide) ?_
                  refine lv_istore_n (lv' := [(2, _), (6, _), (5, _), (4, _), (0, _), (1, _), (3, _)]) hx hb dX2_body_95 rfl hl (by decide) rfl (fun ls hl => ?_)
                  refine lv_iinc (v := nI (i + 1)) (lv' := [(3, _), (2, _), (6, _), (5, _), (4, _), (0, _), (1, _)]) hx hb dX2_body_96 hl (k := 6) rfl (nI_1 _) (by decide) rfl (fun ls hl => ?_)
                  refine lv_goto (tgt := 18) hx hb dX2_body_99 (by decide) ?_
                  exact ih_loop (i + 1) false xx1 yy1 (by omega) (by omega) (by rw [al_s, ← Bool.and_assoc, ← hokk, c25, show decide (i / 6 < i % 6) = true from decide_eq_true c44, c54, c64, c87]; rfl) hmb _ _ hP hD hS _ (lv_sub hl [5, 6, 1, 0] rfl)
                · refine lv_iconst (v := nI 1) hx hb dX2_body_90 (by decide) ?_
                  refine lv_goto (tgt := 95) hx hb dX2_body_91 (by decide) ?_
                  refine lv_istore_n (lv' := [(2, _), (6, _), (5, _), (4, _), (0, _), (1, _), (3, _)]) hx hb dX2_body_95 rfl hl (by decide) rfl (fun ls hl => ?_)
                  refine lv_iinc (v := nI (i + 1)) (lv' := [(3, _), (2, _), (6, _), (5, _), (4, _), (0, _), (1, _)]) hx hb dX2_body_96 hl (k := 6) rfl (nI_1 _) (by decide) rfl (fun ls hl => ?_)
                  refine lv_goto (tgt := 18) hx hb dX2_body_99 (by decide) ?_
                  exact ih_loop (i + 1) true xx1 yy1 (by omega) (by omega) (by rw [al_s, ← Bool.and_assoc, ← hokk, c25, show decide (i / 6 < i % 6) = true from decide_eq_true c44, c54, c64, c87]; rfl) hmb _ _ hP hD hS _ (lv_sub hl [5, 6, 1, 0] rfl)
  refine lv_iload_n hx hb dX2_body_0 rfl (lv_at hl 1 rfl) ?_
  refine lv_iconst (v := nI 1) hx hb dX2_body_1 (by decide) ?_
  refine lv_aload_n hx hb dX2_body_2 rfl (lv_at hl 0 rfl) ?_
  refine gf2 hx hb hts hown hK hP rfl 0 (by decide) q180 rfl rfl dX2_body_3 ?_
  refine nr_shl hx hb (by omega) dX2_body_6 ?_
  refine nr_icmp_ge (tgt := 14) hx hb (by omega) (by omega) dX2_body_7 (by decide) (fun c7 => ?_) (fun c7 => ?_)
  · refine lv_iconst (v := nI 0) hx hb dX2_body_14 (by decide) ?_
    refine lv_istore_n (lv' := [(2, _), (0, _), (1, _)]) hx hb dX2_body_15 rfl hl (by decide) rfl (fun ls hl => ?_)
    refine lv_iconst (v := nI 0) hx hb dX2_body_16 (by decide) ?_
    refine lv_istore_n (lv' := [(3, _), (2, _), (0, _), (1, _)]) hx hb dX2_body_17 rfl hl (by decide) rfl (fun ls hl => ?_)
    exact loop 37 0 false x0 y0 (by omega) (by omega) (by rw [decide_eq_false (by omega)]; rfl) hmb _ _ hP hD hS _ (lv_sub hl [2, 3, 1, 0] rfl)
  · refine lv_iconst (v := nI 1) hx hb dX2_body_10 (by decide) ?_
    refine lv_goto (tgt := 15) hx hb dX2_body_11 (by decide) ?_
    refine lv_istore_n (lv' := [(2, _), (0, _), (1, _)]) hx hb dX2_body_15 rfl hl (by decide) rfl (fun ls hl => ?_)
    refine lv_iconst (v := nI 0) hx hb dX2_body_16 (by decide) ?_
    refine lv_istore_n (lv' := [(3, _), (2, _), (0, _), (1, _)]) hx hb dX2_body_17 rfl hl (by decide) rfl (fun ls hl => ?_)
    exact loop 37 0 true x0 y0 (by omega) (by omega) (by rw [decide_eq_true c7]; rfl) hmb _ _ hP hD hS _ (lv_sub hl [2, 3, 1, 0] rfl)

set_option maxHeartbeats 4000000 in
set_option maxRecDepth 100000 in
/-- bodies -/
theorem mX2_bodies (l : Launch) (D : va_G) (dZ dN : ClassId) (ad : Nat → Nat) (sz : Nat) (J P : Nat) (A B : Nat → Nat) (x0 y0 : Nat)  (hok : ok_ J P A B) (hmb : mb_ (up_ A 12 x0) (up_ B 12 y0)) : mt_i l yX2_bodies cX2_bodies 5 .int (rr_ 6 144) D [(dZ, .boolean), (dN, .int)] (wM dZ dN ad J P (up_ A 12 x0) (up_ B 12 y0)) sz [.ref (ad 0)] (fun (r : Int32) (u : Nat × Nat) => r = nI (bN_ J A B P) ∧ mb_ (up_ A 12 u.1) (up_ B 12 u.2)) (fun u => wM dZ dN ad J P (up_ A 12 u.1) (up_ B 12 u.2)) := by
  refine en_i (by decide +kernel) (Nat.le_of_ble_eq_true rfl) ?_
  intro p e s m args below meth c A0 H0 Q hx hb hml hown hts hK hP hD hA hS ret ls hl
  have hown : s.vm.findClass RX2 = some m.cls := hown
  have hl : lv_has ls 5 [(0, .ref (ad 0))] := hl
  refine lv_iconst (v := nI 0) hx hb dX2_bodies_0 (by decide) ?_
  refine lv_istore_n (lv' := [(1, _), (0, _)]) hx hb dX2_bodies_1 rfl hl (by decide) rfl (fun ls hl => ?_)
  refine lv_iconst (v := nI 0) hx hb dX2_bodies_2 (by decide) ?_
  refine lv_istore_n (lv' := [(2, _), (1, _), (0, _)]) hx hb dX2_bodies_3 rfl hl (by decide) rfl (fun ls hl => ?_)
  have hJ := hok.2.1
  have h64 := p_64 hJ
  have hfin : bm_ (hb_ J A B (tk_ J A B P 12)) J = bN_ J A B P := bm_bf hJ (ok_hr hok)
  have hbd : ∀ (x0 y0 sz G : Nat), mb_ (up_ A 12 x0) (up_ B 12 y0) → G < 4096 → _ := fun x0 y0 sz G hmb hG => mX2_body l D dZ dN ad sz J P A B x0 y0 G hok hmb hG
  generalize hh : hb_ J A B (tk_ J A B P 12) = h at hfin hbd
  have loop : ∀ (n : Nat) (G z : Nat) (x0 y0 : Nat), (2 ^ J + 1 ≤ G + n) → (G ≤ 2 ^ J) → (z = cn_ G (fun G => tp_ h J G)) → (mb_ (up_ A 12 x0) (up_ B 12 y0)) → ∀ (H : Heap) (locs : List Loc), va_P D vwCl (wM dZ dN ad J P (up_ A 12 x0) (up_ B 12 y0)) H → va_D A0 (wM dZ dN ad J P (up_ A 12 x0) (up_ B 12 y0)) → va_S A0 H0 H locs → ∀ ls : Array Slot, lv_has ls 5 [(0, .ref (ad 0)), (1, .int (nI z)), (2, .int (nI G))] → W p l e (rr_ 6 144) s m args below meth c H locs 0 0 Q (F0 m 4 ls []) := by
    intro n
    induction n with
    | zero =>
      intro G z x0 y0 hn hG hz hmb
      exfalso
      omega
    | succ n ih_loop =>
      intro G z x0 y0 hn hG hz hmb H locs hP hD hS ls hl
      refine lv_iload_n hx hb dX2_bodies_4 rfl (lv_at hl 2 rfl) ?_
      refine lv_iconst (v := nI 1) hx hb dX2_bodies_5 (by decide) ?_
      refine lv_aload_n hx hb dX2_bodies_6 rfl (lv_at hl 0 rfl) ?_
      refine gf2 hx hb hts hown hK hP rfl 0 (by decide) q180 rfl rfl dX2_bodies_7 ?_
      refine nr_shl hx hb (by omega) dX2_bodies_10 ?_
      refine nr_icmp_ge (tgt := 106) hx hb (by omega) (by omega) dX2_bodies_11 (by decide) (fun c11 => ?_) (fun c11 => ?_)
      · refine lv_iload_n hx hb dX2_bodies_106 rfl (lv_at hl 1 rfl) ?_
        exact ret _ _ _ _ _ (x0, y0) dX2_bodies_107 rfl ⟨by rw [← hfin, hz, show G = 2 ^ J by omega]; rfl, hmb⟩ hP hD hS
      · have inner : ∀ (n : Nat) (a : Nat) (top : Bool) (x0 y0 : Nat), (J + 1 ≤ a + n) → (a ≤ J) → (top = ((decide (3 ≤ sz_ G) && bd_ h J G) && al_ a (fun a => G.testBit a || !(bd_ h J (G ||| 2 ^ a))))) → (mb_ (up_ A 12 x0) (up_ B 12 y0)) → ∀ (H : Heap) (locs : List Loc), va_P D vwCl (wM dZ dN ad J P (up_ A 12 x0) (up_ B 12 y0)) H → va_D A0 (wM dZ dN ad J P (up_ A 12 x0) (up_ B 12 y0)) → va_S A0 H0 H locs → ∀ ls : Array Slot, lv_has ls 5 [(0, .ref (ad 0)), (1, .int (nI z)), (2, .int (nI G)), (3, .int (nI top.toNat)), (4, .int (nI a))] → W p l e (rr_ 6 144) s m args below meth c H locs 0 0 Q (F0 m 40 ls []) := by
          intro n
          induction n with
          | zero =>
            intro a top x0 y0 hn2 haJ htop hmb
            exfalso
            omega
          | succ n ih_inner =>
            intro a top x0 y0 hn2 haJ htop hmb H locs hP hD hS ls hl
            refine lv_iload hx hb dX2_bodies_40 (lv_at hl 4 rfl) ?_
            refine lv_aload_n hx hb dX2_bodies_42 rfl (lv_at hl 0 rfl) ?_
            refine gf2 hx hb hts hown hK hP rfl 0 (by decide) q180 rfl rfl dX2_bodies_43 ?_
            refine nr_icmp_ge (tgt := 88) hx hb (by omega) (by omega) dX2_bodies_46 (by decide) (fun c46 => ?_) (fun c46 => ?_)
            · have htp : tp_ h J G = top := by unfold tp_; rw [htop, show a = J by omega]
              refine lv_iload_n hx hb dX2_bodies_88 rfl (lv_at hl 3 rfl) ?_
              refine nr_beq (tgt := 98) hx hb dX2_bodies_89 (by decide) (fun c89 => ?_) (fun c89 => ?_)
              · refine lv_iload_n hx hb dX2_bodies_98 rfl (lv_at hl 1 rfl) ?_
                refine lv_istore_n (lv' := [(1, _), (0, _), (2, _), (3, _), (4, _)]) hx hb dX2_bodies_99 rfl hl (by decide) rfl (fun ls hl => ?_)
                refine lv_iinc (v := nI (G + 1)) (lv' := [(2, _), (1, _), (0, _), (3, _), (4, _)]) hx hb dX2_bodies_100 hl (k := 2) rfl (nI_1 _) (by decide) rfl (fun ls hl => ?_)
                refine lv_goto (tgt := 4) hx hb dX2_bodies_103 (by decide) ?_
                exact ih_loop (G + 1) z x0 y0 (by omega) (by omega) (by rw [cn_s, ← hz, htp, c89]; rfl) hmb _ _ hP hD hS _ (lv_sub hl [2, 1, 0] rfl)
              · refine lv_iload_n hx hb dX2_bodies_92 rfl (lv_at hl 1 rfl) ?_
                refine lv_iconst (v := nI 1) hx hb dX2_bodies_93 (by decide) ?_
                refine nr_add hx hb dX2_bodies_94 ?_
                refine lv_goto (tgt := 99) hx hb dX2_bodies_95 (by decide) ?_
                refine lv_istore_n (lv' := [(1, _), (0, _), (2, _), (3, _), (4, _)]) hx hb dX2_bodies_99 rfl hl (by decide) rfl (fun ls hl => ?_)
                refine lv_iinc (v := nI (G + 1)) (lv' := [(2, _), (1, _), (0, _), (3, _), (4, _)]) hx hb dX2_bodies_100 hl (k := 2) rfl (nI_1 _) (by decide) rfl (fun ls hl => ?_)
                refine lv_goto (tgt := 4) hx hb dX2_bodies_103 (by decide) ?_
                exact ih_loop (G + 1) (z + 1) x0 y0 (by omega) (by omega) (by rw [cn_s, ← hz, htp, c89]; rfl) hmb _ _ hP hD hS _ (lv_sub hl [2, 1, 0] rfl)
            · refine lv_iload_n hx hb dX2_bodies_49 rfl (lv_at hl 3 rfl) ?_
              refine nr_beq (tgt := 88) hx hb dX2_bodies_50 (by decide) (fun c50 => ?_) (fun c50 => ?_)
              · have htp : tp_ h J G = top := by rw [c50]; exact and_alm haJ (htop.symm.trans c50)
                refine lv_iload_n hx hb dX2_bodies_88 rfl (lv_at hl 3 rfl) ?_
                refine nr_beq (tgt := 98) hx hb dX2_bodies_89 (by decide) (fun c89 => ?_) (fun c89 => ?_)
                · refine lv_iload_n hx hb dX2_bodies_98 rfl (lv_at hl 1 rfl) ?_
                  refine lv_istore_n (lv' := [(1, _), (0, _), (2, _), (3, _), (4, _)]) hx hb dX2_bodies_99 rfl hl (by decide) rfl (fun ls hl => ?_)
                  refine lv_iinc (v := nI (G + 1)) (lv' := [(2, _), (1, _), (0, _), (3, _), (4, _)]) hx hb dX2_bodies_100 hl (k := 2) rfl (nI_1 _) (by decide) rfl (fun ls hl => ?_)
                  refine lv_goto (tgt := 4) hx hb dX2_bodies_103 (by decide) ?_
                  exact ih_loop (G + 1) z x0 y0 (by omega) (by omega) (by rw [cn_s, ← hz, htp, c89]; rfl) hmb _ _ hP hD hS _ (lv_sub hl [2, 1, 0] rfl)
                · refine lv_iload_n hx hb dX2_bodies_92 rfl (lv_at hl 1 rfl) ?_
                  refine lv_iconst (v := nI 1) hx hb dX2_bodies_93 (by decide) ?_
                  refine nr_add hx hb dX2_bodies_94 ?_
                  refine lv_goto (tgt := 99) hx hb dX2_bodies_95 (by decide) ?_
                  refine lv_istore_n (lv' := [(1, _), (0, _), (2, _), (3, _), (4, _)]) hx hb dX2_bodies_99 rfl hl (by decide) rfl (fun ls hl => ?_)
                  refine lv_iinc (v := nI (G + 1)) (lv' := [(2, _), (1, _), (0, _), (3, _), (4, _)]) hx hb dX2_bodies_100 hl (k := 2) rfl (nI_1 _) (by decide) rfl (fun ls hl => ?_)
                  refine lv_goto (tgt := 4) hx hb dX2_bodies_103 (by decide) ?_
                  exact ih_loop (G + 1) (z + 1) x0 y0 (by omega) (by omega) (by rw [cn_s, ← hz, htp, c89]; rfl) hmb _ _ hP hD hS _ (lv_sub hl [2, 1, 0] rfl)
              · refine lv_iload_n hx hb dX2_bodies_53 rfl (lv_at hl 2 rfl) ?_
                refine lv_iload hx hb dX2_bodies_54 (lv_at hl 4 rfl) ?_
                refine nr_bit hx hb (by omega) (by omega) dX2_bodies_56 dX2_bodies_57 dX2_bodies_58 ?_
                refine lv_iconst (v := nI 1) hx hb dX2_bodies_59 (by decide) ?_
                refine nr_beq1 (tgt := 76) hx hb dX2_bodies_60 (by decide) (fun c60 => ?_) (fun c60 => ?_)
                · refine lv_iconst (v := nI 1) hx hb dX2_bodies_76 (by decide) ?_
                  refine lv_goto (tgt := 81) hx hb dX2_bodies_77 (by decide) ?_
                  refine lv_istore_n (lv' := [(3, _), (0, _), (1, _), (2, _), (4, _)]) hx hb dX2_bodies_81 rfl hl (by decide) rfl (fun ls hl => ?_)
                  refine lv_iinc (v := nI (a + 1)) (lv' := [(4, _), (3, _), (0, _), (1, _), (2, _)]) hx hb dX2_bodies_82 hl (k := 4) rfl (nI_1 _) (by decide) rfl (fun ls hl => ?_)
                  refine lv_goto (tgt := 40) hx hb dX2_bodies_85 (by decide) ?_
                  exact ih_inner (a + 1) true x0 y0 (by omega) (by omega) (by rw [al_s, ← Bool.and_assoc, ← htop, c50, c60]; rfl) hmb _ _ hP hD hS _ (lv_sub hl [2, 3, 4, 1, 0] rfl)
                · refine lv_aload_n hx hb dX2_bodies_63 rfl (lv_at hl 0 rfl) ?_
                  refine lv_iload_n hx hb dX2_bodies_64 rfl (lv_at hl 2 rfl) ?_
                  refine lv_iconst (v := nI 1) hx hb dX2_bodies_65 (by decide) ?_
                  refine lv_iload hx hb dX2_bodies_66 (lv_at hl 4 rfl) ?_
                  refine nr_shl hx hb (by omega) dX2_bodies_68 ?_
                  refine nr_or hx hb dX2_bodies_69 ?_
                  refine cl_i ⟨hx, hb, hml, hown, hts⟩ hK hP hD hA hS rfl rfl (hbd x0 y0 _ (G ||| 2 ^ a) hmb (or_lt (n := 12) (by omega) (p_lt (by omega)))) (cwV 1 hts (lw_V q275 q277 qs16 q19 q278) rfl rfl rfl (by decide +kernel) ⟨Nat.le_of_ble_eq_true rfl, Nat.le_of_ble_eq_true rfl⟩) rfl hl.1 rfl (Nat.le_of_ble_eq_true rfl) ⟨Nat.le_refl _, Nat.le_refl _⟩ dX2_bodies_70 (fun r1 u1 H locs hw hP hD hS => ?_)
                  obtain ⟨xx1, yy1⟩ := u1
                  obtain ⟨hr1, hmb⟩ := hw
                  have hP : va_P D vwCl (wM dZ dN ad J P (up_ A 12 xx1) (up_ B 12 yy1)) H := hP
                  have hD : va_D A0 (wM dZ dN ad J P (up_ A 12 xx1) (up_ B 12 yy1)) := hD
                  have hmb : mb_ (up_ A 12 xx1) (up_ B 12 yy1) := hmb
                  subst hr1
                  refine nr_bne (tgt := 80) hx hb dX2_bodies_73 (by decide) (fun c73 => ?_) (fun c73 => ?_)
                  · refine lv_iconst (v := nI 0) hx hb dX2_bodies_80 (by decide) ?_
                    refine lv_istore_n (lv' := [(3, _), (0, _), (1, _), (2, _), (4, _)]) hx hb dX2_bodies_81 rfl hl (by decide) rfl (fun ls hl => ?_)
                    refine lv_iinc (v := nI (a + 1)) (lv' := [(4, _), (3, _), (0, _), (1, _), (2, _)]) hx hb dX2_bodies_82 hl (k := 4) rfl (nI_1 _) (by decide) rfl (fun ls hl => ?_)
                    refine lv_goto (tgt := 40) hx hb dX2_bodies_85 (by decide) ?_
                    exact ih_inner (a + 1) false xx1 yy1 (by omega) (by omega) (by rw [al_s, ← Bool.and_assoc, ← htop, c50, c60, c73]; rfl) hmb _ _ hP hD hS _ (lv_sub hl [2, 3, 4, 1, 0] rfl)
                  · refine lv_iconst (v := nI 1) hx hb dX2_bodies_76 (by decide) ?_
                    refine lv_goto (tgt := 81) hx hb dX2_bodies_77 (by decide) ?_
                    refine lv_istore_n (lv' := [(3, _), (0, _), (1, _), (2, _), (4, _)]) hx hb dX2_bodies_81 rfl hl (by decide) rfl (fun ls hl => ?_)
                    refine lv_iinc (v := nI (a + 1)) (lv' := [(4, _), (3, _), (0, _), (1, _), (2, _)]) hx hb dX2_bodies_82 hl (k := 4) rfl (nI_1 _) (by decide) rfl (fun ls hl => ?_)
                    refine lv_goto (tgt := 40) hx hb dX2_bodies_85 (by decide) ?_
                    exact ih_inner (a + 1) true xx1 yy1 (by omega) (by omega) (by rw [al_s, ← Bool.and_assoc, ← htop, c50, c60, c73]; rfl) hmb _ _ hP hD hS _ (lv_sub hl [2, 3, 4, 1, 0] rfl)
        refine lv_aload_n hx hb dX2_bodies_14 rfl (lv_at hl 0 rfl) ?_
        refine lv_iload_n hx hb dX2_bodies_15 rfl (lv_at hl 2 rfl) ?_
        refine cl_i ⟨hx, hb, hml, hown, hts⟩ hK hP hD hA hS rfl rfl (mX2_count l D dZ dN ad _ J P (up_ A 12 x0) (up_ B 12 y0) G (by omega)) (cwV 1 hts (lw_V q220 q222 qs12 q19 q223) rfl rfl rfl (by decide +kernel) ⟨Nat.le_of_ble_eq_true rfl, Nat.le_of_ble_eq_true rfl⟩) rfl hl.1 rfl (Nat.le_of_ble_eq_true rfl) ⟨Nat.le_refl _, Nat.le_refl _⟩ dX2_bodies_16 (fun r2 u2 H locs hw hP hD hS => ?_)
        subst hw
        refine lv_iconst (v := nI 3) hx hb dX2_bodies_19 (by decide) ?_
        refine nr_icmp_lt (tgt := 35) hx hb (sz_31 _) (by omega) dX2_bodies_20 (by decide) (fun c20 => ?_) (fun c20 => ?_)
        · refine lv_iconst (v := nI 0) hx hb dX2_bodies_35 (by decide) ?_
          refine lv_istore_n (lv' := [(3, _), (0, _), (1, _), (2, _)]) hx hb dX2_bodies_36 rfl hl (by decide) rfl (fun ls hl => ?_)
          refine lv_iconst (v := nI 0) hx hb dX2_bodies_37 (by decide) ?_
          refine lv_istore (lv' := [(4, _), (3, _), (0, _), (1, _), (2, _)]) hx hb dX2_bodies_38 hl (by decide) rfl (fun ls hl => ?_)
          exact inner (J + 1) 0 false x0 y0 (by omega) (by omega) (by rw [show decide (3 ≤ sz_ G) = false from decide_eq_false (by omega)]; rfl) hmb _ _ hP hD hS _ (lv_sub hl [2, 3, 4, 1, 0] rfl)
        · refine lv_aload_n hx hb dX2_bodies_23 rfl (lv_at hl 0 rfl) ?_
          refine lv_iload_n hx hb dX2_bodies_24 rfl (lv_at hl 2 rfl) ?_
          refine cl_i ⟨hx, hb, hml, hown, hts⟩ hK hP hD hA hS rfl rfl (hbd x0 y0 _ G hmb (by omega)) (cwV 1 hts (lw_V q275 q277 qs16 q19 q278) rfl rfl rfl (by decide +kernel) ⟨Nat.le_of_ble_eq_true rfl, Nat.le_of_ble_eq_true rfl⟩) rfl hl.1 rfl (Nat.le_of_ble_eq_true rfl) ⟨Nat.le_refl _, Nat.le_refl _⟩ dX2_bodies_25 (fun r3 u3 H locs hw hP hD hS => ?_)
          obtain ⟨xx3, yy3⟩ := u3
          obtain ⟨hr3, hmb⟩ := hw
          have hP : va_P D vwCl (wM dZ dN ad J P (up_ A 12 xx3) (up_ B 12 yy3)) H := hP
          have hD : va_D A0 (wM dZ dN ad J P (up_ A 12 xx3) (up_ B 12 yy3)) := hD
          have hmb : mb_ (up_ A 12 xx3) (up_ B 12 yy3) := hmb
          subst hr3
          refine nr_beq (tgt := 35) hx hb dX2_bodies_28 (by decide) (fun c28 => ?_) (fun c28 => ?_)
          · refine lv_iconst (v := nI 0) hx hb dX2_bodies_35 (by decide) ?_
            refine lv_istore_n (lv' := [(3, _), (0, _), (1, _), (2, _)]) hx hb dX2_bodies_36 rfl hl (by decide) rfl (fun ls hl => ?_)
            refine lv_iconst (v := nI 0) hx hb dX2_bodies_37 (by decide) ?_
            refine lv_istore (lv' := [(4, _), (3, _), (0, _), (1, _), (2, _)]) hx hb dX2_bodies_38 hl (by decide) rfl (fun ls hl => ?_)
            exact inner (J + 1) 0 false xx3 yy3 (by omega) (by omega) (by rw [c28, Bool.and_false]; rfl) hmb _ _ hP hD hS _ (lv_sub hl [2, 3, 4, 1, 0] rfl)
          · refine lv_iconst (v := nI 1) hx hb dX2_bodies_31 (by decide) ?_
            refine lv_goto (tgt := 36) hx hb dX2_bodies_32 (by decide) ?_
            refine lv_istore_n (lv' := [(3, _), (0, _), (1, _), (2, _)]) hx hb dX2_bodies_36 rfl hl (by decide) rfl (fun ls hl => ?_)
            refine lv_iconst (v := nI 0) hx hb dX2_bodies_37 (by decide) ?_
            refine lv_istore (lv' := [(4, _), (3, _), (0, _), (1, _), (2, _)]) hx hb dX2_bodies_38 hl (by decide) rfl (fun ls hl => ?_)
            exact inner (J + 1) 0 true xx3 yy3 (by omega) (by omega) (by rw [show decide (3 ≤ sz_ G) = true from decide_eq_true c20, c28]; rfl) hmb _ _ hP hD hS _ (lv_sub hl [2, 3, 4, 1, 0] rfl)
  exact loop (2 ^ J + 1) 0 0 x0 y0 (by omega) (Nat.zero_le _) rfl hmb _ _ hP hD hS _ (lv_sub hl [2, 1, 0] rfl)

set_option maxHeartbeats 4000000 in
set_option maxRecDepth 100000 in
/-- doublyHeld -/
theorem mX2_doublyHeld (l : Launch) (D : va_G) (dZ dN : ClassId) (ad : Nat → Nat) (sz : Nat) (J P : Nat) (A B : Nat → Nat) (x0 y0 : Nat)  (hok : ok_ J P A B) (hmb : mb_ (up_ A 12 x0) (up_ B 12 y0)) : mt_i l yX2_doublyHeld cX2_doublyHeld 3 .boolean (rr_ 6 135) D [(dZ, .boolean), (dN, .int)] (wM dZ dN ad J P (up_ A 12 x0) (up_ B 12 y0)) sz [.ref (ad 0)] (fun (r : Int32) (_ : Unit) => r = nI (dh_ J A B P).toNat) (fun _ => wM dZ dN ad J P (up_ A 12 x0) (up_ B 12 y0)) := by
  refine en_i (by decide +kernel) (Nat.le_of_ble_eq_true rfl) ?_
  intro p e s m args below meth c A0 H0 Q hx hb hml hown hts hK hP hD hA hS ret ls hl
  have hown : s.vm.findClass RX2 = some m.cls := hown
  have hl : lv_has ls 3 [(0, .ref (ad 0))] := hl
  refine lv_aload_n hx hb dX2_doublyHeld_0 rfl (lv_at hl 0 rfl) ?_
  refine cl_i ⟨hx, hb, hml, hown, hts⟩ hK hP hD hA hS rfl rfl (mX2_rigid l D dZ dN ad _ J P A B x0 y0 hok hmb) (cwV 0 hts (lw_V q283 q245 q246 q19 q247) rfl rfl rfl (by decide +kernel) ⟨Nat.le_of_ble_eq_true rfl, Nat.le_of_ble_eq_true rfl⟩) rfl hl.1 rfl (Nat.le_of_ble_eq_true rfl) ⟨Nat.le_refl _, Nat.le_refl _⟩ dX2_doublyHeld_1 (fun r1 u1 H locs hw hP hD hS => ?_)
  subst hw
  refine lv_istore_n (lv' := [(1, _), (0, _)]) hx hb dX2_doublyHeld_4 rfl hl (by decide) rfl (fun ls hl => ?_)
  refine lv_iconst (v := nI 0) hx hb dX2_doublyHeld_5 (by decide) ?_
  refine lv_istore_n (lv' := [(2, _), (1, _), (0, _)]) hx hb dX2_doublyHeld_6 rfl hl (by decide) rfl (fun ls hl => ?_)
  have loop : ∀ (n : Nat) (k : Nat) (ok : Bool), (12 + 1 ≤ k + n) → (k ≤ 12) → (ok = (decide (fd_ J A B P = 0) && al_ k (fun k => !(P.testBit k) || rd_ J A B P (nI k)))) → ∀ (H : Heap) (locs : List Loc), va_P D vwCl (wM dZ dN ad J P (up_ A 12 x0) (up_ B 12 y0)) H → va_D A0 (wM dZ dN ad J P (up_ A 12 x0) (up_ B 12 y0)) → va_S A0 H0 H locs → ∀ ls : Array Slot, lv_has ls 3 [(0, .ref (ad 0)), (1, .int (nI ok.toNat)), (2, .int (nI k))] → W p l e (rr_ 6 135) s m args below meth c H locs 0 0 Q (F0 m 7 ls []) := by
    intro n
    induction n with
    | zero =>
      intro k ok hn hk hokk
      exfalso
      omega
    | succ n ih_loop =>
      intro k ok hn hk hokk H locs hP hD hS ls hl
      refine lv_iload_n hx hb dX2_doublyHeld_7 rfl (lv_at hl 2 rfl) ?_
      refine lv_bipush (v := nI 12) hx hb dX2_doublyHeld_8 (by decide) ?_
      refine nr_icmp_ge (tgt := 46) hx hb (by omega) (by omega) dX2_doublyHeld_10 (by decide) (fun c10 => ?_) (fun c10 => ?_)
      · refine lv_iload_n hx hb dX2_doublyHeld_46 rfl (lv_at hl 1 rfl) ?_
        exact ret _ _ _ _ _ () dX2_doublyHeld_47 (wd_rz _) (by rw [hokk, show k = 12 by omega]; rfl) hP hD hS
      · refine lv_iload_n hx hb dX2_doublyHeld_13 rfl (lv_at hl 1 rfl) ?_
        refine nr_beq (tgt := 38) hx hb dX2_doublyHeld_14 (by decide) (fun c14 => ?_) (fun c14 => ?_)
        · refine lv_iconst (v := nI 0) hx hb dX2_doublyHeld_38 (by decide) ?_
          refine lv_istore_n (lv' := [(1, _), (0, _), (2, _)]) hx hb dX2_doublyHeld_39 rfl hl (by decide) rfl (fun ls hl => ?_)
          refine lv_iinc (v := nI (k + 1)) (lv' := [(2, _), (1, _), (0, _)]) hx hb dX2_doublyHeld_40 hl (k := 2) rfl (nI_1 _) (by decide) rfl (fun ls hl => ?_)
          refine lv_goto (tgt := 7) hx hb dX2_doublyHeld_43 (by decide) ?_
          exact ih_loop (k + 1) false (by omega) (by omega) (by rw [al_s, ← Bool.and_assoc, ← hokk, c14]; rfl) _ _ hP hD hS _ (lv_sub hl [2, 1, 0] rfl)
        · refine lv_aload_n hx hb dX2_doublyHeld_17 rfl (lv_at hl 0 rfl) ?_
          refine gf2 hx hb hts hown hK hP rfl 1 (by decide) q181 rfl rfl dX2_doublyHeld_18 ?_
          refine lv_iload_n hx hb dX2_doublyHeld_21 rfl (lv_at hl 2 rfl) ?_
          refine nr_zald hx hb hK hP 1 0 rfl rfl (by decide) (by omega) dX2_doublyHeld_22 ?_
          refine nr_beq (tgt := 34) hx hb dX2_doublyHeld_23 (by decide) (fun c23 => ?_) (fun c23 => ?_)
          · refine lv_iconst (v := nI 1) hx hb dX2_doublyHeld_34 (by decide) ?_
            refine lv_goto (tgt := 39) hx hb dX2_doublyHeld_35 (by decide) ?_
            refine lv_istore_n (lv' := [(1, _), (0, _), (2, _)]) hx hb dX2_doublyHeld_39 rfl hl (by decide) rfl (fun ls hl => ?_)
            refine lv_iinc (v := nI (k + 1)) (lv' := [(2, _), (1, _), (0, _)]) hx hb dX2_doublyHeld_40 hl (k := 2) rfl (nI_1 _) (by decide) rfl (fun ls hl => ?_)
            refine lv_goto (tgt := 7) hx hb dX2_doublyHeld_43 (by decide) ?_
            exact ih_loop (k + 1) true (by omega) (by omega) (by rw [al_s, ← Bool.and_assoc, ← hokk, c14, c23]; rfl) _ _ hP hD hS _ (lv_sub hl [2, 1, 0] rfl)
          · refine lv_aload_n hx hb dX2_doublyHeld_26 rfl (lv_at hl 0 rfl) ?_
            refine lv_iload_n hx hb dX2_doublyHeld_27 rfl (lv_at hl 2 rfl) ?_
            refine cl_i ⟨hx, hb, hml, hown, hts⟩ hK hP hD hA hS rfl rfl (mX2_redundant l D dZ dN ad _ J P A B x0 y0 (nI k) hok hmb) (cwV 1 hts (lw_V q284 q258 q259 q19 q260) rfl rfl rfl (by decide +kernel) ⟨Nat.le_of_ble_eq_true rfl, Nat.le_of_ble_eq_true rfl⟩) rfl hl.1 rfl (Nat.le_of_ble_eq_true rfl) ⟨Nat.le_refl _, Nat.le_refl _⟩ dX2_doublyHeld_28 (fun r2 u2 H locs hw hP hD hS => ?_)
            subst hw
            refine nr_beq (tgt := 38) hx hb dX2_doublyHeld_31 (by decide) (fun c31 => ?_) (fun c31 => ?_)
            · refine lv_iconst (v := nI 0) hx hb dX2_doublyHeld_38 (by decide) ?_
              refine lv_istore_n (lv' := [(1, _), (0, _), (2, _)]) hx hb dX2_doublyHeld_39 rfl hl (by decide) rfl (fun ls hl => ?_)
              refine lv_iinc (v := nI (k + 1)) (lv' := [(2, _), (1, _), (0, _)]) hx hb dX2_doublyHeld_40 hl (k := 2) rfl (nI_1 _) (by decide) rfl (fun ls hl => ?_)
              refine lv_goto (tgt := 7) hx hb dX2_doublyHeld_43 (by decide) ?_
              exact ih_loop (k + 1) false (by omega) (by omega) (by rw [al_s, ← Bool.and_assoc, ← hokk, c14, c23, c31]; rfl) _ _ hP hD hS _ (lv_sub hl [2, 1, 0] rfl)
            · refine lv_iconst (v := nI 1) hx hb dX2_doublyHeld_34 (by decide) ?_
              refine lv_goto (tgt := 39) hx hb dX2_doublyHeld_35 (by decide) ?_
              refine lv_istore_n (lv' := [(1, _), (0, _), (2, _)]) hx hb dX2_doublyHeld_39 rfl hl (by decide) rfl (fun ls hl => ?_)
              refine lv_iinc (v := nI (k + 1)) (lv' := [(2, _), (1, _), (0, _)]) hx hb dX2_doublyHeld_40 hl (k := 2) rfl (nI_1 _) (by decide) rfl (fun ls hl => ?_)
              refine lv_goto (tgt := 7) hx hb dX2_doublyHeld_43 (by decide) ?_
              exact ih_loop (k + 1) true (by omega) (by omega) (by rw [al_s, ← Bool.and_assoc, ← hokk, c14, c23, c31]; rfl) _ _ hP hD hS _ (lv_sub hl [2, 1, 0] rfl)
  exact loop 13 0 (decide (fd_ J A B P = 0)) (by omega) (by omega) ((Bool.and_true _).symm) _ _ hP hD hS _ (lv_sub hl [2, 1, 0] rfl)
end
section
/-! the constructors, and the law's cell -/
abbrev z_ : Nat → Nat := fun _ => 0
def jc_ (x : Int32) : Nat := if nI 2 ≤ x then (if x ≤ nI 6 then x.toNatClampNeg else 6) else 2
theorem jc_lo {x : Int32} (h : ¬ nI 2 ≤ x) : jc_ x = 2 := by unfold jc_; rw [if_neg h]
theorem jc_hi {x : Int32} (h : nI 2 ≤ x) (h2 : ¬ x ≤ nI 6) : jc_ x = 6 := by unfold jc_; rw [if_pos h, if_neg h2]
theorem jc_mid {x : Int32} (h : nI 2 ≤ x) (h2 : x ≤ nI 6) : x = nI (jc_ x) ∧ 2 ≤ jc_ x ∧ jc_ x ≤ 6 := by
  have h3 : ¬ x < 0 := by
    rw [Int32.le_iff_toInt_le, nI_toInt (by decide)] at h
    rw [Int32.lt_iff_toInt_lt]
    have : (0 : Int32).toInt = 0 := rfl
    omega
  obtain ⟨j, hj, rfl⟩ := nI_of2 (M := nI 6) (n := 6) (nI_toInt (by decide)) h3 h2
  have h4 : jc_ (nI j) = j := by
    unfold jc_
    rw [if_pos h, if_pos h2, nI_clamp (by omega)]
  rw [h4]
  exact ⟨rfl, (nI_leI (by decide) (by omega)).mp h, hj⟩
theorem jc_in (x : Int32) : 2 ≤ jc_ x ∧ jc_ x ≤ 6 := by
  by_cases h : nI 2 ≤ x
  · by_cases h2 : x ≤ nI 6
    · exact (jc_mid h h2).2
    · rw [jc_hi h h2]
      decide
  · rw [jc_lo h]
    decide
theorem ka_eq {D : va_G} {cl : List vw_C} {s : State} {c1 c2 : ClassId} {ty : FieldType} {tys : List (ClassId × FieldType)} (i j : Nat) (h : va_K D cl tys s) (h1 : tys[i]? = some (c1, ty)) (h2 : tys[j]? = some (c2, ty)) (ht : ∀ c, va_RA s c ty = (s.vm.findClass ("[" ++ ty.toString) = some c)) : c2 = c1 := by
  have g1 := (h.2 i _ h1).2
  have g2 := (h.2 j _ h2).2
  rw [ht] at g1 g2
  exact Option.some.inj (g2.symm.trans g1)
theorem zF_0 : zF 0 = nF z_ := by
  funext k
  unfold zF nF
  rw [Nat.zero_testBit]
  rfl

set_option maxHeartbeats 4000000 in
set_option maxRecDepth 100000 in
/-- the constructor -/
theorem mX1_init (l : Launch) (D : va_G) (h sz : Nat) (x : Int32) : Met l yX1_init (ws_ yX1_init cX1_init 2 none) ({ frames := 1, cells := 7, slots := 68, locals := 12 }) (va_Pc [.ref h, .int x] (pw_ D [] [(h, .inr (0, [.int 0, .int 0, .null, .null, .int 0, .null, .null, .null, .int 0, .null, .null]))] sz)) (va_Qv (fun u : ClassId × (Nat → Nat) => u.2 0 = h) (fun u => bw_ D [(u.1, .byte)] (va_A [(h, .inr (0, [.int 0, .int 0, .null, .null, .int 0, .null, .null, .null, .int 0, .null, .null]))] sz) (wF u.1 u.2 (jc_ x) 0 z_ z_ 0 z_ z_ z_ 0 z_ z_)) (va_A [(h, .inr (0, [.int 0, .int 0, .null, .null, .int 0, .null, .null, .null, .int 0, .null, .null]))] sz)) 7 68 (va_A [(h, .inr (0, [.int 0, .int 0, .null, .null, .int 0, .null, .null, .null, .int 0, .null, .null]))] sz) := by
  refine Met.ofW (cc := cX1_init) (maxL := 2) (ret := none) (by decide +kernel) rfl ?_
  intro p e s m args below meth c s₁ B hml hv
  obtain ⟨rfl, hsz, hP, hK, hD0⟩ := hv
  have hx := B.exec
  have hb := B.bytes
  have hr := B.returns
  have hts := atoms_spec (ws := ws_ yX1_init cX1_init 2 none) B.pre
  have hts : ∀ w ∈ lw_all, w.before _ s = true := fun w h => hts w (List.mem_cons_of_mem _ h)
  have hown : s.vm.findClass RX1 = some m.cls := findClass_of_methodNamed B.named
  have hlocks := B.notSynchronized
  have hin : meth.name = "<init>" := (name_of_methodNamed B.named B.method).1
  subst hsz
  have hD := hD0.self (sz := s.heap.size)
  generalize hAe : va_A [(h, .inr (0, [.int 0, .int 0, .null, .null, .int 0, .null, .null, .null, .int 0, .null, .null]))] s.heap.size = A at hD ⊢
  have hA : ∀ q : Nat, s.heap.size ≤ q → A q := fun q h => by rw [← hAe]; exact Or.inr h
  have hS : va_S A s.heap s.heap [] := va_S.rf
  have hP : va_P D vwCl [(h, .inr (0, [.int 0, .int 0, .null, .null, .int 0, .null, .null, .null, .int 0, .null, .null]))] s.heap := hP
  have hK : va_K D vwCl [] s := hK
  have hl := lv_entry ([.ref h, .int x]) (n := 2) (Nat.le_of_ble_eq_true rfl)
  rw [lg_entry_eq]
  generalize (lg_sl ([.ref h, .int x]) ++ List.replicate (2 - (lg_sl ([.ref h, .int x])).length) Slot.unset).toArray = ls at hl ⊢
  have hl : lv_has ls 2 [(0, .ref h), (1, .int x)] := hl
  refine lv_aload_n hx hb dX1_init_0 rfl (lv_at hl 0 rfl) ?_
  refine W.objInit hx hb hown (hts _ q25) (hts _ q26) (hts _ q27) rfl (by rw [hml]; exact hl.1) rfl dX1_init_1 (Nat.le_of_ble_eq_true rfl) (Nat.le_of_ble_eq_true rfl) ?_
  refine W.eq (g2 := F0 m 4 ls []) rfl ?_
  refine lv_aload_n hx hb dX1_init_4 rfl (lv_at hl 0 rfl) ?_
  refine lv_bipush (v := nI 12) hx hb dX1_init_5 (by decide) ?_
  refine va_newa (atype := .byte) (ty := .byte) (a0 := (12, .inl (nF z_))) hx hb (hts _ q62) rfl hK hP hD hS hA (fun _ => rfl) (nI_pos (by decide)) (nI_clamp (by decide)) (by decide) (Nat.le_of_ble_eq_true rfl) (Nat.le_of_ble_eq_true rfl) dX1_init_7 (fun q1 cA H hK hP hD hS => ?_)
  generalize cA = d at hK hP hD
  have hK : va_K D vwCl [(d, .byte)] s := hK
  have hP : va_P D vwCl [(h, .inr (0, [.int 0, .int 0, .null, .null, .int 0, .null, .null, .null, .int 0, .null, .null])), (q1, .inl (d, 12, .inl (nF z_)))] H := hP
  have hD : va_D A [(h, .inr (0, [.int 0, .int 0, .null, .null, .int 0, .null, .null, .null, .int 0, .null, .null])), (q1, .inl (d, 12, .inl (nF z_)))] := hD
  refine va_putF (D := D) (ci := 0) (v := .ref q1) (ty := .array .byte) (C := RX1) (T := TX1) (N := 11) hx hb hts in_X1 tyX1 tyX1_ok nmX1 hown hK hP hD hS 0 rfl rfl 2 (by decide) (hts _ q30) (fun _ h9 => h9) rfl hin rfl (by decide +kernel) rfl rfl (Nat.le_of_ble_eq_true rfl) dX1_init_9 (fun H locs hP hD hS => ?_)
  have hP : va_P D vwCl [(h, .inr (0, [.int 0, .int 0, .ref q1, .null, .int 0, .null, .null, .null, .int 0, .null, .null])), (q1, .inl (d, 12, .inl (nF z_)))] H := hP
  have hD : va_D A [(h, .inr (0, [.int 0, .int 0, .ref q1, .null, .int 0, .null, .null, .null, .int 0, .null, .null])), (q1, .inl (d, 12, .inl (nF z_)))] := hD
  refine lv_aload_n hx hb dX1_init_12 rfl (lv_at hl 0 rfl) ?_
  refine lv_bipush (v := nI 12) hx hb dX1_init_13 (by decide) ?_
  refine va_newa (atype := .byte) (ty := .byte) (a0 := (12, .inl (nF z_))) hx hb (hts _ q62) rfl hK hP hD hS hA (fun _ => rfl) (nI_pos (by decide)) (nI_clamp (by decide)) (by decide) (Nat.le_of_ble_eq_true rfl) (Nat.le_of_ble_eq_true rfl) dX1_init_15 (fun q2 cA H hK hP hD hS => ?_)
  have hK : va_K D vwCl [(d, .byte), (cA, .byte)] s := hK
  have hce : cA = d := ka_eq 0 1 hK rfl rfl (fun _ => rfl)
  subst hce
  have hK := hK.sub (tys' := [(cA, .byte)]) [0] rfl
  generalize cA = d at hK hP hD
  have hK : va_K D vwCl [(d, .byte)] s := hK
  have hP : va_P D vwCl [(h, .inr (0, [.int 0, .int 0, .ref q1, .null, .int 0, .null, .null, .null, .int 0, .null, .null])), (q1, .inl (d, 12, .inl (nF z_))), (q2, .inl (d, 12, .inl (nF z_)))] H := hP
  have hD : va_D A [(h, .inr (0, [.int 0, .int 0, .ref q1, .null, .int 0, .null, .null, .null, .int 0, .null, .null])), (q1, .inl (d, 12, .inl (nF z_))), (q2, .inl (d, 12, .inl (nF z_)))] := hD
  refine va_putF (D := D) (ci := 0) (v := .ref q2) (ty := .array .byte) (C := RX1) (T := TX1) (N := 11) hx hb hts in_X1 tyX1 tyX1_ok nmX1 hown hK hP hD hS 0 rfl rfl 3 (by decide) (hts _ q31) (fun _ h9 => h9) rfl hin rfl (by decide +kernel) rfl rfl (Nat.le_of_ble_eq_true rfl) dX1_init_17 (fun H locs hP hD hS => ?_)
  have hP : va_P D vwCl [(h, .inr (0, [.int 0, .int 0, .ref q1, .ref q2, .int 0, .null, .null, .null, .int 0, .null, .null])), (q1, .inl (d, 12, .inl (nF z_))), (q2, .inl (d, 12, .inl (nF z_)))] H := hP
  have hD : va_D A [(h, .inr (0, [.int 0, .int 0, .ref q1, .ref q2, .int 0, .null, .null, .null, .int 0, .null, .null])), (q1, .inl (d, 12, .inl (nF z_))), (q2, .inl (d, 12, .inl (nF z_)))] := hD
  refine lv_aload_n hx hb dX1_init_20 rfl (lv_at hl 0 rfl) ?_
  refine lv_bipush (v := nI 12) hx hb dX1_init_21 (by decide) ?_
  refine va_newa (atype := .byte) (ty := .byte) (a0 := (12, .inl (nF z_))) hx hb (hts _ q62) rfl hK hP hD hS hA (fun _ => rfl) (nI_pos (by decide)) (nI_clamp (by decide)) (by decide) (Nat.le_of_ble_eq_true rfl) (Nat.le_of_ble_eq_true rfl) dX1_init_23 (fun q3 cA H hK hP hD hS => ?_)
  have hK : va_K D vwCl [(d, .byte), (cA, .byte)] s := hK
  have hce : cA = d := ka_eq 0 1 hK rfl rfl (fun _ => rfl)
  subst hce
  have hK := hK.sub (tys' := [(cA, .byte)]) [0] rfl
  generalize cA = d at hK hP hD
  have hK : va_K D vwCl [(d, .byte)] s := hK
  have hP : va_P D vwCl [(h, .inr (0, [.int 0, .int 0, .ref q1, .ref q2, .int 0, .null, .null, .null, .int 0, .null, .null])), (q1, .inl (d, 12, .inl (nF z_))), (q2, .inl (d, 12, .inl (nF z_))), (q3, .inl (d, 12, .inl (nF z_)))] H := hP
  have hD : va_D A [(h, .inr (0, [.int 0, .int 0, .ref q1, .ref q2, .int 0, .null, .null, .null, .int 0, .null, .null])), (q1, .inl (d, 12, .inl (nF z_))), (q2, .inl (d, 12, .inl (nF z_))), (q3, .inl (d, 12, .inl (nF z_)))] := hD
  refine va_putF (D := D) (ci := 0) (v := .ref q3) (ty := .array .byte) (C := RX1) (T := TX1) (N := 11) hx hb hts in_X1 tyX1 tyX1_ok nmX1 hown hK hP hD hS 0 rfl rfl 5 (by decide) (hts _ q33) (fun _ h9 => h9) rfl hin rfl (by decide +kernel) rfl rfl (Nat.le_of_ble_eq_true rfl) dX1_init_25 (fun H locs hP hD hS => ?_)
  have hP : va_P D vwCl [(h, .inr (0, [.int 0, .int 0, .ref q1, .ref q2, .int 0, .ref q3, .null, .null, .int 0, .null, .null])), (q1, .inl (d, 12, .inl (nF z_))), (q2, .inl (d, 12, .inl (nF z_))), (q3, .inl (d, 12, .inl (nF z_)))] H := hP
  have hD : va_D A [(h, .inr (0, [.int 0, .int 0, .ref q1, .ref q2, .int 0, .ref q3, .null, .null, .int 0, .null, .null])), (q1, .inl (d, 12, .inl (nF z_))), (q2, .inl (d, 12, .inl (nF z_))), (q3, .inl (d, 12, .inl (nF z_)))] := hD
  refine lv_aload_n hx hb dX1_init_28 rfl (lv_at hl 0 rfl) ?_
  refine lv_bipush (v := nI 12) hx hb dX1_init_29 (by decide) ?_
  refine va_newa (atype := .byte) (ty := .byte) (a0 := (12, .inl (nF z_))) hx hb (hts _ q62) rfl hK hP hD hS hA (fun _ => rfl) (nI_pos (by decide)) (nI_clamp (by decide)) (by decide) (Nat.le_of_ble_eq_true rfl) (Nat.le_of_ble_eq_true rfl) dX1_init_31 (fun q4 cA H hK hP hD hS => ?_)
  have hK : va_K D vwCl [(d, .byte), (cA, .byte)] s := hK
  have hce : cA = d := ka_eq 0 1 hK rfl rfl (fun _ => rfl)
  subst hce
  have hK := hK.sub (tys' := [(cA, .byte)]) [0] rfl
  generalize cA = d at hK hP hD
  have hK : va_K D vwCl [(d, .byte)] s := hK
  have hP : va_P D vwCl [(h, .inr (0, [.int 0, .int 0, .ref q1, .ref q2, .int 0, .ref q3, .null, .null, .int 0, .null, .null])), (q1, .inl (d, 12, .inl (nF z_))), (q2, .inl (d, 12, .inl (nF z_))), (q3, .inl (d, 12, .inl (nF z_))), (q4, .inl (d, 12, .inl (nF z_)))] H := hP
  have hD : va_D A [(h, .inr (0, [.int 0, .int 0, .ref q1, .ref q2, .int 0, .ref q3, .null, .null, .int 0, .null, .null])), (q1, .inl (d, 12, .inl (nF z_))), (q2, .inl (d, 12, .inl (nF z_))), (q3, .inl (d, 12, .inl (nF z_))), (q4, .inl (d, 12, .inl (nF z_)))] := hD
  refine va_putF (D := D) (ci := 0) (v := .ref q4) (ty := .array .byte) (C := RX1) (T := TX1) (N := 11) hx hb hts in_X1 tyX1 tyX1_ok nmX1 hown hK hP hD hS 0 rfl rfl 6 (by decide) (hts _ q34) (fun _ h9 => h9) rfl hin rfl (by decide +kernel) rfl rfl (Nat.le_of_ble_eq_true rfl) dX1_init_33 (fun H locs hP hD hS => ?_)
  have hP : va_P D vwCl [(h, .inr (0, [.int 0, .int 0, .ref q1, .ref q2, .int 0, .ref q3, .ref q4, .null, .int 0, .null, .null])), (q1, .inl (d, 12, .inl (nF z_))), (q2, .inl (d, 12, .inl (nF z_))), (q3, .inl (d, 12, .inl (nF z_))), (q4, .inl (d, 12, .inl (nF z_)))] H := hP
  have hD : va_D A [(h, .inr (0, [.int 0, .int 0, .ref q1, .ref q2, .int 0, .ref q3, .ref q4, .null, .int 0, .null, .null])), (q1, .inl (d, 12, .inl (nF z_))), (q2, .inl (d, 12, .inl (nF z_))), (q3, .inl (d, 12, .inl (nF z_))), (q4, .inl (d, 12, .inl (nF z_)))] := hD
  refine lv_aload_n hx hb dX1_init_36 rfl (lv_at hl 0 rfl) ?_
  refine lv_bipush (v := nI 6) hx hb dX1_init_37 (by decide) ?_
  refine va_newa (atype := .byte) (ty := .byte) (a0 := (6, .inl (nF z_))) hx hb (hts _ q62) rfl hK hP hD hS hA (fun _ => rfl) (nI_pos (by decide)) (nI_clamp (by decide)) (by decide) (Nat.le_of_ble_eq_true rfl) (Nat.le_of_ble_eq_true rfl) dX1_init_39 (fun q5 cA H hK hP hD hS => ?_)
  have hK : va_K D vwCl [(d, .byte), (cA, .byte)] s := hK
  have hce : cA = d := ka_eq 0 1 hK rfl rfl (fun _ => rfl)
  subst hce
  have hK := hK.sub (tys' := [(cA, .byte)]) [0] rfl
  generalize cA = d at hK hP hD
  have hK : va_K D vwCl [(d, .byte)] s := hK
  have hP : va_P D vwCl [(h, .inr (0, [.int 0, .int 0, .ref q1, .ref q2, .int 0, .ref q3, .ref q4, .null, .int 0, .null, .null])), (q1, .inl (d, 12, .inl (nF z_))), (q2, .inl (d, 12, .inl (nF z_))), (q3, .inl (d, 12, .inl (nF z_))), (q4, .inl (d, 12, .inl (nF z_))), (q5, .inl (d, 6, .inl (nF z_)))] H := hP
  have hD : va_D A [(h, .inr (0, [.int 0, .int 0, .ref q1, .ref q2, .int 0, .ref q3, .ref q4, .null, .int 0, .null, .null])), (q1, .inl (d, 12, .inl (nF z_))), (q2, .inl (d, 12, .inl (nF z_))), (q3, .inl (d, 12, .inl (nF z_))), (q4, .inl (d, 12, .inl (nF z_))), (q5, .inl (d, 6, .inl (nF z_)))] := hD
  refine va_putF (D := D) (ci := 0) (v := .ref q5) (ty := .array .byte) (C := RX1) (T := TX1) (N := 11) hx hb hts in_X1 tyX1 tyX1_ok nmX1 hown hK hP hD hS 0 rfl rfl 7 (by decide) (hts _ q35) (fun _ h9 => h9) rfl hin rfl (by decide +kernel) rfl rfl (Nat.le_of_ble_eq_true rfl) dX1_init_41 (fun H locs hP hD hS => ?_)
  have hP : va_P D vwCl [(h, .inr (0, [.int 0, .int 0, .ref q1, .ref q2, .int 0, .ref q3, .ref q4, .ref q5, .int 0, .null, .null])), (q1, .inl (d, 12, .inl (nF z_))), (q2, .inl (d, 12, .inl (nF z_))), (q3, .inl (d, 12, .inl (nF z_))), (q4, .inl (d, 12, .inl (nF z_))), (q5, .inl (d, 6, .inl (nF z_)))] H := hP
  have hD : va_D A [(h, .inr (0, [.int 0, .int 0, .ref q1, .ref q2, .int 0, .ref q3, .ref q4, .ref q5, .int 0, .null, .null])), (q1, .inl (d, 12, .inl (nF z_))), (q2, .inl (d, 12, .inl (nF z_))), (q3, .inl (d, 12, .inl (nF z_))), (q4, .inl (d, 12, .inl (nF z_))), (q5, .inl (d, 6, .inl (nF z_)))] := hD
  refine lv_aload_n hx hb dX1_init_44 rfl (lv_at hl 0 rfl) ?_
  refine lv_bipush (v := nI 6) hx hb dX1_init_45 (by decide) ?_
  refine va_newa (atype := .byte) (ty := .byte) (a0 := (6, .inl (nF z_))) hx hb (hts _ q62) rfl hK hP hD hS hA (fun _ => rfl) (nI_pos (by decide)) (nI_clamp (by decide)) (by decide) (Nat.le_of_ble_eq_true rfl) (Nat.le_of_ble_eq_true rfl) dX1_init_47 (fun q6 cA H hK hP hD hS => ?_)
  have hK : va_K D vwCl [(d, .byte), (cA, .byte)] s := hK
  have hce : cA = d := ka_eq 0 1 hK rfl rfl (fun _ => rfl)
  subst hce
  have hK := hK.sub (tys' := [(cA, .byte)]) [0] rfl
  generalize cA = d at hK hP hD
  have hK : va_K D vwCl [(d, .byte)] s := hK
  have hP : va_P D vwCl [(h, .inr (0, [.int 0, .int 0, .ref q1, .ref q2, .int 0, .ref q3, .ref q4, .ref q5, .int 0, .null, .null])), (q1, .inl (d, 12, .inl (nF z_))), (q2, .inl (d, 12, .inl (nF z_))), (q3, .inl (d, 12, .inl (nF z_))), (q4, .inl (d, 12, .inl (nF z_))), (q5, .inl (d, 6, .inl (nF z_))), (q6, .inl (d, 6, .inl (nF z_)))] H := hP
  have hD : va_D A [(h, .inr (0, [.int 0, .int 0, .ref q1, .ref q2, .int 0, .ref q3, .ref q4, .ref q5, .int 0, .null, .null])), (q1, .inl (d, 12, .inl (nF z_))), (q2, .inl (d, 12, .inl (nF z_))), (q3, .inl (d, 12, .inl (nF z_))), (q4, .inl (d, 12, .inl (nF z_))), (q5, .inl (d, 6, .inl (nF z_))), (q6, .inl (d, 6, .inl (nF z_)))] := hD
  refine va_putF (D := D) (ci := 0) (v := .ref q6) (ty := .array .byte) (C := RX1) (T := TX1) (N := 11) hx hb hts in_X1 tyX1 tyX1_ok nmX1 hown hK hP hD hS 0 rfl rfl 9 (by decide) (hts _ q37) (fun _ h9 => h9) rfl hin rfl (by decide +kernel) rfl rfl (Nat.le_of_ble_eq_true rfl) dX1_init_49 (fun H locs hP hD hS => ?_)
  have hP : va_P D vwCl [(h, .inr (0, [.int 0, .int 0, .ref q1, .ref q2, .int 0, .ref q3, .ref q4, .ref q5, .int 0, .ref q6, .null])), (q1, .inl (d, 12, .inl (nF z_))), (q2, .inl (d, 12, .inl (nF z_))), (q3, .inl (d, 12, .inl (nF z_))), (q4, .inl (d, 12, .inl (nF z_))), (q5, .inl (d, 6, .inl (nF z_))), (q6, .inl (d, 6, .inl (nF z_)))] H := hP
  have hD : va_D A [(h, .inr (0, [.int 0, .int 0, .ref q1, .ref q2, .int 0, .ref q3, .ref q4, .ref q5, .int 0, .ref q6, .null])), (q1, .inl (d, 12, .inl (nF z_))), (q2, .inl (d, 12, .inl (nF z_))), (q3, .inl (d, 12, .inl (nF z_))), (q4, .inl (d, 12, .inl (nF z_))), (q5, .inl (d, 6, .inl (nF z_))), (q6, .inl (d, 6, .inl (nF z_)))] := hD
  refine lv_aload_n hx hb dX1_init_52 rfl (lv_at hl 0 rfl) ?_
  refine lv_bipush (v := nI 8) hx hb dX1_init_53 (by decide) ?_
  refine va_newa (atype := .byte) (ty := .byte) (a0 := (8, .inl (nF z_))) hx hb (hts _ q62) rfl hK hP hD hS hA (fun _ => rfl) (nI_pos (by decide)) (nI_clamp (by decide)) (by decide) (Nat.le_of_ble_eq_true rfl) (Nat.le_of_ble_eq_true rfl) dX1_init_55 (fun q7 cA H hK hP hD hS => ?_)
  have hK : va_K D vwCl [(d, .byte), (cA, .byte)] s := hK
  have hce : cA = d := ka_eq 0 1 hK rfl rfl (fun _ => rfl)
  subst hce
  have hK := hK.sub (tys' := [(cA, .byte)]) [0] rfl
  generalize cA = d at hK hP hD
  have hK : va_K D vwCl [(d, .byte)] s := hK
  have hP : va_P D vwCl [(h, .inr (0, [.int 0, .int 0, .ref q1, .ref q2, .int 0, .ref q3, .ref q4, .ref q5, .int 0, .ref q6, .null])), (q1, .inl (d, 12, .inl (nF z_))), (q2, .inl (d, 12, .inl (nF z_))), (q3, .inl (d, 12, .inl (nF z_))), (q4, .inl (d, 12, .inl (nF z_))), (q5, .inl (d, 6, .inl (nF z_))), (q6, .inl (d, 6, .inl (nF z_))), (q7, .inl (d, 8, .inl (nF z_)))] H := hP
  have hD : va_D A [(h, .inr (0, [.int 0, .int 0, .ref q1, .ref q2, .int 0, .ref q3, .ref q4, .ref q5, .int 0, .ref q6, .null])), (q1, .inl (d, 12, .inl (nF z_))), (q2, .inl (d, 12, .inl (nF z_))), (q3, .inl (d, 12, .inl (nF z_))), (q4, .inl (d, 12, .inl (nF z_))), (q5, .inl (d, 6, .inl (nF z_))), (q6, .inl (d, 6, .inl (nF z_))), (q7, .inl (d, 8, .inl (nF z_)))] := hD
  refine va_putF (D := D) (ci := 0) (v := .ref q7) (ty := .array .byte) (C := RX1) (T := TX1) (N := 11) hx hb hts in_X1 tyX1 tyX1_ok nmX1 hown hK hP hD hS 0 rfl rfl 10 (by decide) (hts _ q38) (fun _ h9 => h9) rfl hin rfl (by decide +kernel) rfl rfl (Nat.le_of_ble_eq_true rfl) dX1_init_57 (fun H locs hP hD hS => ?_)
  have hP : va_P D vwCl [(h, .inr (0, [.int 0, .int 0, .ref q1, .ref q2, .int 0, .ref q3, .ref q4, .ref q5, .int 0, .ref q6, .ref q7])), (q1, .inl (d, 12, .inl (nF z_))), (q2, .inl (d, 12, .inl (nF z_))), (q3, .inl (d, 12, .inl (nF z_))), (q4, .inl (d, 12, .inl (nF z_))), (q5, .inl (d, 6, .inl (nF z_))), (q6, .inl (d, 6, .inl (nF z_))), (q7, .inl (d, 8, .inl (nF z_)))] H := hP
  have hD : va_D A [(h, .inr (0, [.int 0, .int 0, .ref q1, .ref q2, .int 0, .ref q3, .ref q4, .ref q5, .int 0, .ref q6, .ref q7])), (q1, .inl (d, 12, .inl (nF z_))), (q2, .inl (d, 12, .inl (nF z_))), (q3, .inl (d, 12, .inl (nF z_))), (q4, .inl (d, 12, .inl (nF z_))), (q5, .inl (d, 6, .inl (nF z_))), (q6, .inl (d, 6, .inl (nF z_))), (q7, .inl (d, 8, .inl (nF z_)))] := hD
  refine lv_aload_n hx hb dX1_init_60 rfl (lv_at hl 0 rfl) ?_
  refine lv_iload_n hx hb dX1_init_61 rfl (lv_at hl 1 rfl) ?_
  refine lv_iconst (v := nI 2) hx hb dX1_init_62 (by decide) ?_
  refine lv_icmp_ge (tgt := 70) hx hb dX1_init_63 (by decide) (fun c1 => ?_) (fun c1 => ?_)
  · refine lv_iload_n hx hb dX1_init_70 rfl (lv_at hl 1 rfl) ?_
    refine lv_bipush (v := nI 6) hx hb dX1_init_71 (by decide) ?_
    refine lv_icmp_le (tgt := 81) hx hb dX1_init_73 (by decide) (fun c2 => ?_) (fun c2 => ?_)
    · refine lv_iload_n hx hb dX1_init_81 rfl (lv_at hl 1 rfl) ?_
      refine nr_top (y := nI (jc_ x)) ((jc_mid c1 c2).1) ?_
      refine va_putF (D := D) (ci := 0) (v := .int (nI (jc_ x))) (ty := .int) (C := RX1) (T := TX1) (N := 11) hx hb hts in_X1 tyX1 tyX1_ok nmX1 hown hK hP hD hS 0 rfl rfl 0 (by decide) (hts _ q28) (fun _ h9 => h9) rfl hin rfl (by decide +kernel) rfl rfl (Nat.le_of_ble_eq_true rfl) dX1_init_82 (fun H locs hP hD hS => ?_)
      have hP : va_P D vwCl [(h, .inr (0, [.int (nI (jc_ x)), .int 0, .ref q1, .ref q2, .int 0, .ref q3, .ref q4, .ref q5, .int 0, .ref q6, .ref q7])), (q1, .inl (d, 12, .inl (nF z_))), (q2, .inl (d, 12, .inl (nF z_))), (q3, .inl (d, 12, .inl (nF z_))), (q4, .inl (d, 12, .inl (nF z_))), (q5, .inl (d, 6, .inl (nF z_))), (q6, .inl (d, 6, .inl (nF z_))), (q7, .inl (d, 8, .inl (nF z_)))] H := hP
      have hD : va_D A [(h, .inr (0, [.int (nI (jc_ x)), .int 0, .ref q1, .ref q2, .int 0, .ref q3, .ref q4, .ref q5, .int 0, .ref q6, .ref q7])), (q1, .inl (d, 12, .inl (nF z_))), (q2, .inl (d, 12, .inl (nF z_))), (q3, .inl (d, 12, .inl (nF z_))), (q4, .inl (d, 12, .inl (nF z_))), (q5, .inl (d, 6, .inl (nF z_))), (q6, .inl (d, 6, .inl (nF z_))), (q7, .inl (d, 8, .inl (nF z_)))] := hD
      exact W.vret hx hb hr (fun t ht hW => ⟨⟨(d, fun k => [h, q1, q2, q3, q4, q5, q6, q7].getD k 0), rfl, rfl, by rw [ht]; exact hP, va_K.moved hW.alike hK, hD⟩, hS.F ht⟩) hS.2.2 dX1_init_85
    · refine lv_bipush (v := nI 6) hx hb dX1_init_76 (by decide) ?_
      refine lv_goto (tgt := 82) hx hb dX1_init_78 (by decide) ?_
      refine nr_top (y := nI (jc_ x)) (by rw [jc_hi c1 c2]) ?_
      refine va_putF (D := D) (ci := 0) (v := .int (nI (jc_ x))) (ty := .int) (C := RX1) (T := TX1) (N := 11) hx hb hts in_X1 tyX1 tyX1_ok nmX1 hown hK hP hD hS 0 rfl rfl 0 (by decide) (hts _ q28) (fun _ h9 => h9) rfl hin rfl (by decide +kernel) rfl rfl (Nat.le_of_ble_eq_true rfl) dX1_init_82 (fun H locs hP hD hS => ?_)
      have hP : va_P D vwCl [(h, .inr (0, [.int (nI (jc_ x)), .int 0, .ref q1, .ref q2, .int 0, .ref q3, .ref q4, .ref q5, .int 0, .ref q6, .ref q7])), (q1, .inl (d, 12, .inl (nF z_))), (q2, .inl (d, 12, .inl (nF z_))), (q3, .inl (d, 12, .inl (nF z_))), (q4, .inl (d, 12, .inl (nF z_))), (q5, .inl (d, 6, .inl (nF z_))), (q6, .inl (d, 6, .inl (nF z_))), (q7, .inl (d, 8, .inl (nF z_)))] H := hP
      have hD : va_D A [(h, .inr (0, [.int (nI (jc_ x)), .int 0, .ref q1, .ref q2, .int 0, .ref q3, .ref q4, .ref q5, .int 0, .ref q6, .ref q7])), (q1, .inl (d, 12, .inl (nF z_))), (q2, .inl (d, 12, .inl (nF z_))), (q3, .inl (d, 12, .inl (nF z_))), (q4, .inl (d, 12, .inl (nF z_))), (q5, .inl (d, 6, .inl (nF z_))), (q6, .inl (d, 6, .inl (nF z_))), (q7, .inl (d, 8, .inl (nF z_)))] := hD
      exact W.vret hx hb hr (fun t ht hW => ⟨⟨(d, fun k => [h, q1, q2, q3, q4, q5, q6, q7].getD k 0), rfl, rfl, by rw [ht]; exact hP, va_K.moved hW.alike hK, hD⟩, hS.F ht⟩) hS.2.2 dX1_init_85
  · refine lv_iconst (v := nI 2) hx hb dX1_init_66 (by decide) ?_
    refine lv_goto (tgt := 82) hx hb dX1_init_67 (by decide) ?_
    refine nr_top (y := nI (jc_ x)) (by rw [jc_lo c1]) ?_
    refine va_putF (D := D) (ci := 0) (v := .int (nI (jc_ x))) (ty := .int) (C := RX1) (T := TX1) (N := 11) hx hb hts in_X1 tyX1 tyX1_ok nmX1 hown hK hP hD hS 0 rfl rfl 0 (by decide) (hts _ q28) (fun _ h9 => h9) rfl hin rfl (by decide +kernel) rfl rfl (Nat.le_of_ble_eq_true rfl) dX1_init_82 (fun H locs hP hD hS => ?_)
    have hP : va_P D vwCl [(h, .inr (0, [.int (nI (jc_ x)), .int 0, .ref q1, .ref q2, .int 0, .ref q3, .ref q4, .ref q5, .int 0, .ref q6, .ref q7])), (q1, .inl (d, 12, .inl (nF z_))), (q2, .inl (d, 12, .inl (nF z_))), (q3, .inl (d, 12, .inl (nF z_))), (q4, .inl (d, 12, .inl (nF z_))), (q5, .inl (d, 6, .inl (nF z_))), (q6, .inl (d, 6, .inl (nF z_))), (q7, .inl (d, 8, .inl (nF z_)))] H := hP
    have hD : va_D A [(h, .inr (0, [.int (nI (jc_ x)), .int 0, .ref q1, .ref q2, .int 0, .ref q3, .ref q4, .ref q5, .int 0, .ref q6, .ref q7])), (q1, .inl (d, 12, .inl (nF z_))), (q2, .inl (d, 12, .inl (nF z_))), (q3, .inl (d, 12, .inl (nF z_))), (q4, .inl (d, 12, .inl (nF z_))), (q5, .inl (d, 6, .inl (nF z_))), (q6, .inl (d, 6, .inl (nF z_))), (q7, .inl (d, 8, .inl (nF z_)))] := hD
    exact W.vret hx hb hr (fun t ht hW => ⟨⟨(d, fun k => [h, q1, q2, q3, q4, q5, q6, q7].getD k 0), rfl, rfl, by rw [ht]; exact hP, va_K.moved hW.alike hK, hD⟩, hS.F ht⟩) hS.2.2 dX1_init_85
set_option maxHeartbeats 4000000 in
set_option maxRecDepth 100000 in
/-- the constructor -/
theorem mX2_init (l : Launch) (D : va_G) (h sz : Nat) (x : Int32) : Met l yX2_init (ws_ yX2_init cX2_init 2 none) ({ frames := 1, cells := 3, slots := 39, locals := 12 }) (va_Pc [.ref h, .int x] (pw_ D [] [(h, .inr (1, [.int 0, .null, .null, .null]))] sz)) (va_Qv (fun u : ClassId × ClassId × (Nat → Nat) => u.2.2 0 = h) (fun u => bw_ D [(u.1, .boolean), (u.2.1, .int)] (va_A [(h, .inr (1, [.int 0, .null, .null, .null]))] sz) (wM u.1 u.2.1 u.2.2 (jc_ x) 0 z_ z_)) (va_A [(h, .inr (1, [.int 0, .null, .null, .null]))] sz)) 3 39 (va_A [(h, .inr (1, [.int 0, .null, .null, .null]))] sz) := by
  refine Met.ofW (cc := cX2_init) (maxL := 2) (ret := none) (by decide +kernel) rfl ?_
  intro p e s m args below meth c s₁ B hml hv
  obtain ⟨rfl, hsz, hP, hK, hD0⟩ := hv
  have hx := B.exec
  have hb := B.bytes
  have hr := B.returns
  have hts := atoms_spec (ws := ws_ yX2_init cX2_init 2 none) B.pre
  have hts : ∀ w ∈ lw_all, w.before _ s = true := fun w h => hts w (List.mem_cons_of_mem _ h)
  have hown : s.vm.findClass RX2 = some m.cls := findClass_of_methodNamed B.named
  have hlocks := B.notSynchronized
  have hin : meth.name = "<init>" := (name_of_methodNamed B.named B.method).1
  subst hsz
  have hD := hD0.self (sz := s.heap.size)
  generalize hAe : va_A [(h, .inr (1, [.int 0, .null, .null, .null]))] s.heap.size = A at hD ⊢
  have hA : ∀ q : Nat, s.heap.size ≤ q → A q := fun q h => by rw [← hAe]; exact Or.inr h
  have hS : va_S A s.heap s.heap [] := va_S.rf
  have hP : va_P D vwCl [(h, .inr (1, [.int 0, .null, .null, .null]))] s.heap := hP
  have hK : va_K D vwCl [] s := hK
  have hl := lv_entry ([.ref h, .int x]) (n := 2) (Nat.le_of_ble_eq_true rfl)
  rw [lg_entry_eq]
  generalize (lg_sl ([.ref h, .int x]) ++ List.replicate (2 - (lg_sl ([.ref h, .int x])).length) Slot.unset).toArray = ls at hl ⊢
  have hl : lv_has ls 2 [(0, .ref h), (1, .int x)] := hl
  refine lv_aload_n hx hb dX2_init_0 rfl (lv_at hl 0 rfl) ?_
  refine W.objInit hx hb hown (hts _ q179) (hts _ q26) (hts _ q27) rfl (by rw [hml]; exact hl.1) rfl dX2_init_1 (Nat.le_of_ble_eq_true rfl) (Nat.le_of_ble_eq_true rfl) ?_
  refine W.eq (g2 := F0 m 4 ls []) rfl ?_
  refine lv_aload_n hx hb dX2_init_4 rfl (lv_at hl 0 rfl) ?_
  refine lv_bipush (v := nI 13) hx hb dX2_init_5 (by decide) ?_
  refine va_newa (atype := .boolean) (ty := .boolean) (a0 := (13, .inl (zF 0))) hx hb (hts _ q193) rfl hK hP hD hS hA (fun _ => by rw [zF_0]; rfl) (nI_pos (by decide)) (nI_clamp (by decide)) (by decide) (Nat.le_of_ble_eq_true rfl) (Nat.le_of_ble_eq_true rfl) dX2_init_7 (fun q1 cA H hK hP hD hS => ?_)
  generalize cA = dZ at hK hP hD
  have hK : va_K D vwCl [(dZ, .boolean)] s := hK
  have hP : va_P D vwCl [(h, .inr (1, [.int 0, .null, .null, .null])), (q1, .inl (dZ, 13, .inl (zF 0)))] H := hP
  have hD : va_D A [(h, .inr (1, [.int 0, .null, .null, .null])), (q1, .inl (dZ, 13, .inl (zF 0)))] := hD
  refine va_put (D := D) (ci := 1) (v := .ref q1) (ty := .array .boolean) (C := RX2) (T := TX2) (N := 4) hx hb hts in_X2 tyX2 tyX2_ok nmX2 hown hK hP hD hS 0 rfl rfl 1 (by decide) (hts _ q181) (fun _ h9 => h9) rfl (by decide +kernel) rfl rfl (Nat.le_of_ble_eq_true rfl) dX2_init_9 (fun H locs hP hD hS => ?_)
  have hP : va_P D vwCl [(h, .inr (1, [.int 0, .ref q1, .null, .null])), (q1, .inl (dZ, 13, .inl (zF 0)))] H := hP
  have hD : va_D A [(h, .inr (1, [.int 0, .ref q1, .null, .null])), (q1, .inl (dZ, 13, .inl (zF 0)))] := hD
  refine lv_aload_n hx hb dX2_init_12 rfl (lv_at hl 0 rfl) ?_
  refine lv_bipush (v := nI 13) hx hb dX2_init_13 (by decide) ?_
  refine va_newa (atype := .int) (ty := .int) (a0 := (13, .inl (nF z_))) hx hb (hts _ q194) rfl hK hP hD hS hA (fun _ => rfl) (nI_pos (by decide)) (nI_clamp (by decide)) (by decide) (Nat.le_of_ble_eq_true rfl) (Nat.le_of_ble_eq_true rfl) dX2_init_15 (fun q2 cA H hK hP hD hS => ?_)
  generalize cA = dN at hK hP hD
  have hK : va_K D vwCl [(dZ, .boolean), (dN, .int)] s := hK
  have hP : va_P D vwCl [(h, .inr (1, [.int 0, .ref q1, .null, .null])), (q1, .inl (dZ, 13, .inl (zF 0))), (q2, .inl (dN, 13, .inl (nF z_)))] H := hP
  have hD : va_D A [(h, .inr (1, [.int 0, .ref q1, .null, .null])), (q1, .inl (dZ, 13, .inl (zF 0))), (q2, .inl (dN, 13, .inl (nF z_)))] := hD
  refine va_put (D := D) (ci := 1) (v := .ref q2) (ty := .array .int) (C := RX2) (T := TX2) (N := 4) hx hb hts in_X2 tyX2 tyX2_ok nmX2 hown hK hP hD hS 0 rfl rfl 2 (by decide) (hts _ q182) (fun _ h9 => h9) rfl (by decide +kernel) rfl rfl (Nat.le_of_ble_eq_true rfl) dX2_init_17 (fun H locs hP hD hS => ?_)
  have hP : va_P D vwCl [(h, .inr (1, [.int 0, .ref q1, .ref q2, .null])), (q1, .inl (dZ, 13, .inl (zF 0))), (q2, .inl (dN, 13, .inl (nF z_)))] H := hP
  have hD : va_D A [(h, .inr (1, [.int 0, .ref q1, .ref q2, .null])), (q1, .inl (dZ, 13, .inl (zF 0))), (q2, .inl (dN, 13, .inl (nF z_)))] := hD
  refine lv_aload_n hx hb dX2_init_20 rfl (lv_at hl 0 rfl) ?_
  refine lv_bipush (v := nI 13) hx hb dX2_init_21 (by decide) ?_
  refine va_newa (atype := .int) (ty := .int) (a0 := (13, .inl (nF z_))) hx hb (hts _ q194) rfl hK hP hD hS hA (fun _ => rfl) (nI_pos (by decide)) (nI_clamp (by decide)) (by decide) (Nat.le_of_ble_eq_true rfl) (Nat.le_of_ble_eq_true rfl) dX2_init_23 (fun q3 cA H hK hP hD hS => ?_)
  have hK : va_K D vwCl [(dZ, .boolean), (dN, .int), (cA, .int)] s := hK
  have hce : cA = dN := ka_eq 1 2 hK rfl rfl (fun _ => rfl)
  subst hce
  have hK := hK.sub (tys' := [(dZ, .boolean), (cA, .int)]) [0, 1] rfl
  generalize cA = dN at hK hP hD
  have hK : va_K D vwCl [(dZ, .boolean), (dN, .int)] s := hK
  have hP : va_P D vwCl [(h, .inr (1, [.int 0, .ref q1, .ref q2, .null])), (q1, .inl (dZ, 13, .inl (zF 0))), (q2, .inl (dN, 13, .inl (nF z_))), (q3, .inl (dN, 13, .inl (nF z_)))] H := hP
  have hD : va_D A [(h, .inr (1, [.int 0, .ref q1, .ref q2, .null])), (q1, .inl (dZ, 13, .inl (zF 0))), (q2, .inl (dN, 13, .inl (nF z_))), (q3, .inl (dN, 13, .inl (nF z_)))] := hD
  refine va_put (D := D) (ci := 1) (v := .ref q3) (ty := .array .int) (C := RX2) (T := TX2) (N := 4) hx hb hts in_X2 tyX2 tyX2_ok nmX2 hown hK hP hD hS 0 rfl rfl 3 (by decide) (hts _ q183) (fun _ h9 => h9) rfl (by decide +kernel) rfl rfl (Nat.le_of_ble_eq_true rfl) dX2_init_25 (fun H locs hP hD hS => ?_)
  have hP : va_P D vwCl [(h, .inr (1, [.int 0, .ref q1, .ref q2, .ref q3])), (q1, .inl (dZ, 13, .inl (zF 0))), (q2, .inl (dN, 13, .inl (nF z_))), (q3, .inl (dN, 13, .inl (nF z_)))] H := hP
  have hD : va_D A [(h, .inr (1, [.int 0, .ref q1, .ref q2, .ref q3])), (q1, .inl (dZ, 13, .inl (zF 0))), (q2, .inl (dN, 13, .inl (nF z_))), (q3, .inl (dN, 13, .inl (nF z_)))] := hD
  refine lv_aload_n hx hb dX2_init_28 rfl (lv_at hl 0 rfl) ?_
  refine lv_iload_n hx hb dX2_init_29 rfl (lv_at hl 1 rfl) ?_
  refine lv_iconst (v := nI 2) hx hb dX2_init_30 (by decide) ?_
  refine lv_icmp_ge (tgt := 38) hx hb dX2_init_31 (by decide) (fun c1 => ?_) (fun c1 => ?_)
  · refine lv_iload_n hx hb dX2_init_38 rfl (lv_at hl 1 rfl) ?_
    refine lv_bipush (v := nI 6) hx hb dX2_init_39 (by decide) ?_
    refine lv_icmp_le (tgt := 49) hx hb dX2_init_41 (by decide) (fun c2 => ?_) (fun c2 => ?_)
    · refine lv_iload_n hx hb dX2_init_49 rfl (lv_at hl 1 rfl) ?_
      refine nr_top (y := nI (jc_ x)) ((jc_mid c1 c2).1) ?_
      refine va_put (D := D) (ci := 1) (v := .int (nI (jc_ x))) (ty := .int) (C := RX2) (T := TX2) (N := 4) hx hb hts in_X2 tyX2 tyX2_ok nmX2 hown hK hP hD hS 0 rfl rfl 0 (by decide) (hts _ q180) (fun _ h9 => h9) rfl (by decide +kernel) rfl rfl (Nat.le_of_ble_eq_true rfl) dX2_init_50 (fun H locs hP hD hS => ?_)
      have hP : va_P D vwCl [(h, .inr (1, [.int (nI (jc_ x)), .ref q1, .ref q2, .ref q3])), (q1, .inl (dZ, 13, .inl (zF 0))), (q2, .inl (dN, 13, .inl (nF z_))), (q3, .inl (dN, 13, .inl (nF z_)))] H := hP
      have hD : va_D A [(h, .inr (1, [.int (nI (jc_ x)), .ref q1, .ref q2, .ref q3])), (q1, .inl (dZ, 13, .inl (zF 0))), (q2, .inl (dN, 13, .inl (nF z_))), (q3, .inl (dN, 13, .inl (nF z_)))] := hD
      exact W.vret hx hb hr (fun t ht hW => ⟨⟨(dZ, dN, fun k => [h, q1, q2, q3].getD k 0), rfl, rfl, by rw [ht]; exact hP, va_K.moved hW.alike hK, hD⟩, hS.F ht⟩) hS.2.2 dX2_init_53
    · refine lv_bipush (v := nI 6) hx hb dX2_init_44 (by decide) ?_
      refine lv_goto (tgt := 50) hx hb dX2_init_46 (by decide) ?_
      refine nr_top (y := nI (jc_ x)) (by rw [jc_hi c1 c2]) ?_
      refine va_put (D := D) (ci := 1) (v := .int (nI (jc_ x))) (ty := .int) (C := RX2) (T := TX2) (N := 4) hx hb hts in_X2 tyX2 tyX2_ok nmX2 hown hK hP hD hS 0 rfl rfl 0 (by decide) (hts _ q180) (fun _ h9 => h9) rfl (by decide +kernel) rfl rfl (Nat.le_of_ble_eq_true rfl) dX2_init_50 (fun H locs hP hD hS => ?_)
      have hP : va_P D vwCl [(h, .inr (1, [.int (nI (jc_ x)), .ref q1, .ref q2, .ref q3])), (q1, .inl (dZ, 13, .inl (zF 0))), (q2, .inl (dN, 13, .inl (nF z_))), (q3, .inl (dN, 13, .inl (nF z_)))] H := hP
      have hD : va_D A [(h, .inr (1, [.int (nI (jc_ x)), .ref q1, .ref q2, .ref q3])), (q1, .inl (dZ, 13, .inl (zF 0))), (q2, .inl (dN, 13, .inl (nF z_))), (q3, .inl (dN, 13, .inl (nF z_)))] := hD
      exact W.vret hx hb hr (fun t ht hW => ⟨⟨(dZ, dN, fun k => [h, q1, q2, q3].getD k 0), rfl, rfl, by rw [ht]; exact hP, va_K.moved hW.alike hK, hD⟩, hS.F ht⟩) hS.2.2 dX2_init_53
  · refine lv_iconst (v := nI 2) hx hb dX2_init_34 (by decide) ?_
    refine lv_goto (tgt := 50) hx hb dX2_init_35 (by decide) ?_
    refine nr_top (y := nI (jc_ x)) (by rw [jc_lo c1]) ?_
    refine va_put (D := D) (ci := 1) (v := .int (nI (jc_ x))) (ty := .int) (C := RX2) (T := TX2) (N := 4) hx hb hts in_X2 tyX2 tyX2_ok nmX2 hown hK hP hD hS 0 rfl rfl 0 (by decide) (hts _ q180) (fun _ h9 => h9) rfl (by decide +kernel) rfl rfl (Nat.le_of_ble_eq_true rfl) dX2_init_50 (fun H locs hP hD hS => ?_)
    have hP : va_P D vwCl [(h, .inr (1, [.int (nI (jc_ x)), .ref q1, .ref q2, .ref q3])), (q1, .inl (dZ, 13, .inl (zF 0))), (q2, .inl (dN, 13, .inl (nF z_))), (q3, .inl (dN, 13, .inl (nF z_)))] H := hP
    have hD : va_D A [(h, .inr (1, [.int (nI (jc_ x)), .ref q1, .ref q2, .ref q3])), (q1, .inl (dZ, 13, .inl (zF 0))), (q2, .inl (dN, 13, .inl (nF z_))), (q3, .inl (dN, 13, .inl (nF z_)))] := hD
    exact W.vret hx hb hr (fun t ht hW => ⟨⟨(dZ, dN, fun k => [h, q1, q2, q3].getD k 0), rfl, rfl, by rw [ht]; exact hP, va_K.moved hW.alike hK, hD⟩, hS.F ht⟩) hS.2.2 dX2_init_53
set_option maxHeartbeats 4000000 in
set_option maxRecDepth 100000 in
/-- cell(script, 0) -/
theorem mX0_cell (l : Launch) (b L sz : Nat) (xs : Nat → Int32) (hL : L ≤ 193) : Met l yX0_cell (ws_ yX0_cell cX0_cell 2 (some .int)) (rr_ 0 0) (va_Pc [.ref b, .int (nI 0)] (fun U => U.heap.size = sz ∧ b < sz ∧ va_X b L xs U U.heap)) (va_Qi (fun (r : Int32) (_ : Unit) => r = if L = 0 then 0 else xs 0) (fun _ _ => True) (fun q => sz ≤ q)) 0 0 (fun q => sz ≤ q) := by
  refine Met.ofW (cc := cX0_cell) (maxL := 2) (ret := some .int) (by decide +kernel) rfl ?_
  intro p e s m args below meth c s₁ B hml hv
  obtain ⟨rfl, hsz, hbl, hX⟩ := hv
  have hx := B.exec
  have hb := B.bytes
  have hr := B.returns
  have hlocks := B.notSynchronized
  subst hsz
  have hbA : ¬ (fun q : Nat => s.heap.size ≤ q) b := Nat.not_le.mpr hbl
  have hS : va_S (fun q : Nat => s.heap.size ≤ q) s.heap s.heap [] := va_S.rf
  have hl := lv_entry ([.ref b, .int (nI 0)]) (n := 2) (Nat.le_of_ble_eq_true rfl)
  rw [lg_entry_eq]
  generalize (lg_sl ([.ref b, .int (nI 0)]) ++ List.replicate (2 - (lg_sl ([.ref b, .int (nI 0)])).length) Slot.unset).toArray = ls at hl ⊢
  have hl : lv_has ls 2 [(0, .ref b), (1, .int (nI 0))] := hl
  refine lv_iload_n hx hb dX0_cell_0 rfl (lv_at hl 1 rfl) ?_
  refine lv_aload_n hx hb dX0_cell_1 rfl (lv_at hl 0 rfl) ?_
  refine va_slen hx hb hX hbl hbA hS dX0_cell_2 ?_
  refine nr_icmp_ge (x := 0) (y := L) (tgt := 12) hx hb (by omega) (by omega) dX0_cell_3 (by decide) (fun c3 => ?_) (fun c3 => ?_)
  · refine lv_iconst (v := 0) hx hb dX0_cell_12 (by decide) ?_
    exact W.iret hx hb hr (fun t ht hW => ⟨⟨0, (), rfl, by rw [if_pos (by omega)], trivial⟩, hS.F ht⟩) hS.2.2 dX0_cell_13
  · refine lv_aload_n hx hb dX0_cell_6 rfl (lv_at hl 0 rfl) ?_
    refine lv_iload_n hx hb dX0_cell_7 rfl (lv_at hl 1 rfl) ?_
    refine va_sld hx hb hX hbl hbA hS (vp_in_nI c3 (by omega)) dX0_cell_8 ?_
    refine lv_goto (tgt := 13) hx hb dX0_cell_9 (by decide) ?_
    exact W.iret hx hb hr (fun t ht hW => ⟨⟨_, (), rfl, by rw [if_neg (by omega)]; rfl, trivial⟩, hS.F ht⟩) hS.2.2 dX0_cell_13
end
section
def R_law : String := "PebbleFrameLaw"
def lw_P (b : Addr) (xs : List Int32) (args : Array Value) (s : State) : Prop := args = #[.ref b] ∧ s.IntsAt b xs ∧ xs.length ≤ 193 ∧ (Jvm.Cond.and given_1 narrow_1).before args s = true
def lw_Q (_ : Array Value) (s : State) (o : Outcome) (t : State) : Prop := o = .returned (some (.int 1)) ∧ Framed s o t [] 600000 7290000
def lw_Z (below : List Frame) (a : Array Value) (s : State) : State → Prop := fun t => ∃ o, t.status = .running ∧ Ended t below o ∧ lw_Q a s o t
/-- the law's own end, with 1 on the stack, nothing written that was there before, its room as the claim has it -/
theorem lw_ret {p : Program} {l : Launch} {e : Env} {s : State} {m : MethodId} {below : List Frame} {meth : Method} {c : Code} {b : Nat} (hx : p.tables.exec = Jvm.exec) (hb : c.code = code) (hr : meth.sig.returnType = ret) (hlocks : meth.locks = false) {pc : Nat} {H : Heap} {ls : Array Slot} (hdg : decode code pc = .ok (.ireturn, 1)) : W p l e room_1 s m #[Value.ref b] below meth c H [] 600000 7290000 (lw_Z below #[Value.ref b] s) (F0 m pc ls [.int 1]) := by
  intro T hT X
  obtain ⟨fs, hret, hrun, hended, hW, hframe⟩ := X.leave (v := some (.int 1)) (hlocks := hlocks) (fun h => by rw [hr] at h; cases h)
  have hmeth' : T.vm.method? m = some meth := X.method'
  refine ⟨T.setFrames fs, ?_, .returned (some (.int 1)), hrun, hended, rfl, ⟨_, rfl⟩, hW, hframe⟩
  jvm_step X.here [X.here.top, hx, hb, hdg, hmeth', hr, ret, narrow_b1]
  (try refine ⟨rfl, ?_⟩); (try refine ⟨rfl, ?_⟩)
  first | (intro acts; rw [hret _ acts rfl rfl rfl]) | rw [hret _ _ rfl rfl rfl]
  exact Steps.refl _
/-- what holds at the law's entry: the machine, the code, the tables' words (any of lw_tbl by 'hts w (by decide +kernel)'), the script of L ints xs at the cell b, what the Statement gives of the start (any of its parts by flat_of_before) -/
def lw_At (p : Program) (s : State) (m : MethodId) (meth : Method) (c : Code) (b L : Nat) (xs : Nat → Int32) : Prop :=
  p.tables.exec = Jvm.exec ∧ c.code = code ∧ meth.sig.returnType = ret ∧ c.maxLocals = 4 ∧ s.vm.findClass R_law = some m.cls ∧ (∀ w ∈ lw_tbl, w.before #[Value.ref b] s = true) ∧ va_X b L xs s s.heap ∧ b < s.heap.size ∧ meth.locks = false ∧ (Jvm.Cond.and given_1 narrow_1).before #[Value.ref b] s = true
end
section
/-! calls over two worlds side by side: the class's and the reference's -/
section TW
variable {p : Program} {l : Launch} {e : Env} {R : Room} {s : State} {m : MethodId} {args : Array Value} {below : List Frame} {meth : Method} {c : Code} {H : Heap} {locs : List Loc} {cells slots : Nat} {Q : State → Prop}
variable {cc : ByteArray} {pc : Nat} {ls : Array Slot} {rest : List Value} {D : va_G} {cl : List vw_C} {A : Nat → Prop} {a : Nat} {tys : List (ClassId × FieldType)} {H0 : Heap}
theorem tw_l {w1 w2 : va_W} {k : Nat} {q : Nat × va_E} (h : w1[k]? = some q) : (w1 ++ w2)[k]? = some q := by
  rw [List.getElem?_append_left (List.getElem?_eq_some_iff.mp h).1]
  exact h
theorem tw_r {w1 w2 : va_W} {k : Nat} {q : Nat × va_E} (h : w2[k]? = some q) : (w1 ++ w2)[w1.length + k]? = some q := by
  rw [List.getElem?_append_right (by omega), Nat.add_sub_cancel_left]
  exact h
theorem tw_P1 {w1 w2 : va_W} (h : va_P D cl (w1 ++ w2) H) : va_P D cl w1 H := fun k q hk => h k q (tw_l hk)
theorem tw_P2 {w1 w2 : va_W} (h : va_P D cl (w1 ++ w2) H) : va_P D cl w2 H := fun k q hk => h _ q (tw_r hk)
theorem tw_D1 {w1 w2 : va_W} (h : va_D A (w1 ++ w2)) : va_D A w1 := ⟨fun i j x y hi hj e => h.1 i j x y (tw_l hi) (tw_l hj) e, fun k q hk => h.2 k q (tw_l hk)⟩
theorem tw_D2 {w1 w2 : va_W} (h : va_D A (w1 ++ w2)) : va_D A w2 := ⟨fun i j x y hi hj e => by
  have := h.1 _ _ x y (tw_r hi) (tw_r hj) e
  omega, fun k q hk => h.2 _ q (tw_r hk)⟩
theorem tw_X {w1 w2 : va_W} (h : va_D A (w1 ++ w2)) {i j : Nat} {x y : Nat × va_E} (hi : w1[i]? = some x) (hj : w2[j]? = some y) (e : x.1 = y.1) : False := by
  have h1 := h.1 _ _ x y (tw_l hi) (tw_r hj) e
  have h2 := (List.getElem?_eq_some_iff.mp hi).1
  omega
theorem cl_x {y : MethodName} {b : ByteArray} {L nL n index ci : Nat} {ty : FieldType} {rm : Room} {S : Type} {post : Int32 → S → Prop} {w' : S → va_W} {w1 w2 : va_W} {As st0 : List Value} {own : String} {q : vw_C} {fs : List Value} (fx : CallFix p m c cc nL s args lw_all own) (hK : va_K D vwCl tys s) (hP : va_P D vwCl (w1 ++ w2) H) (hD : va_D A (w1 ++ w2)) (hA : ∀ q, H0.size ≤ q → A q) (hS : va_S A H0 H locs) (he : w1[0]? = some (a, .inr (ci, fs))) (hc : vwCl[ci]? = some q)
    (hM : mt_i l y b L ty rm D tys w1 H.size (.ref a :: As) post w') (cw : CallW R s args own q.1 index y b L (some ty) (ws_ y b L (some ty)) rm 0 0 n) (hn : As.length = n) (hsize : ls.size = nL) (hst : st0 = As.reverse ++ .ref a :: rest) (hroom : (rest.map fun v => v.category).sum ≤ 8) (hcs : cells ≤ R.cells ∧ slots ≤ R.slots) (hdg : decode cc pc = .ok (.invokevirtual index, 3))
    (kk : ∀ (r : Int32) (u : S) (H1 : Heap) (locs1 : List Loc), post r u → va_P D vwCl (w' u ++ w2) H1 → va_D A (w' u ++ w2) → va_S A H0 H1 locs1 → W p l e R s m args below meth c H1 locs1 cells slots Q (F0 m (pc + 3) ls (.int r :: rest))) : W p l e R s m args below meth c H locs cells slots Q (F0 m pc ls st0) := by
  have hPc : va_P D vwCl w1 H := tw_P1 hP
  have hPr : va_P D vwCl w2 H := tw_P2 hP
  have hDc : va_D A w1 := tw_D1 hD
  have hDr : va_D A w2 := tw_D2 hD
  have hF := cl_A hDc hS hA
  have hap : ∀ (j : Nat) (x : Nat × va_E), w2[j]? = some x → ¬ va_A w1 H.size x.1 := by
    intro j x hx h
    rcases h with ⟨k, e, h⟩ | h
    · exact tw_X hD h hx rfl
    · have := (hPr j x hx).lt
      omega
  refine va_calli (va_runV (As := As) (rest := rest) (b := a) fx hM cw ⟨pw_blind, va_recv hK hPc hc he, fun U hU hW => ⟨rfl, by rw [hU], by rw [hU]; exact hPc, va_K.moved hW.alike hK, hDc.weaken (fun _ _ _ _ => trivial)⟩⟩ rfl hn hsize hst (lv_room hroom) hdg hcs) hS (fun q _ h => hF q h) hF (fun r u t H1 locs1 ht hvm hw hB hz1 hk1 hS1 => ?_)
  obtain ⟨hP1, hK1, hD1⟩ := hB
  rw [ht] at hP1
  have hPr1 : va_P D vwCl w2 H1 := hPr.kept (fun k x hx => hk1 x.1 ((hPr k x hx).lt) (hap k x hx))
  have hD1' := hD1.weaken (B := A) (fun _ _ _ h => hF _ h)
  exact kk r u H1 locs1 hw (hP1.app hPr1) (va_D.app hD1' hDr (fun i j x y hi hj q => hap j y hj (by rw [← q]; exact hD1.2 i x hi))) hS1
theorem cl_y {y : MethodName} {b : ByteArray} {L nL n index ci : Nat} {ty : FieldType} {rm : Room} {S : Type} {post : Int32 → S → Prop} {w' : S → va_W} {w1 w2 : va_W} {As st0 : List Value} {own : String} {q : vw_C} {fs : List Value} (fx : CallFix p m c cc nL s args lw_all own) (hK : va_K D vwCl tys s) (hP : va_P D vwCl (w1 ++ w2) H) (hD : va_D A (w1 ++ w2)) (hA : ∀ q, H0.size ≤ q → A q) (hS : va_S A H0 H locs) (he : w2[0]? = some (a, .inr (ci, fs))) (hc : vwCl[ci]? = some q)
    (hM : mt_i l y b L ty rm D tys w2 H.size (.ref a :: As) post w') (cw : CallW R s args own q.1 index y b L (some ty) (ws_ y b L (some ty)) rm 0 0 n) (hn : As.length = n) (hsize : ls.size = nL) (hst : st0 = As.reverse ++ .ref a :: rest) (hroom : (rest.map fun v => v.category).sum ≤ 8) (hcs : cells ≤ R.cells ∧ slots ≤ R.slots) (hdg : decode cc pc = .ok (.invokevirtual index, 3))
    (kk : ∀ (r : Int32) (u : S) (H1 : Heap) (locs1 : List Loc), post r u → va_P D vwCl (w1 ++ w' u) H1 → va_D A (w1 ++ w' u) → va_S A H0 H1 locs1 → W p l e R s m args below meth c H1 locs1 cells slots Q (F0 m (pc + 3) ls (.int r :: rest))) : W p l e R s m args below meth c H locs cells slots Q (F0 m pc ls st0) := by
  have hPc : va_P D vwCl w2 H := tw_P2 hP
  have hPr : va_P D vwCl w1 H := tw_P1 hP
  have hDc : va_D A w2 := tw_D2 hD
  have hDr : va_D A w1 := tw_D1 hD
  have hF := cl_A hDc hS hA
  have hap : ∀ (j : Nat) (x : Nat × va_E), w1[j]? = some x → ¬ va_A w2 H.size x.1 := by
    intro j x hx h
    rcases h with ⟨k, e, h⟩ | h
    · exact tw_X hD hx h rfl
    · have := (hPr j x hx).lt
      omega
  refine va_calli (va_runV (As := As) (rest := rest) (b := a) fx hM cw ⟨pw_blind, va_recv hK hPc hc he, fun U hU hW => ⟨rfl, by rw [hU], by rw [hU]; exact hPc, va_K.moved hW.alike hK, hDc.weaken (fun _ _ _ _ => trivial)⟩⟩ rfl hn hsize hst (lv_room hroom) hdg hcs) hS (fun q _ h => hF q h) hF (fun r u t H1 locs1 ht hvm hw hB hz1 hk1 hS1 => ?_)
  obtain ⟨hP1, hK1, hD1⟩ := hB
  rw [ht] at hP1
  have hPr1 : va_P D vwCl w1 H1 := hPr.kept (fun k x hx => hk1 x.1 ((hPr k x hx).lt) (hap k x hx))
  have hD1' := hD1.weaken (B := A) (fun _ _ _ h => hF _ h)
  exact kk r u H1 locs1 hw (hPr1.app hP1) (va_D.app hDr hD1' (fun i j x y hi hj q => hap i x hi (by rw [q]; exact hD1.2 j y hj))) hS1
/-- the script -/
theorem nr_sld (hx : p.tables.exec = Jvm.exec) (hb : c.code = cc) {b L : Nat} {xs : Nat → Int32} (hX : va_X b L xs s H0) (hbl : b < H0.size) (hbA : ¬ A b) (hS : va_S A H0 H locs) {k : Nat} (hk : k < L) (hL : L < 2 ^ 31) (hdg : decode cc pc = .ok (.iaload, 1))
    (kk : W p l e R s m args below meth c H locs cells slots Q (F0 m (pc + 1) ls (.int (xs k) :: rest))) : W p l e R s m args below meth c H locs cells slots Q (F0 m pc ls (.int (nI k) :: .ref b :: rest)) := by
  refine va_sld hx hb hX hbl hbA hS (vp_in_nI hk hL) hdg ?_
  rw [nI_clamp (Nat.lt_trans hk hL)]
  exact kk
end TW
theorem aA_up {J P : Nat} {x y : Int32} {A : Nat → Nat} {z : Int32} {x0 : Nat} : aA_ J P x y (up_ A 12 x0) z = up_ (aA_ J P x y A z) 12 x0 := by
  unfold aA_
  by_cases h1 : ba_ J x y = true
  · rw [if_pos h1, if_pos h1]
  · rw [if_neg h1, if_neg h1]
    by_cases h2 : fw_ P = 12
    · rw [if_pos h2, if_pos h2]
    · rw [if_neg h2, if_neg h2]
      exact up_comm (fun q => h2 q.symm)
theorem mb_add {J P : Nat} {x y : Int32} {A B : Nat → Nat} {x0 y0 : Nat} (hJ : J ≤ 6) (h : mb_ (up_ A 12 x0) (up_ B 12 y0)) : mb_ (up_ (aA_ J P x y A x) 12 x0) (up_ (aA_ J P x y B y) 12 y0) := by
  rw [← aA_up, ← aA_up]
  unfold aA_
  by_cases h1 : ba_ J x y = true
  · rw [if_pos h1, if_pos h1]
    exact h
  · rw [if_neg h1, if_neg h1]
    by_cases h2 : fw_ P = 12
    · rw [if_pos h2, if_pos h2]
      exact h
    · rw [if_neg h2, if_neg h2]
      obtain ⟨a, b, ha, hb, -, rfl, rfl⟩ := ba_ex (by omega) (Bool.eq_false_iff.mpr h1)
      rw [nI_clamp (by omega), nI_clamp (by omega)]
      intro k hk
      by_cases e : k = fw_ P
      · rw [e, up_s, up_s]
        omega
      · rw [up_n e, up_n e]
        exact h k hk
end
section
set_option maxHeartbeats 8000000 in
set_option maxRecDepth 100000 in
/-- the law's loop: the class and the reference hold the same bars -/
theorem law_loop {p : Program} {l : Launch} {e : Env} {s : State} {m : MethodId} {below : List Frame} {meth : Method} {c : Code} {b L : Nat} {xs : Nat → Int32} (hL : L ≤ 193) (C0 : lw_At p s m meth c b L xs) (D : va_G) (d dZ dN : ClassId) (ad am : Nat → Nat) (J : Nat) (Ar : Nat → Prop) (hA : ∀ q, s.heap.size ≤ q → Ar q) (hAr : ∀ q, Ar q → s.heap.size ≤ q) (hKx : va_K D vwCl [(d, .byte)] s) (hKm : va_K D vwCl [(dZ, .boolean), (dN, .int)] s) :
    ∀ (n i : Nat) (P : Nat) (A B : Nat → Nat) (x0 y0 T : Nat) (fr to pb : Nat → Nat) (re : Nat) (bY ln : Nat → Nat), L + 4 ≤ i + n → i ≤ L + 3 → ok_ J P A B → sf_ T fr to pb re bY ln → mb_ (up_ A 12 x0) (up_ B 12 y0) → ∀ (H : Heap) (locs : List Loc), va_P D vwCl (wF d ad J P A B T fr to pb re bY ln ++ wM dZ dN am J P (up_ A 12 x0) (up_ B 12 y0)) H → va_D Ar (wF d ad J P A B T fr to pb re bY ln ++ wM dZ dN am J P (up_ A 12 x0) (up_ B 12 y0)) → va_S Ar s.heap H locs → ∀ ls : Array Slot, lv_has ls 4 [(0, .ref b), (1, .ref (ad 0)), (2, .ref (am 0)), (3, .int (nI i))] → W p l e room_1 s m #[Value.ref b] below meth c H locs 600000 7290000 (lw_Z below #[Value.ref b] s) (F0 m 28 ls []) := by
  obtain ⟨hx, hb, hr, hml, hown, hts0, hX, hbl, hlocks, hgv⟩ := id C0
  have hts : ∀ w ∈ lw_all, w.before #[Value.ref b] s = true := fun w h => hts0 w (lw_all_tbl h)
  have hown : s.vm.findClass RX0 = some m.cls := hown
  have hbA : ¬ Ar b := fun h => absurd (hAr b h) (Nat.not_le.mpr hbl)
  intro n
  induction n with
  | zero =>
    intro i P A B x0 y0 T fr to pb re bY ln h1 h2
    exfalso
    omega
  | succ n ih =>
    intro i P A B x0 y0 T fr to pb re bY ln hn hi hok hsf hmb H locs hP hD hS ls hl
    refine lv_iload_n hx hb dL_law_28 rfl (lv_at hl 3 rfl) ?_
    refine lv_aload_n hx hb dL_law_29 rfl (lv_at hl 0 rfl) ?_
    refine va_slen hx hb hX hbl hbA hS dL_law_30 ?_
    refine lv_iconst (v := nI 3) hx hb dL_law_31 (by decide) ?_
    refine lv_isub hx hb dL_law_32 ?_
    refine lv_icmp_gt (tgt := 400) hx hb dL_law_33 (by decide) (fun c33 => ?_) (fun c33 => ?_)
    · refine lv_iconst (v := 1) hx hb dL_law_400 (by decide) ?_
      refine va_forget (fun q hq => hAr _ (hS.2.2 q hq)) ?_
      exact lw_ret hx hb hr hlocks dL_law_401
    · have hlt : i + 3 ≤ L := by
        rw [show Int32.ofNat L = nI L from rfl, Int32.lt_iff_toInt_lt, pk_sub_toInt (by omega) (by decide), nI_toInt (by omega)] at c33
        omega
      have next : ∀ (P : Nat) (A B : Nat → Nat) (x0 y0 T : Nat) (fr to pb : Nat → Nat) (re : Nat) (bY ln : Nat → Nat), ok_ J P A B → sf_ T fr to pb re bY ln → mb_ (up_ A 12 x0) (up_ B 12 y0) → ∀ (H : Heap) (locs : List Loc), va_P D vwCl (wF d ad J P A B T fr to pb re bY ln ++ wM dZ dN am J P (up_ A 12 x0) (up_ B 12 y0)) H → va_D Ar (wF d ad J P A B T fr to pb re bY ln ++ wM dZ dN am J P (up_ A 12 x0) (up_ B 12 y0)) → va_S Ar s.heap H locs → ∀ ls : Array Slot, lv_has ls 4 [(0, .ref b), (1, .ref (ad 0)), (2, .ref (am 0)), (3, .int (nI i))] → W p l e room_1 s m #[Value.ref b] below meth c H locs 600000 7290000 (lw_Z below #[Value.ref b] s) (F0 m 394 ls []) := by
        intro P A B x0 y0 T fr to pb re bY ln hok hsf hmb H locs hP hD hS ls hl
        refine lv_iinc (v := nI (i + 3)) (lv' := [(3, _), (0, _), (1, _), (2, _)]) hx hb dL_law_394 hl (k := 3) rfl (nI_add i 3) (by decide) rfl (fun ls hl => ?_)
        refine lv_goto (tgt := 28) hx hb dL_law_397 (by decide) ?_
        exact ih (i + 3) P A B x0 y0 T fr to pb re bY ln (by omega) (by omega) hok hsf hmb _ _ hP hD hS _ (lv_sub hl [1, 2, 3, 0] rfl)
      refine lv_aload_n hx hb dL_law_36 rfl (lv_at hl 0 rfl) ?_
      refine lv_iload_n hx hb dL_law_37 rfl (lv_at hl 3 rfl) ?_
      refine nr_sld hx hb hX hbl hbA hS (by omega) (by omega) dL_law_38 ?_
      refine lv_bipush (v := nI 15) hx hb dL_law_39 (by decide) ?_
      refine lv_iand hx hb dL_law_41 ?_
      obtain ⟨j, hj, ej⟩ := pk_andE (xs i) (m := nI 15) 4 (by decide)
      refine nr_top ej ?_
      have hj : j < 16 := hj
      rcases (show j = 0 ∨ j = 1 ∨ j = 2 ∨ j = 3 ∨ j = 4 ∨ j = 5 ∨ j = 6 ∨ j = 7 ∨ j = 8 ∨ j = 9 ∨ j = 10 ∨ j = 11 ∨ j = 12 ∨ j = 13 ∨ 14 ≤ j by omega) with rfl | rfl | rfl | rfl | rfl | rfl | rfl | rfl | rfl | rfl | rfl | rfl | rfl | rfl | hj14
      · refine lv_tableIn (off := 70) (tgt := 112) hx hb dL_law_42 (by decide) (by decide) rfl (by decide) ?_
        refine lv_aload_n hx hb dL_law_112 rfl (lv_at hl 1 rfl) ?_
        refine lv_aload_n hx hb dL_law_113 rfl (lv_at hl 0 rfl) ?_
        refine lv_iload_n hx hb dL_law_114 rfl (lv_at hl 3 rfl) ?_
        refine lv_iconst (v := nI 1) hx hb dL_law_115 (by decide) ?_
        refine nr_add hx hb dL_law_116 ?_
        refine nr_sld hx hb hX hbl hbA hS (by omega) (by omega) dL_law_117 ?_
        refine lv_aload_n hx hb dL_law_118 rfl (lv_at hl 0 rfl) ?_
        refine lv_iload_n hx hb dL_law_119 rfl (lv_at hl 3 rfl) ?_
        refine lv_iconst (v := nI 2) hx hb dL_law_120 (by decide) ?_
        refine nr_add hx hb dL_law_121 ?_
        refine nr_sld hx hb hX hbl hbA hS (by omega) (by omega) dL_law_122 ?_
        refine cl_x (w1 := wF d ad J P A B T fr to pb re bY ln) (w2 := wM dZ dN am J P (up_ A 12 x0) (up_ B 12 y0)) ⟨hx, hb, hml, hown, hts⟩ hKx hP hD hA hS rfl rfl (mX1_add l D d ad _ J P A B T fr to pb re bY ln (xs (i + 1)) (xs (i + 2)) hok.2.2.1 hok.2.1) (cwV 2 hts (lw_V q63 q64 q65 q18 q66) rfl rfl rfl (by decide +kernel) ⟨Nat.le_of_ble_eq_true rfl, Nat.le_of_ble_eq_true rfl⟩) rfl hl.1 rfl (Nat.le_of_ble_eq_true rfl) ⟨Nat.le_refl _, Nat.le_refl _⟩ dL_law_123 (fun r1 u1 H locs hw1 hP hD hS => ?_)
        obtain ⟨P1, A1, B1⟩ := u1
        obtain ⟨g1, g2, g3, g4⟩ := hw1
        have g2 : P1 = aP_ J P (xs (i + 1)) (xs (i + 2)) := g2
        have g3 : A1 = aA_ J P (xs (i + 1)) (xs (i + 2)) A (xs (i + 1)) := g3
        have g4 : B1 = aA_ J P (xs (i + 1)) (xs (i + 2)) B (xs (i + 2)) := g4
        subst g2
        subst g3
        subst g4
        have hP : va_P D vwCl (wF d ad J (aP_ J P (xs (i + 1)) (xs (i + 2))) (aA_ J P (xs (i + 1)) (xs (i + 2)) A (xs (i + 1))) (aA_ J P (xs (i + 1)) (xs (i + 2)) B (xs (i + 2))) T fr to pb re bY ln ++ wM dZ dN am J P (up_ A 12 x0) (up_ B 12 y0)) H := hP
        have hD : va_D Ar (wF d ad J (aP_ J P (xs (i + 1)) (xs (i + 2))) (aA_ J P (xs (i + 1)) (xs (i + 2)) A (xs (i + 1))) (aA_ J P (xs (i + 1)) (xs (i + 2)) B (xs (i + 2))) T fr to pb re bY ln ++ wM dZ dN am J P (up_ A 12 x0) (up_ B 12 y0)) := hD
        refine lv_aload_n hx hb dL_law_126 rfl (lv_at hl 2 rfl) ?_
        refine lv_aload_n hx hb dL_law_127 rfl (lv_at hl 0 rfl) ?_
        refine lv_iload_n hx hb dL_law_128 rfl (lv_at hl 3 rfl) ?_
        refine lv_iconst (v := nI 1) hx hb dL_law_129 (by decide) ?_
        refine nr_add hx hb dL_law_130 ?_
        refine nr_sld hx hb hX hbl hbA hS (by omega) (by omega) dL_law_131 ?_
        refine lv_aload_n hx hb dL_law_132 rfl (lv_at hl 0 rfl) ?_
        refine lv_iload_n hx hb dL_law_133 rfl (lv_at hl 3 rfl) ?_
        refine lv_iconst (v := nI 2) hx hb dL_law_134 (by decide) ?_
        refine nr_add hx hb dL_law_135 ?_
        refine nr_sld hx hb hX hbl hbA hS (by omega) (by omega) dL_law_136 ?_
        refine cl_y (w1 := wF d ad J (aP_ J P (xs (i + 1)) (xs (i + 2))) (aA_ J P (xs (i + 1)) (xs (i + 2)) A (xs (i + 1))) (aA_ J P (xs (i + 1)) (xs (i + 2)) B (xs (i + 2))) T fr to pb re bY ln) (w2 := wM dZ dN am J P (up_ A 12 x0) (up_ B 12 y0)) ⟨hx, hb, hml, hown, hts⟩ hKm hP hD hA hS rfl rfl (mX2_add l D dZ dN am _ J P (up_ A 12 x0) (up_ B 12 y0) (xs (i + 1)) (xs (i + 2)) hok.2.1) (cwV 2 hts (lw_V q195 q196 q197 q19 q198) rfl rfl rfl (by decide +kernel) ⟨Nat.le_of_ble_eq_true rfl, Nat.le_of_ble_eq_true rfl⟩) rfl hl.1 rfl (Nat.le_of_ble_eq_true rfl) ⟨Nat.le_refl _, Nat.le_refl _⟩ dL_law_137 (fun r2 u2 H locs hw2 hP hD hS => ?_)
        obtain ⟨P2, A2, B2⟩ := u2
        obtain ⟨k1, k2, k3, k4⟩ := hw2
        have n2 : P2 = aP_ J P (xs (i + 1)) (xs (i + 2)) := k2
        have n3 : A2 = up_ (aA_ J P (xs (i + 1)) (xs (i + 2)) A (xs (i + 1))) 12 x0 := k3.trans aA_up
        have n4 : B2 = up_ (aA_ J P (xs (i + 1)) (xs (i + 2)) B (xs (i + 2))) 12 y0 := k4.trans aA_up
        subst n2
        subst n3
        subst n4
        refine lv_icmp_eq (tgt := 394) hx hb dL_law_140 (by decide) (fun _ => ?_) (fun cq => absurd (g1.trans k1.symm) cq)
        exact next (aP_ J P (xs (i + 1)) (xs (i + 2))) (aA_ J P (xs (i + 1)) (xs (i + 2)) A (xs (i + 1))) (aA_ J P (xs (i + 1)) (xs (i + 2)) B (xs (i + 2))) x0 y0 T fr to pb re bY ln (ok_add hok) hsf (mb_add hok.2.1 hmb) _ _ hP hD hS _ (lv_sub hl [0, 1, 2, 3] rfl)
      · refine lv_tableIn (off := 103) (tgt := 145) hx hb dL_law_42 (by decide) (by decide) rfl (by decide) ?_
        refine lv_aload_n hx hb dL_law_145 rfl (lv_at hl 1 rfl) ?_
        refine lv_aload_n hx hb dL_law_146 rfl (lv_at hl 0 rfl) ?_
        refine lv_iload_n hx hb dL_law_147 rfl (lv_at hl 3 rfl) ?_
        refine lv_iconst (v := nI 1) hx hb dL_law_148 (by decide) ?_
        refine nr_add hx hb dL_law_149 ?_
        refine nr_sld hx hb hX hbl hbA hS (by omega) (by omega) dL_law_150 ?_
        refine cl_x (w1 := wF d ad J P A B T fr to pb re bY ln) (w2 := wM dZ dN am J P (up_ A 12 x0) (up_ B 12 y0)) ⟨hx, hb, hml, hown, hts⟩ hKx hP hD hA hS rfl rfl (mX1_remove l D d ad _ J P A B T fr to pb re bY ln (xs (i + 1)) hok.2.2.1) (cwV 1 hts (lw_V q75 q76 q77 q18 q78) rfl rfl rfl (by decide +kernel) ⟨Nat.le_of_ble_eq_true rfl, Nat.le_of_ble_eq_true rfl⟩) rfl hl.1 rfl (Nat.le_of_ble_eq_true rfl) ⟨Nat.le_refl _, Nat.le_refl _⟩ dL_law_151 (fun r1 u1 H locs hw1 hP hD hS => ?_)
        obtain ⟨g1, g2⟩ := hw1
        subst g2
        have hP : va_P D vwCl (wF d ad J (rP_ P (xs (i + 1))) A B T fr to pb re bY ln ++ wM dZ dN am J P (up_ A 12 x0) (up_ B 12 y0)) H := hP
        have hD : va_D Ar (wF d ad J (rP_ P (xs (i + 1))) A B T fr to pb re bY ln ++ wM dZ dN am J P (up_ A 12 x0) (up_ B 12 y0)) := hD
        refine lv_aload_n hx hb dL_law_154 rfl (lv_at hl 2 rfl) ?_
        refine lv_aload_n hx hb dL_law_155 rfl (lv_at hl 0 rfl) ?_
        refine lv_iload_n hx hb dL_law_156 rfl (lv_at hl 3 rfl) ?_
        refine lv_iconst (v := nI 1) hx hb dL_law_157 (by decide) ?_
        refine nr_add hx hb dL_law_158 ?_
        refine nr_sld hx hb hX hbl hbA hS (by omega) (by omega) dL_law_159 ?_
        refine cl_y (w1 := wF d ad J (rP_ P (xs (i + 1))) A B T fr to pb re bY ln) (w2 := wM dZ dN am J P (up_ A 12 x0) (up_ B 12 y0)) ⟨hx, hb, hml, hown, hts⟩ hKm hP hD hA hS rfl rfl (mX2_remove l D dZ dN am _ J P (up_ A 12 x0) (up_ B 12 y0) (xs (i + 1))) (cwV 1 hts (lw_V q203 q204 q205 q19 q206) rfl rfl rfl (by decide +kernel) ⟨Nat.le_of_ble_eq_true rfl, Nat.le_of_ble_eq_true rfl⟩) rfl hl.1 rfl (Nat.le_of_ble_eq_true rfl) ⟨Nat.le_refl _, Nat.le_refl _⟩ dL_law_160 (fun r2 u2 H locs hw2 hP hD hS => ?_)
        obtain ⟨k1, k2⟩ := hw2
        subst k2
        refine lv_icmp_eq (tgt := 394) hx hb dL_law_163 (by decide) (fun _ => ?_) (fun cq => absurd (g1.trans k1.symm) cq)
        exact next (rP_ P (xs (i + 1))) A B x0 y0 T fr to pb re bY ln (ok_rem hok) hsf hmb _ _ hP hD hS _ (lv_sub hl [0, 1, 2, 3] rfl)
      · refine lv_tableIn (off := 126) (tgt := 168) hx hb dL_law_42 (by decide) (by decide) rfl (by decide) ?_
        refine lv_aload_n hx hb dL_law_168 rfl (lv_at hl 1 rfl) ?_
        refine cl_x (w1 := wF d ad J P A B T fr to pb re bY ln) (w2 := wM dZ dN am J P (up_ A 12 x0) (up_ B 12 y0)) ⟨hx, hb, hml, hown, hts⟩ hKx hP hD hA hS rfl rfl (mX1_bars l D d ad _ J P A B T fr to pb re bY ln  ) (cwV 0 hts (lw_V q79 q80 q81 q18 q82) rfl rfl rfl (by decide +kernel) ⟨Nat.le_of_ble_eq_true rfl, Nat.le_of_ble_eq_true rfl⟩) rfl hl.1 rfl (Nat.le_of_ble_eq_true rfl) ⟨Nat.le_refl _, Nat.le_refl _⟩ dL_law_169 (fun r1 u1 H locs hw1 hP hD hS => ?_)
        have g1 := hw1
        have hP : va_P D vwCl (wF d ad J P A B T fr to pb re bY ln ++ wM dZ dN am J P (up_ A 12 x0) (up_ B 12 y0)) H := hP
        have hD : va_D Ar (wF d ad J P A B T fr to pb re bY ln ++ wM dZ dN am J P (up_ A 12 x0) (up_ B 12 y0)) := hD
        refine lv_aload_n hx hb dL_law_172 rfl (lv_at hl 2 rfl) ?_
        refine cl_y (w1 := wF d ad J P A B T fr to pb re bY ln) (w2 := wM dZ dN am J P (up_ A 12 x0) (up_ B 12 y0)) ⟨hx, hb, hml, hown, hts⟩ hKm hP hD hA hS rfl rfl (mX2_bars l D dZ dN am _ J P (up_ A 12 x0) (up_ B 12 y0) hok.2.2.1) (cwV 0 hts (lw_V q207 q208 q209 q19 q210) rfl rfl rfl (by decide +kernel) ⟨Nat.le_of_ble_eq_true rfl, Nat.le_of_ble_eq_true rfl⟩) rfl hl.1 rfl (Nat.le_of_ble_eq_true rfl) ⟨Nat.le_refl _, Nat.le_refl _⟩ dL_law_173 (fun r2 u2 H locs hw2 hP hD hS => ?_)
        have k1 := hw2
        refine lv_icmp_eq (tgt := 394) hx hb dL_law_176 (by decide) (fun _ => ?_) (fun cq => absurd (g1.trans k1.symm) cq)
        exact next P A B x0 y0 T fr to pb re bY ln hok hsf hmb _ _ hP hD hS _ (lv_sub hl [0, 1, 2, 3] rfl)
      · refine lv_tableIn (off := 139) (tgt := 181) hx hb dL_law_42 (by decide) (by decide) rfl (by decide) ?_
        refine lv_aload_n hx hb dL_law_181 rfl (lv_at hl 1 rfl) ?_
        refine lv_aload_n hx hb dL_law_182 rfl (lv_at hl 0 rfl) ?_
        refine lv_iload_n hx hb dL_law_183 rfl (lv_at hl 3 rfl) ?_
        refine lv_iconst (v := nI 1) hx hb dL_law_184 (by decide) ?_
        refine nr_add hx hb dL_law_185 ?_
        refine nr_sld hx hb hX hbl hbA hS (by omega) (by omega) dL_law_186 ?_
        refine cl_x (w1 := wF d ad J P A B T fr to pb re bY ln) (w2 := wM dZ dN am J P (up_ A 12 x0) (up_ B 12 y0)) ⟨hx, hb, hml, hown, hts⟩ hKx hP hD hA hS rfl rfl (mX1_free l D d ad _ J P A B T fr to pb re bY ln (xs (i + 1)) hok hsf) (cwV 1 hts (lw_V q83 q84 q85 q18 q86) rfl rfl rfl (by decide +kernel) ⟨Nat.le_of_ble_eq_true rfl, Nat.le_of_ble_eq_true rfl⟩) rfl hl.1 rfl (Nat.le_of_ble_eq_true rfl) ⟨Nat.le_refl _, Nat.le_refl _⟩ dL_law_187 (fun r1 u1 H locs hw1 hP hD hS => ?_)
        obtain ⟨T1, fr1, to1, pb1, re1, bY1, ln1⟩ := u1
        obtain ⟨g1, hsf1⟩ := hw1
        have hsf1 : sf_ T1 fr1 to1 pb1 re1 bY1 ln1 := hsf1
        have hP : va_P D vwCl (wF d ad J P A B T1 fr1 to1 pb1 re1 bY1 ln1 ++ wM dZ dN am J P (up_ A 12 x0) (up_ B 12 y0)) H := hP
        have hD : va_D Ar (wF d ad J P A B T1 fr1 to1 pb1 re1 bY1 ln1 ++ wM dZ dN am J P (up_ A 12 x0) (up_ B 12 y0)) := hD
        refine lv_aload_n hx hb dL_law_190 rfl (lv_at hl 2 rfl) ?_
        refine lv_aload_n hx hb dL_law_191 rfl (lv_at hl 0 rfl) ?_
        refine lv_iload_n hx hb dL_law_192 rfl (lv_at hl 3 rfl) ?_
        refine lv_iconst (v := nI 1) hx hb dL_law_193 (by decide) ?_
        refine nr_add hx hb dL_law_194 ?_
        refine nr_sld hx hb hX hbl hbA hS (by omega) (by omega) dL_law_195 ?_
        refine cl_y (w1 := wF d ad J P A B T1 fr1 to1 pb1 re1 bY1 ln1) (w2 := wM dZ dN am J P (up_ A 12 x0) (up_ B 12 y0)) ⟨hx, hb, hml, hown, hts⟩ hKm hP hD hA hS rfl rfl (mX2_free l D dZ dN am _ J P A B x0 y0 (xs (i + 1)) hok hmb) (cwV 1 hts (lw_V q211 q212 q213 q19 q214) rfl rfl rfl (by decide +kernel) ⟨Nat.le_of_ble_eq_true rfl, Nat.le_of_ble_eq_true rfl⟩) rfl hl.1 rfl (Nat.le_of_ble_eq_true rfl) ⟨Nat.le_refl _, Nat.le_refl _⟩ dL_law_196 (fun r2 u2 H locs hw2 hP hD hS => ?_)
        have k1 := hw2
        refine lv_icmp_eq (tgt := 394) hx hb dL_law_199 (by decide) (fun _ => ?_) (fun cq => absurd (g1.trans k1.symm) cq)
        exact next P A B x0 y0 T1 fr1 to1 pb1 re1 bY1 ln1 hok hsf1 hmb _ _ hP hD hS _ (lv_sub hl [0, 1, 2, 3] rfl)
      · refine lv_tableIn (off := 162) (tgt := 204) hx hb dL_law_42 (by decide) (by decide) rfl (by decide) ?_
        refine lv_aload_n hx hb dL_law_204 rfl (lv_at hl 1 rfl) ?_
        refine lv_aload_n hx hb dL_law_205 rfl (lv_at hl 0 rfl) ?_
        refine lv_iload_n hx hb dL_law_206 rfl (lv_at hl 3 rfl) ?_
        refine lv_iconst (v := nI 1) hx hb dL_law_207 (by decide) ?_
        refine nr_add hx hb dL_law_208 ?_
        refine nr_sld hx hb hX hbl hbA hS (by omega) (by omega) dL_law_209 ?_
        refine cl_x (w1 := wF d ad J P A B T fr to pb re bY ln) (w2 := wM dZ dN am J P (up_ A 12 x0) (up_ B 12 y0)) ⟨hx, hb, hml, hown, hts⟩ hKx hP hD hA hS rfl rfl (mX1_rank l D d ad _ J P A B T fr to pb re bY ln (xs (i + 1)) hok hsf) (cwV 1 hts (lw_V q115 q116 q117 q18 q118) rfl rfl rfl (by decide +kernel) ⟨Nat.le_of_ble_eq_true rfl, Nat.le_of_ble_eq_true rfl⟩) rfl hl.1 rfl (Nat.le_of_ble_eq_true rfl) ⟨Nat.le_refl _, Nat.le_refl _⟩ dL_law_210 (fun r1 u1 H locs hw1 hP hD hS => ?_)
        obtain ⟨T1, fr1, to1, pb1, re1, bY1, ln1⟩ := u1
        obtain ⟨g1, hsf1⟩ := hw1
        have hsf1 : sf_ T1 fr1 to1 pb1 re1 bY1 ln1 := hsf1
        have hP : va_P D vwCl (wF d ad J P A B T1 fr1 to1 pb1 re1 bY1 ln1 ++ wM dZ dN am J P (up_ A 12 x0) (up_ B 12 y0)) H := hP
        have hD : va_D Ar (wF d ad J P A B T1 fr1 to1 pb1 re1 bY1 ln1 ++ wM dZ dN am J P (up_ A 12 x0) (up_ B 12 y0)) := hD
        refine lv_aload_n hx hb dL_law_213 rfl (lv_at hl 2 rfl) ?_
        refine lv_aload_n hx hb dL_law_214 rfl (lv_at hl 0 rfl) ?_
        refine lv_iload_n hx hb dL_law_215 rfl (lv_at hl 3 rfl) ?_
        refine lv_iconst (v := nI 1) hx hb dL_law_216 (by decide) ?_
        refine nr_add hx hb dL_law_217 ?_
        refine nr_sld hx hb hX hbl hbA hS (by omega) (by omega) dL_law_218 ?_
        refine cl_y (w1 := wF d ad J P A B T1 fr1 to1 pb1 re1 bY1 ln1) (w2 := wM dZ dN am J P (up_ A 12 x0) (up_ B 12 y0)) ⟨hx, hb, hml, hown, hts⟩ hKm hP hD hA hS rfl rfl (mX2_rank l D dZ dN am _ J P A B x0 y0 (xs (i + 1)) hok hmb) (cwV 1 hts (lw_V q228 q229 q230 q19 q231) rfl rfl rfl (by decide +kernel) ⟨Nat.le_of_ble_eq_true rfl, Nat.le_of_ble_eq_true rfl⟩) rfl hl.1 rfl (Nat.le_of_ble_eq_true rfl) ⟨Nat.le_refl _, Nat.le_refl _⟩ dL_law_219 (fun r2 u2 H locs hw2 hP hD hS => ?_)
        have k1 := hw2
        refine lv_icmp_eq (tgt := 394) hx hb dL_law_222 (by decide) (fun _ => ?_) (fun cq => absurd (g1.trans k1.symm) cq)
        exact next P A B x0 y0 T1 fr1 to1 pb1 re1 bY1 ln1 hok hsf1 hmb _ _ hP hD hS _ (lv_sub hl [0, 1, 2, 3] rfl)
      · refine lv_tableIn (off := 185) (tgt := 227) hx hb dL_law_42 (by decide) (by decide) rfl (by decide) ?_
        refine lv_aload_n hx hb dL_law_227 rfl (lv_at hl 1 rfl) ?_
        refine cl_x (w1 := wF d ad J P A B T fr to pb re bY ln) (w2 := wM dZ dN am J P (up_ A 12 x0) (up_ B 12 y0)) ⟨hx, hb, hml, hown, hts⟩ hKx hP hD hA hS rfl rfl (mX1_frame l D d ad _ J P A B T fr to pb re bY ln  hok hsf) (cwV 0 hts (lw_V q126 q127 q128 q18 q129) rfl rfl rfl (by decide +kernel) ⟨Nat.le_of_ble_eq_true rfl, Nat.le_of_ble_eq_true rfl⟩) rfl hl.1 rfl (Nat.le_of_ble_eq_true rfl) ⟨Nat.le_refl _, Nat.le_refl _⟩ dL_law_228 (fun r1 u1 H locs hw1 hP hD hS => ?_)
        obtain ⟨T1, fr1, to1, pb1, re1, bY1, ln1⟩ := u1
        obtain ⟨g1, hsf1⟩ := hw1
        have hsf1 : sf_ T1 fr1 to1 pb1 re1 bY1 ln1 := hsf1
        have hP : va_P D vwCl (wF d ad J P A B T1 fr1 to1 pb1 re1 bY1 ln1 ++ wM dZ dN am J P (up_ A 12 x0) (up_ B 12 y0)) H := hP
        have hD : va_D Ar (wF d ad J P A B T1 fr1 to1 pb1 re1 bY1 ln1 ++ wM dZ dN am J P (up_ A 12 x0) (up_ B 12 y0)) := hD
        refine lv_aload_n hx hb dL_law_231 rfl (lv_at hl 2 rfl) ?_
        refine cl_y (w1 := wF d ad J P A B T1 fr1 to1 pb1 re1 bY1 ln1) (w2 := wM dZ dN am J P (up_ A 12 x0) (up_ B 12 y0)) ⟨hx, hb, hml, hown, hts⟩ hKm hP hD hA hS rfl rfl (mX2_frame l D dZ dN am _ J P A B x0 y0  hok hmb) (cwV 0 hts (lw_V q240 q241 q242 q19 q243) rfl rfl rfl (by decide +kernel) ⟨Nat.le_of_ble_eq_true rfl, Nat.le_of_ble_eq_true rfl⟩) rfl hl.1 rfl (Nat.le_of_ble_eq_true rfl) ⟨Nat.le_refl _, Nat.le_refl _⟩ dL_law_232 (fun r2 u2 H locs hw2 hP hD hS => ?_)
        have k1 := hw2
        refine lv_icmp_eq (tgt := 394) hx hb dL_law_235 (by decide) (fun _ => ?_) (fun cq => absurd (g1.trans k1.symm) cq)
        exact next P A B x0 y0 T1 fr1 to1 pb1 re1 bY1 ln1 hok hsf1 hmb _ _ hP hD hS _ (lv_sub hl [0, 1, 2, 3] rfl)
      · refine lv_tableIn (off := 198) (tgt := 240) hx hb dL_law_42 (by decide) (by decide) rfl (by decide) ?_
        refine lv_aload_n hx hb dL_law_240 rfl (lv_at hl 1 rfl) ?_
        refine cl_x (w1 := wF d ad J P A B T fr to pb re bY ln) (w2 := wM dZ dN am J P (up_ A 12 x0) (up_ B 12 y0)) ⟨hx, hb, hml, hown, hts⟩ hKx hP hD hA hS rfl rfl (mX1_rigid l D d ad _ J P A B T fr to pb re bY ln  hok hsf) (cwV 0 hts (lw_V q130 q131 q132 q18 q133) rfl rfl rfl (by decide +kernel) ⟨Nat.le_of_ble_eq_true rfl, Nat.le_of_ble_eq_true rfl⟩) rfl hl.1 rfl (Nat.le_of_ble_eq_true rfl) ⟨Nat.le_refl _, Nat.le_refl _⟩ dL_law_241 (fun r1 u1 H locs hw1 hP hD hS => ?_)
        obtain ⟨T1, fr1, to1, pb1, re1, bY1, ln1⟩ := u1
        obtain ⟨g1, hsf1⟩ := hw1
        have hsf1 : sf_ T1 fr1 to1 pb1 re1 bY1 ln1 := hsf1
        have hP : va_P D vwCl (wF d ad J P A B T1 fr1 to1 pb1 re1 bY1 ln1 ++ wM dZ dN am J P (up_ A 12 x0) (up_ B 12 y0)) H := hP
        have hD : va_D Ar (wF d ad J P A B T1 fr1 to1 pb1 re1 bY1 ln1 ++ wM dZ dN am J P (up_ A 12 x0) (up_ B 12 y0)) := hD
        refine lv_aload_n hx hb dL_law_244 rfl (lv_at hl 2 rfl) ?_
        refine cl_y (w1 := wF d ad J P A B T1 fr1 to1 pb1 re1 bY1 ln1) (w2 := wM dZ dN am J P (up_ A 12 x0) (up_ B 12 y0)) ⟨hx, hb, hml, hown, hts⟩ hKm hP hD hA hS rfl rfl (mX2_rigid l D dZ dN am _ J P A B x0 y0  hok hmb) (cwV 0 hts (lw_V q244 q245 q246 q19 q247) rfl rfl rfl (by decide +kernel) ⟨Nat.le_of_ble_eq_true rfl, Nat.le_of_ble_eq_true rfl⟩) rfl hl.1 rfl (Nat.le_of_ble_eq_true rfl) ⟨Nat.le_refl _, Nat.le_refl _⟩ dL_law_245 (fun r2 u2 H locs hw2 hP hD hS => ?_)
        have k1 := hw2
        refine lv_icmp_eq (tgt := 394) hx hb dL_law_248 (by decide) (fun _ => ?_) (fun cq => absurd (g1.trans k1.symm) cq)
        exact next P A B x0 y0 T1 fr1 to1 pb1 re1 bY1 ln1 hok hsf1 hmb _ _ hP hD hS _ (lv_sub hl [0, 1, 2, 3] rfl)
      · refine lv_tableIn (off := 211) (tgt := 253) hx hb dL_law_42 (by decide) (by decide) rfl (by decide) ?_
        refine lv_aload_n hx hb dL_law_253 rfl (lv_at hl 1 rfl) ?_
        refine cl_x (w1 := wF d ad J P A B T fr to pb re bY ln) (w2 := wM dZ dN am J P (up_ A 12 x0) (up_ B 12 y0)) ⟨hx, hb, hml, hown, hts⟩ hKx hP hD hA hS rfl rfl (mX1_freedom l D d ad _ J P A B T fr to pb re bY ln  hok hsf) (cwV 0 hts (lw_V q138 q135 q136 q18 q137) rfl rfl rfl (by decide +kernel) ⟨Nat.le_of_ble_eq_true rfl, Nat.le_of_ble_eq_true rfl⟩) rfl hl.1 rfl (Nat.le_of_ble_eq_true rfl) ⟨Nat.le_refl _, Nat.le_refl _⟩ dL_law_254 (fun r1 u1 H locs hw1 hP hD hS => ?_)
        obtain ⟨T1, fr1, to1, pb1, re1, bY1, ln1⟩ := u1
        obtain ⟨g1, hsf1⟩ := hw1
        have hsf1 : sf_ T1 fr1 to1 pb1 re1 bY1 ln1 := hsf1
        have hP : va_P D vwCl (wF d ad J P A B T1 fr1 to1 pb1 re1 bY1 ln1 ++ wM dZ dN am J P (up_ A 12 x0) (up_ B 12 y0)) H := hP
        have hD : va_D Ar (wF d ad J P A B T1 fr1 to1 pb1 re1 bY1 ln1 ++ wM dZ dN am J P (up_ A 12 x0) (up_ B 12 y0)) := hD
        refine lv_aload_n hx hb dL_law_257 rfl (lv_at hl 2 rfl) ?_
        refine cl_y (w1 := wF d ad J P A B T1 fr1 to1 pb1 re1 bY1 ln1) (w2 := wM dZ dN am J P (up_ A 12 x0) (up_ B 12 y0)) ⟨hx, hb, hml, hown, hts⟩ hKm hP hD hA hS rfl rfl (mX2_freedom l D dZ dN am _ J P A B x0 y0  hok hmb) (cwV 0 hts (lw_V q252 q249 q250 q19 q251) rfl rfl rfl (by decide +kernel) ⟨Nat.le_of_ble_eq_true rfl, Nat.le_of_ble_eq_true rfl⟩) rfl hl.1 rfl (Nat.le_of_ble_eq_true rfl) ⟨Nat.le_refl _, Nat.le_refl _⟩ dL_law_258 (fun r2 u2 H locs hw2 hP hD hS => ?_)
        have k1 := hw2
        refine lv_icmp_eq (tgt := 394) hx hb dL_law_261 (by decide) (fun _ => ?_) (fun cq => absurd (g1.trans k1.symm) cq)
        exact next P A B x0 y0 T1 fr1 to1 pb1 re1 bY1 ln1 hok hsf1 hmb _ _ hP hD hS _ (lv_sub hl [0, 1, 2, 3] rfl)
      · refine lv_tableIn (off := 224) (tgt := 266) hx hb dL_law_42 (by decide) (by decide) rfl (by decide) ?_
        refine lv_aload_n hx hb dL_law_266 rfl (lv_at hl 1 rfl) ?_
        refine lv_aload_n hx hb dL_law_267 rfl (lv_at hl 0 rfl) ?_
        refine lv_iload_n hx hb dL_law_268 rfl (lv_at hl 3 rfl) ?_
        refine lv_iconst (v := nI 1) hx hb dL_law_269 (by decide) ?_
        refine nr_add hx hb dL_law_270 ?_
        refine nr_sld hx hb hX hbl hbA hS (by omega) (by omega) dL_law_271 ?_
        refine lv_aload_n hx hb dL_law_272 rfl (lv_at hl 0 rfl) ?_
        refine lv_iload_n hx hb dL_law_273 rfl (lv_at hl 3 rfl) ?_
        refine lv_iconst (v := nI 2) hx hb dL_law_274 (by decide) ?_
        refine nr_add hx hb dL_law_275 ?_
        refine nr_sld hx hb hX hbl hbA hS (by omega) (by omega) dL_law_276 ?_
        refine cl_x (w1 := wF d ad J P A B T fr to pb re bY ln) (w2 := wM dZ dN am J P (up_ A 12 x0) (up_ B 12 y0)) ⟨hx, hb, hml, hown, hts⟩ hKx hP hD hA hS rfl rfl (mX1_held l D d ad _ J P A B T fr to pb re bY ln (xs (i + 1)) (xs (i + 2)) hok hsf) (cwV 2 hts (lw_V q139 q140 q141 q18 q142) rfl rfl rfl (by decide +kernel) ⟨Nat.le_of_ble_eq_true rfl, Nat.le_of_ble_eq_true rfl⟩) rfl hl.1 rfl (Nat.le_of_ble_eq_true rfl) ⟨Nat.le_refl _, Nat.le_refl _⟩ dL_law_277 (fun r1 u1 H locs hw1 hP hD hS => ?_)
        obtain ⟨T1, fr1, to1, pb1, re1, bY1, ln1⟩ := u1
        obtain ⟨g1, hsf1⟩ := hw1
        have hsf1 : sf_ T1 fr1 to1 pb1 re1 bY1 ln1 := hsf1
        have hP : va_P D vwCl (wF d ad J P A B T1 fr1 to1 pb1 re1 bY1 ln1 ++ wM dZ dN am J P (up_ A 12 x0) (up_ B 12 y0)) H := hP
        have hD : va_D Ar (wF d ad J P A B T1 fr1 to1 pb1 re1 bY1 ln1 ++ wM dZ dN am J P (up_ A 12 x0) (up_ B 12 y0)) := hD
        refine lv_aload_n hx hb dL_law_280 rfl (lv_at hl 2 rfl) ?_
        refine lv_aload_n hx hb dL_law_281 rfl (lv_at hl 0 rfl) ?_
        refine lv_iload_n hx hb dL_law_282 rfl (lv_at hl 3 rfl) ?_
        refine lv_iconst (v := nI 1) hx hb dL_law_283 (by decide) ?_
        refine nr_add hx hb dL_law_284 ?_
        refine nr_sld hx hb hX hbl hbA hS (by omega) (by omega) dL_law_285 ?_
        refine lv_aload_n hx hb dL_law_286 rfl (lv_at hl 0 rfl) ?_
        refine lv_iload_n hx hb dL_law_287 rfl (lv_at hl 3 rfl) ?_
        refine lv_iconst (v := nI 2) hx hb dL_law_288 (by decide) ?_
        refine nr_add hx hb dL_law_289 ?_
        refine nr_sld hx hb hX hbl hbA hS (by omega) (by omega) dL_law_290 ?_
        refine cl_y (w1 := wF d ad J P A B T1 fr1 to1 pb1 re1 bY1 ln1) (w2 := wM dZ dN am J P (up_ A 12 x0) (up_ B 12 y0)) ⟨hx, hb, hml, hown, hts⟩ hKm hP hD hA hS rfl rfl (mX2_held l D dZ dN am _ J P A B x0 y0 (xs (i + 1)) (xs (i + 2)) hok hmb) (cwV 2 hts (lw_V q253 q254 q255 q19 q256) rfl rfl rfl (by decide +kernel) ⟨Nat.le_of_ble_eq_true rfl, Nat.le_of_ble_eq_true rfl⟩) rfl hl.1 rfl (Nat.le_of_ble_eq_true rfl) ⟨Nat.le_refl _, Nat.le_refl _⟩ dL_law_291 (fun r2 u2 H locs hw2 hP hD hS => ?_)
        obtain ⟨x1, y1⟩ := u2
        obtain ⟨k1, hmb1⟩ := hw2
        refine lv_icmp_eq (tgt := 394) hx hb dL_law_294 (by decide) (fun _ => ?_) (fun cq => absurd (g1.trans k1.symm) cq)
        exact next P A B x1 y1 T1 fr1 to1 pb1 re1 bY1 ln1 hok hsf1 hmb1 _ _ hP hD hS _ (lv_sub hl [0, 1, 2, 3] rfl)
      · refine lv_tableIn (off := 257) (tgt := 299) hx hb dL_law_42 (by decide) (by decide) rfl (by decide) ?_
        refine lv_aload_n hx hb dL_law_299 rfl (lv_at hl 1 rfl) ?_
        refine lv_aload_n hx hb dL_law_300 rfl (lv_at hl 0 rfl) ?_
        refine lv_iload_n hx hb dL_law_301 rfl (lv_at hl 3 rfl) ?_
        refine lv_iconst (v := nI 1) hx hb dL_law_302 (by decide) ?_
        refine nr_add hx hb dL_law_303 ?_
        refine nr_sld hx hb hX hbl hbA hS (by omega) (by omega) dL_law_304 ?_
        refine cl_x (w1 := wF d ad J P A B T fr to pb re bY ln) (w2 := wM dZ dN am J P (up_ A 12 x0) (up_ B 12 y0)) ⟨hx, hb, hml, hown, hts⟩ hKx hP hD hA hS rfl rfl (mX1_redundant l D d ad _ J P A B T fr to pb re bY ln (xs (i + 1)) hok hsf) (cwV 1 hts (lw_V q143 q144 q145 q18 q146) rfl rfl rfl (by decide +kernel) ⟨Nat.le_of_ble_eq_true rfl, Nat.le_of_ble_eq_true rfl⟩) rfl hl.1 rfl (Nat.le_of_ble_eq_true rfl) ⟨Nat.le_refl _, Nat.le_refl _⟩ dL_law_305 (fun r1 u1 H locs hw1 hP hD hS => ?_)
        obtain ⟨T1, fr1, to1, pb1, re1, bY1, ln1⟩ := u1
        obtain ⟨g1, hsf1⟩ := hw1
        have hsf1 : sf_ T1 fr1 to1 pb1 re1 bY1 ln1 := hsf1
        have hP : va_P D vwCl (wF d ad J P A B T1 fr1 to1 pb1 re1 bY1 ln1 ++ wM dZ dN am J P (up_ A 12 x0) (up_ B 12 y0)) H := hP
        have hD : va_D Ar (wF d ad J P A B T1 fr1 to1 pb1 re1 bY1 ln1 ++ wM dZ dN am J P (up_ A 12 x0) (up_ B 12 y0)) := hD
        refine lv_aload_n hx hb dL_law_308 rfl (lv_at hl 2 rfl) ?_
        refine lv_aload_n hx hb dL_law_309 rfl (lv_at hl 0 rfl) ?_
        refine lv_iload_n hx hb dL_law_310 rfl (lv_at hl 3 rfl) ?_
        refine lv_iconst (v := nI 1) hx hb dL_law_311 (by decide) ?_
        refine nr_add hx hb dL_law_312 ?_
        refine nr_sld hx hb hX hbl hbA hS (by omega) (by omega) dL_law_313 ?_
        refine cl_y (w1 := wF d ad J P A B T1 fr1 to1 pb1 re1 bY1 ln1) (w2 := wM dZ dN am J P (up_ A 12 x0) (up_ B 12 y0)) ⟨hx, hb, hml, hown, hts⟩ hKm hP hD hA hS rfl rfl (mX2_redundant l D dZ dN am _ J P A B x0 y0 (xs (i + 1)) hok hmb) (cwV 1 hts (lw_V q257 q258 q259 q19 q260) rfl rfl rfl (by decide +kernel) ⟨Nat.le_of_ble_eq_true rfl, Nat.le_of_ble_eq_true rfl⟩) rfl hl.1 rfl (Nat.le_of_ble_eq_true rfl) ⟨Nat.le_refl _, Nat.le_refl _⟩ dL_law_314 (fun r2 u2 H locs hw2 hP hD hS => ?_)
        have k1 := hw2
        refine lv_icmp_eq (tgt := 394) hx hb dL_law_317 (by decide) (fun _ => ?_) (fun cq => absurd (g1.trans k1.symm) cq)
        exact next P A B x0 y0 T1 fr1 to1 pb1 re1 bY1 ln1 hok hsf1 hmb _ _ hP hD hS _ (lv_sub hl [0, 1, 2, 3] rfl)
      · refine lv_tableIn (off := 280) (tgt := 322) hx hb dL_law_42 (by decide) (by decide) rfl (by decide) ?_
        refine lv_aload_n hx hb dL_law_322 rfl (lv_at hl 1 rfl) ?_
        refine lv_aload_n hx hb dL_law_323 rfl (lv_at hl 0 rfl) ?_
        refine lv_iload_n hx hb dL_law_324 rfl (lv_at hl 3 rfl) ?_
        refine lv_iconst (v := nI 1) hx hb dL_law_325 (by decide) ?_
        refine nr_add hx hb dL_law_326 ?_
        refine nr_sld hx hb hX hbl hbA hS (by omega) (by omega) dL_law_327 ?_
        refine cl_x (w1 := wF d ad J P A B T fr to pb re bY ln) (w2 := wM dZ dN am J P (up_ A 12 x0) (up_ B 12 y0)) ⟨hx, hb, hml, hown, hts⟩ hKx hP hD hA hS rfl rfl (mX1_ring l D d ad _ J P A B T fr to pb re bY ln (xs (i + 1)) hok hsf) (cwV 1 hts (lw_V q147 q148 q149 q18 q150) rfl rfl rfl (by decide +kernel) ⟨Nat.le_of_ble_eq_true rfl, Nat.le_of_ble_eq_true rfl⟩) rfl hl.1 rfl (Nat.le_of_ble_eq_true rfl) ⟨Nat.le_refl _, Nat.le_refl _⟩ dL_law_328 (fun r1 u1 H locs hw1 hP hD hS => ?_)
        obtain ⟨T1, fr1, to1, pb1, re1, bY1, ln1⟩ := u1
        obtain ⟨g1, hsf1⟩ := hw1
        have hsf1 : sf_ T1 fr1 to1 pb1 re1 bY1 ln1 := hsf1
        have hP : va_P D vwCl (wF d ad J P A B T1 fr1 to1 pb1 re1 bY1 ln1 ++ wM dZ dN am J P (up_ A 12 x0) (up_ B 12 y0)) H := hP
        have hD : va_D Ar (wF d ad J P A B T1 fr1 to1 pb1 re1 bY1 ln1 ++ wM dZ dN am J P (up_ A 12 x0) (up_ B 12 y0)) := hD
        refine lv_aload_n hx hb dL_law_331 rfl (lv_at hl 2 rfl) ?_
        refine lv_aload_n hx hb dL_law_332 rfl (lv_at hl 0 rfl) ?_
        refine lv_iload_n hx hb dL_law_333 rfl (lv_at hl 3 rfl) ?_
        refine lv_iconst (v := nI 1) hx hb dL_law_334 (by decide) ?_
        refine nr_add hx hb dL_law_335 ?_
        refine nr_sld hx hb hX hbl hbA hS (by omega) (by omega) dL_law_336 ?_
        refine cl_y (w1 := wF d ad J P A B T1 fr1 to1 pb1 re1 bY1 ln1) (w2 := wM dZ dN am J P (up_ A 12 x0) (up_ B 12 y0)) ⟨hx, hb, hml, hown, hts⟩ hKm hP hD hA hS rfl rfl (mX2_ring l D dZ dN am _ J P A B x0 y0 (xs (i + 1)) hok hmb) (cwV 1 hts (lw_V q261 q262 q263 q19 q264) rfl rfl rfl (by decide +kernel) ⟨Nat.le_of_ble_eq_true rfl, Nat.le_of_ble_eq_true rfl⟩) rfl hl.1 rfl (Nat.le_of_ble_eq_true rfl) ⟨Nat.le_refl _, Nat.le_refl _⟩ dL_law_337 (fun r2 u2 H locs hw2 hP hD hS => ?_)
        have k1 := hw2
        refine lv_icmp_eq (tgt := 394) hx hb dL_law_340 (by decide) (fun _ => ?_) (fun cq => absurd (g1.trans k1.symm) cq)
        exact next P A B x0 y0 T1 fr1 to1 pb1 re1 bY1 ln1 hok hsf1 hmb _ _ hP hD hS _ (lv_sub hl [0, 1, 2, 3] rfl)
      · refine lv_tableIn (off := 303) (tgt := 345) hx hb dL_law_42 (by decide) (by decide) rfl (by decide) ?_
        refine lv_aload_n hx hb dL_law_345 rfl (lv_at hl 1 rfl) ?_
        refine lv_aload_n hx hb dL_law_346 rfl (lv_at hl 0 rfl) ?_
        refine lv_iload_n hx hb dL_law_347 rfl (lv_at hl 3 rfl) ?_
        refine lv_iconst (v := nI 1) hx hb dL_law_348 (by decide) ?_
        refine nr_add hx hb dL_law_349 ?_
        refine nr_sld hx hb hX hbl hbA hS (by omega) (by omega) dL_law_350 ?_
        refine cl_x (w1 := wF d ad J P A B T fr to pb re bY ln) (w2 := wM dZ dN am J P (up_ A 12 x0) (up_ B 12 y0)) ⟨hx, hb, hml, hown, hts⟩ hKx hP hD hA hS rfl rfl (mX1_heldTo l D d ad _ J P A B T fr to pb re bY ln (xs (i + 1)) hok hsf) (cwV 1 hts (lw_V q152 q153 q154 q18 q155) rfl rfl rfl (by decide +kernel) ⟨Nat.le_of_ble_eq_true rfl, Nat.le_of_ble_eq_true rfl⟩) rfl hl.1 rfl (Nat.le_of_ble_eq_true rfl) ⟨Nat.le_refl _, Nat.le_refl _⟩ dL_law_351 (fun r1 u1 H locs hw1 hP hD hS => ?_)
        obtain ⟨T1, fr1, to1, pb1, re1, bY1, ln1⟩ := u1
        obtain ⟨g1, hsf1⟩ := hw1
        have hsf1 : sf_ T1 fr1 to1 pb1 re1 bY1 ln1 := hsf1
        have hP : va_P D vwCl (wF d ad J P A B T1 fr1 to1 pb1 re1 bY1 ln1 ++ wM dZ dN am J P (up_ A 12 x0) (up_ B 12 y0)) H := hP
        have hD : va_D Ar (wF d ad J P A B T1 fr1 to1 pb1 re1 bY1 ln1 ++ wM dZ dN am J P (up_ A 12 x0) (up_ B 12 y0)) := hD
        refine lv_aload_n hx hb dL_law_354 rfl (lv_at hl 2 rfl) ?_
        refine lv_aload_n hx hb dL_law_355 rfl (lv_at hl 0 rfl) ?_
        refine lv_iload_n hx hb dL_law_356 rfl (lv_at hl 3 rfl) ?_
        refine lv_iconst (v := nI 1) hx hb dL_law_357 (by decide) ?_
        refine nr_add hx hb dL_law_358 ?_
        refine nr_sld hx hb hX hbl hbA hS (by omega) (by omega) dL_law_359 ?_
        refine cl_y (w1 := wF d ad J P A B T1 fr1 to1 pb1 re1 bY1 ln1) (w2 := wM dZ dN am J P (up_ A 12 x0) (up_ B 12 y0)) ⟨hx, hb, hml, hown, hts⟩ hKm hP hD hA hS rfl rfl (mX2_heldTo l D dZ dN am _ J P A B x0 y0 (xs (i + 1)) hok hmb) (cwV 1 hts (lw_V q266 q267 q268 q19 q269) rfl rfl rfl (by decide +kernel) ⟨Nat.le_of_ble_eq_true rfl, Nat.le_of_ble_eq_true rfl⟩) rfl hl.1 rfl (Nat.le_of_ble_eq_true rfl) ⟨Nat.le_refl _, Nat.le_refl _⟩ dL_law_360 (fun r2 u2 H locs hw2 hP hD hS => ?_)
        obtain ⟨x1, y1⟩ := u2
        obtain ⟨k1, hmb1⟩ := hw2
        refine lv_icmp_eq (tgt := 394) hx hb dL_law_363 (by decide) (fun _ => ?_) (fun cq => absurd (g1.trans k1.symm) cq)
        exact next P A B x1 y1 T1 fr1 to1 pb1 re1 bY1 ln1 hok hsf1 hmb1 _ _ hP hD hS _ (lv_sub hl [0, 1, 2, 3] rfl)
      · refine lv_tableIn (off := 326) (tgt := 368) hx hb dL_law_42 (by decide) (by decide) rfl (by decide) ?_
        refine lv_aload_n hx hb dL_law_368 rfl (lv_at hl 1 rfl) ?_
        refine cl_x (w1 := wF d ad J P A B T fr to pb re bY ln) (w2 := wM dZ dN am J P (up_ A 12 x0) (up_ B 12 y0)) ⟨hx, hb, hml, hown, hts⟩ hKx hP hD hA hS rfl rfl (mX1_bodies l D d ad _ J P A B T fr to pb re bY ln  hok hsf) (cwV 0 hts (lw_V q157 q158 q159 q18 q160) rfl rfl rfl (by decide +kernel) ⟨Nat.le_of_ble_eq_true rfl, Nat.le_of_ble_eq_true rfl⟩) rfl hl.1 rfl (Nat.le_of_ble_eq_true rfl) ⟨Nat.le_refl _, Nat.le_refl _⟩ dL_law_369 (fun r1 u1 H locs hw1 hP hD hS => ?_)
        obtain ⟨T1, fr1, to1, pb1, re1, bY1, ln1⟩ := u1
        obtain ⟨g1, hsf1⟩ := hw1
        have hsf1 : sf_ T1 fr1 to1 pb1 re1 bY1 ln1 := hsf1
        have hP : va_P D vwCl (wF d ad J P A B T1 fr1 to1 pb1 re1 bY1 ln1 ++ wM dZ dN am J P (up_ A 12 x0) (up_ B 12 y0)) H := hP
        have hD : va_D Ar (wF d ad J P A B T1 fr1 to1 pb1 re1 bY1 ln1 ++ wM dZ dN am J P (up_ A 12 x0) (up_ B 12 y0)) := hD
        refine lv_aload_n hx hb dL_law_372 rfl (lv_at hl 2 rfl) ?_
        refine cl_y (w1 := wF d ad J P A B T1 fr1 to1 pb1 re1 bY1 ln1) (w2 := wM dZ dN am J P (up_ A 12 x0) (up_ B 12 y0)) ⟨hx, hb, hml, hown, hts⟩ hKm hP hD hA hS rfl rfl (mX2_bodies l D dZ dN am _ J P A B x0 y0  hok hmb) (cwV 0 hts (lw_V q271 q272 q273 q19 q274) rfl rfl rfl (by decide +kernel) ⟨Nat.le_of_ble_eq_true rfl, Nat.le_of_ble_eq_true rfl⟩) rfl hl.1 rfl (Nat.le_of_ble_eq_true rfl) ⟨Nat.le_refl _, Nat.le_refl _⟩ dL_law_373 (fun r2 u2 H locs hw2 hP hD hS => ?_)
        obtain ⟨x1, y1⟩ := u2
        obtain ⟨k1, hmb1⟩ := hw2
        refine lv_icmp_eq (tgt := 394) hx hb dL_law_376 (by decide) (fun _ => ?_) (fun cq => absurd (g1.trans k1.symm) cq)
        exact next P A B x1 y1 T1 fr1 to1 pb1 re1 bY1 ln1 hok hsf1 hmb1 _ _ hP hD hS _ (lv_sub hl [0, 1, 2, 3] rfl)
      · refine lv_tableIn (off := 339) (tgt := 381) hx hb dL_law_42 (by decide) (by decide) rfl (by decide) ?_
        refine lv_aload_n hx hb dL_law_381 rfl (lv_at hl 1 rfl) ?_
        refine cl_x (w1 := wF d ad J P A B T fr to pb re bY ln) (w2 := wM dZ dN am J P (up_ A 12 x0) (up_ B 12 y0)) ⟨hx, hb, hml, hown, hts⟩ hKx hP hD hA hS rfl rfl (mX1_doublyHeld l D d ad _ J P A B T fr to pb re bY ln  hok hsf) (cwV 0 hts (lw_V q165 q166 q167 q18 q168) rfl rfl rfl (by decide +kernel) ⟨Nat.le_of_ble_eq_true rfl, Nat.le_of_ble_eq_true rfl⟩) rfl hl.1 rfl (Nat.le_of_ble_eq_true rfl) ⟨Nat.le_refl _, Nat.le_refl _⟩ dL_law_382 (fun r1 u1 H locs hw1 hP hD hS => ?_)
        obtain ⟨T1, fr1, to1, pb1, re1, bY1, ln1⟩ := u1
        obtain ⟨g1, hsf1⟩ := hw1
        have hsf1 : sf_ T1 fr1 to1 pb1 re1 bY1 ln1 := hsf1
        have hP : va_P D vwCl (wF d ad J P A B T1 fr1 to1 pb1 re1 bY1 ln1 ++ wM dZ dN am J P (up_ A 12 x0) (up_ B 12 y0)) H := hP
        have hD : va_D Ar (wF d ad J P A B T1 fr1 to1 pb1 re1 bY1 ln1 ++ wM dZ dN am J P (up_ A 12 x0) (up_ B 12 y0)) := hD
        refine lv_aload_n hx hb dL_law_385 rfl (lv_at hl 2 rfl) ?_
        refine cl_y (w1 := wF d ad J P A B T1 fr1 to1 pb1 re1 bY1 ln1) (w2 := wM dZ dN am J P (up_ A 12 x0) (up_ B 12 y0)) ⟨hx, hb, hml, hown, hts⟩ hKm hP hD hA hS rfl rfl (mX2_doublyHeld l D dZ dN am _ J P A B x0 y0  hok hmb) (cwV 0 hts (lw_V q279 q280 q281 q19 q282) rfl rfl rfl (by decide +kernel) ⟨Nat.le_of_ble_eq_true rfl, Nat.le_of_ble_eq_true rfl⟩) rfl hl.1 rfl (Nat.le_of_ble_eq_true rfl) ⟨Nat.le_refl _, Nat.le_refl _⟩ dL_law_386 (fun r2 u2 H locs hw2 hP hD hS => ?_)
        have k1 := hw2
        refine lv_icmp_eq (tgt := 394) hx hb dL_law_389 (by decide) (fun _ => ?_) (fun cq => absurd (g1.trans k1.symm) cq)
        exact next P A B x0 y0 T1 fr1 to1 pb1 re1 bY1 ln1 hok hsf1 hmb _ _ hP hD hS _ (lv_sub hl [0, 1, 2, 3] rfl)
      · refine lv_tableOut (tgt := 394) hx hb dL_law_42 (Or.inr (by rw [nI_toInt (by omega)]; omega)) (by decide) ?_
        exact next P A B x0 y0 T fr to pb re bY ln hok hsf hmb _ _ hP hD hS _ (lv_sub hl [0, 1, 2, 3] rfl)
set_option maxHeartbeats 8000000 in
set_option maxRecDepth 100000 in
theorem whole_start {p : Program} {e : Env} {s : State} {m : MethodId} {below : List Frame} {meth : Method} {c : Code} (l : Launch) {b L : Nat} {xs : Nat → Int32} (hL : L ≤ 193) (C0 : lw_At p s m meth c b L xs) : W p l e room_1 s m #[Value.ref b] below meth c s.heap [] 0 0 (lw_Z below #[Value.ref b] s) (entryFrame m ([Value.ref b] : List Value).toArray 4) := by
  obtain ⟨hx, hb, hr, hml, hown, hts0, hX, hbl, hlocks, hgv⟩ := id C0
  have hts : ∀ w ∈ lw_all, w.before #[Value.ref b] s = true := fun w h => hts0 w (lw_all_tbl h)
  have hown : s.vm.findClass RX0 = some m.cls := hown
  have hA : ∀ q : Nat, s.heap.size ≤ q → (fun q : Nat => s.heap.size ≤ q) q := fun _ h => h
  have hbA : ¬ (fun q : Nat => s.heap.size ≤ q) b := Nat.not_le.mpr hbl
  obtain ⟨c0, iS0, hKn0⟩ := u_known (C := RX1) (T := TX1) (N := 11) (n := 11) hts0 (fun w h => lw_all_tbl (in_X1 w h)) (hts _ q21)
  obtain ⟨c1, iS1, hKn1⟩ := u_known (C := RX2) (T := TX2) (N := 4) (n := 4) hts0 (fun w h => lw_all_tbl (in_X2 w h)) (hts _ q175)
  obtain ⟨D, hKc⟩ : ∃ D : va_G, ∀ (k : Nat) (q : vw_C), vwCl[k]? = some q → u_Kn s q.1 q.2.1 q.2.2 (D.1 k) (D.2 k) := by
    refine ⟨(fun k => if k = 0 then c0 else c1, fun k => if k = 0 then iS0 else iS1), ?_⟩
    intro k q hq
    match k, hq with
    | 0, hq => cases hq; exact hKn0
    | 1, hq => cases hq; exact hKn1
    | k + 2, hq => simp [vwCl] at hq
  have hS : va_S (fun q : Nat => s.heap.size ≤ q) s.heap s.heap [] := va_S.rf
  have hK : va_K D vwCl [] s := ⟨hKc, fun k q h => by simp at h⟩
  have hP : va_P D vwCl [] s.heap := fun k q h => by simp at h
  have hD : va_D (fun q : Nat => s.heap.size ≤ q) [] := ⟨fun i j p q h => by simp at h, fun k q h => by simp at h⟩
  have hl := lv_entry ([.ref b]) (n := 4) (Nat.le_of_ble_eq_true rfl)
  rw [lg_entry_eq]
  generalize (lg_sl ([.ref b]) ++ List.replicate (4 - (lg_sl ([.ref b])).length) Slot.unset).toArray = ls at hl ⊢
  have hl : lv_has ls 4 [(0, .ref b)] := hl
  refine va_new (ci := 0) (fs := [.int 0, .int 0, .null, .null, .int 0, .null, .null, .null, .int 0, .null, .null]) (C := RX1) (T := TX1) (N := 11) hx hb hts in_X1 tyX1 tyX1_ok hown (hts _ q20) (hts _ q21) (hts _ q18) hK hP hD hS hA rfl (fun j hj => by rcases (show j = 0 ∨ j = 1 ∨ j = 2 ∨ j = 3 ∨ j = 4 ∨ j = 5 ∨ j = 6 ∨ j = 7 ∨ j = 8 ∨ j = 9 ∨ j = 10 by omega) with rfl | rfl | rfl | rfl | rfl | rfl | rfl | rfl | rfl | rfl | rfl <;> rfl) (Nat.le_of_ble_eq_true rfl) (Nat.le_of_ble_eq_true rfl) dL_law_0 (fun h1 H hP hD hS => ?_)
  have hP : va_P D vwCl [(h1, .inr (0, [.int 0, .int 0, .null, .null, .int 0, .null, .null, .null, .int 0, .null, .null]))] H := hP
  have hD : va_D (fun q : Nat => s.heap.size ≤ q) [(h1, .inr (0, [.int 0, .int 0, .null, .null, .int 0, .null, .null, .null, .int 0, .null, .null]))] := hD
  refine lv_dup hx hb dL_law_3 rfl ?_
  refine lv_aload_n hx hb dL_law_4 rfl (lv_at hl 0 rfl) ?_
  refine lv_iconst (v := nI 0) hx hb dL_law_5 (by decide) ?_
  refine va_calli (va_runS (As := [.ref b, .int (nI 0)]) (rest := [.ref h1, .ref h1]) ⟨hx, hb, hml, hown, hts⟩ (mX0_cell l b L H.size xs hL) (va_cwS 2 hts (lw_S q171 q172 q17 q173) rfl rfl rfl (by decide +kernel) ⟨Nat.le_of_ble_eq_true rfl, Nat.le_of_ble_eq_true rfl⟩) ⟨fun a U g mk q => ⟨q.1, q.2.1, q.2.2.1, q.2.2.2.moved (U := U.calling g mk a) (Vm.Alike.refl U.vm)⟩, fun U hU hW => ⟨rfl, by rw [hU], Nat.lt_of_lt_of_le hbl hS.1, by rw [hU]; exact (hX.kept (hS.2.1 b hbl hbA)).moved hW.alike⟩⟩ rfl rfl hl.1 rfl (lv_room (Nat.le_of_ble_eq_true rfl)) dL_law_6 ⟨Nat.le_of_ble_eq_true rfl, Nat.le_of_ble_eq_true rfl⟩) hS (fun q _ h => Nat.le_trans hS.1 h) (fun q h => Nat.le_trans hS.1 h) (fun r1 u1 t H1 locs ht hvm hw1 hB hz1 hk1 hS1 => ?_)
  have hP : va_P D vwCl [(h1, .inr (0, [.int 0, .int 0, .null, .null, .int 0, .null, .null, .null, .int 0, .null, .null]))] H1 := hP.kept (fun k x hx => hk1 x.1 ((hP k x hx).lt) (Nat.not_le.mpr ((hP k x hx).lt)))
  generalize H1 = H at hP hS1
  have hS := hS1
  refine va_callv (va_runI (As := [.int r1]) (rest := [.ref h1]) ⟨hx, hb, hml, hown, hts⟩ (mX1_init l D h1 H.size r1) (cwI 1 hts (lw_meth q24) rfl rfl rfl (hts _ q18) (hts _ q22) (hts _ q23) rfl (by decide +kernel) ⟨Nat.le_of_ble_eq_true rfl, Nat.le_of_ble_eq_true rfl⟩) ⟨pw_blind, fun U hU hW => ⟨rfl, by rw [hU], by rw [hU]; exact hP, va_K.moved hW.alike hK, hD.weaken (fun _ _ _ _ => trivial)⟩⟩ rfl rfl hl.1 rfl (lv_room (Nat.le_of_ble_eq_true rfl)) dL_law_9 ⟨Nat.le_of_ble_eq_true rfl, Nat.le_of_ble_eq_true rfl⟩) hS (fun q _ h => cl_A hD hS hA q h) (cl_A hD hS hA) (fun u t H1 locs ht hvm hw hB hz1 hk1 hS1 => ?_)
  obtain ⟨d, ad⟩ := u
  obtain ⟨hP1, hK1, hD1⟩ := hB
  rw [ht] at hP1
  have hw : ad 0 = h1 := hw
  subst hw
  have hKx : va_K D vwCl [(d, .byte)] s := va_K.moved hvm.symm hK1
  have hD : va_D (fun q : Nat => s.heap.size ≤ q) (wF d ad (jc_ r1) 0 z_ z_ 0 z_ z_ z_ 0 z_ z_) := hD1.weaken (fun _ _ _ h => cl_A hD hS hA _ h)
  have hP : va_P D vwCl (wF d ad (jc_ r1) 0 z_ z_ 0 z_ z_ z_ 0 z_ z_) H1 := hP1
  generalize H1 = H at hP hS1
  have hS := hS1
  refine lv_astore_n (lv' := [(1, .ref (ad 0)), (0, .ref b)]) hx hb dL_law_12 rfl hl (by decide) rfl (fun ls hl => ?_)
  refine va_new (ci := 1) (fs := [.int 0, .null, .null, .null]) (C := RX2) (T := TX2) (N := 4) hx hb hts in_X2 tyX2 tyX2_ok hown (hts _ q174) (hts _ q175) (hts _ q19) hK hP hD hS hA rfl (fun j hj => by rcases (show j = 0 ∨ j = 1 ∨ j = 2 ∨ j = 3 by omega) with rfl | rfl | rfl | rfl <;> rfl) (Nat.le_of_ble_eq_true rfl) (Nat.le_of_ble_eq_true rfl) dL_law_13 (fun h2 H hP hD hS => ?_)
  have hP : va_P D vwCl (wF d ad (jc_ r1) 0 z_ z_ 0 z_ z_ z_ 0 z_ z_ ++ [(h2, .inr (1, [.int 0, .null, .null, .null]))]) H := hP
  have hD : va_D (fun q : Nat => s.heap.size ≤ q) (wF d ad (jc_ r1) 0 z_ z_ 0 z_ z_ z_ 0 z_ z_ ++ [(h2, .inr (1, [.int 0, .null, .null, .null]))]) := hD
  refine lv_dup hx hb dL_law_16 rfl ?_
  refine lv_aload_n hx hb dL_law_17 rfl (lv_at hl 1 rfl) ?_
  refine lv_iconst (v := nI 0) hx hb dL_law_18 (by decide) ?_
  refine va_calli (va_runS (As := [.ref b, .int (nI 0)]) (rest := [.ref h2, .ref h2]) ⟨hx, hb, hml, hown, hts⟩ (mX0_cell l b L H.size xs hL) (va_cwS 2 hts (lw_S q171 q172 q17 q173) rfl rfl rfl (by decide +kernel) ⟨Nat.le_of_ble_eq_true rfl, Nat.le_of_ble_eq_true rfl⟩) ⟨fun a U g mk q => ⟨q.1, q.2.1, q.2.2.1, q.2.2.2.moved (U := U.calling g mk a) (Vm.Alike.refl U.vm)⟩, fun U hU hW => ⟨rfl, by rw [hU], Nat.lt_of_lt_of_le hbl hS.1, by rw [hU]; exact (hX.kept (hS.2.1 b hbl hbA)).moved hW.alike⟩⟩ rfl rfl hl.1 rfl (lv_room (Nat.le_of_ble_eq_true rfl)) dL_law_19 ⟨Nat.le_of_ble_eq_true rfl, Nat.le_of_ble_eq_true rfl⟩) hS (fun q _ h => Nat.le_trans hS.1 h) (fun q h => Nat.le_trans hS.1 h) (fun r2 u2 t H1 locs ht hvm hw2 hB hz1 hk1 hS1 => ?_)
  have hP : va_P D vwCl (wF d ad (jc_ r1) 0 z_ z_ 0 z_ z_ z_ 0 z_ z_ ++ [(h2, .inr (1, [.int 0, .null, .null, .null]))]) H1 := hP.kept (fun k x hx => hk1 x.1 ((hP k x hx).lt) (Nat.not_le.mpr ((hP k x hx).lt)))
  have hr12 : r2 = r1 := hw2.trans hw1.symm
  subst hr12
  generalize H1 = H at hP hS1
  have hS := hS1
  have hPc := tw_P2 hP
  have hPr := tw_P1 hP
  have hDc := tw_D2 hD
  have hDr := tw_D1 hD
  refine va_callv (va_runI (As := [.int r2]) (rest := [.ref h2]) ⟨hx, hb, hml, hown, hts⟩ (mX2_init l D h2 H.size r2) (cwI 1 hts (lw_meth q178) rfl rfl rfl (hts _ q19) (hts _ q176) (hts _ q177) rfl (by decide +kernel) ⟨Nat.le_of_ble_eq_true rfl, Nat.le_of_ble_eq_true rfl⟩) ⟨pw_blind, fun U hU hW => ⟨rfl, by rw [hU], by rw [hU]; exact hPc, va_K.moved hW.alike hK, hDc.weaken (fun _ _ _ _ => trivial)⟩⟩ rfl rfl hl.1 rfl (lv_room (Nat.le_of_ble_eq_true rfl)) dL_law_22 ⟨Nat.le_of_ble_eq_true rfl, Nat.le_of_ble_eq_true rfl⟩) hS (fun q _ h => cl_A hDc hS hA q h) (cl_A hDc hS hA) (fun u t H1 locs ht hvm hw hB hz1 hk1 hS1 => ?_)
  obtain ⟨dZ, dN, am⟩ := u
  obtain ⟨hP1, hK1, hD1⟩ := hB
  rw [ht] at hP1
  have hw : am 0 = h2 := hw
  subst hw
  have hKm : va_K D vwCl [(dZ, .boolean), (dN, .int)] s := va_K.moved hvm.symm hK1
  have hap : ∀ (j : Nat) (x : Nat × va_E), (wF d ad (jc_ r2) 0 z_ z_ 0 z_ z_ z_ 0 z_ z_)[j]? = some x → ¬ va_A [(am 0, .inr (1, [.int 0, .null, .null, .null]))] H.size x.1 := by
    intro j x hx h
    rcases h with ⟨k, e, h⟩ | h
    · exact tw_X hD hx h rfl
    · have := (hPr j x hx).lt
      omega
  have hPr1 : va_P D vwCl (wF d ad (jc_ r2) 0 z_ z_ 0 z_ z_ z_ 0 z_ z_) H1 := hPr.kept (fun k x hx => hk1 x.1 ((hPr k x hx).lt) (hap k x hx))
  have hzz : up_ z_ 12 0 = z_ := up_id rfl
  have hPn : va_P D vwCl (wF d ad (jc_ r2) 0 z_ z_ 0 z_ z_ z_ 0 z_ z_ ++ wM dZ dN am (jc_ r2) 0 (up_ z_ 12 0) (up_ z_ 12 0)) H1 := by
    rw [hzz]
    exact hPr1.app hP1
  have hDn : va_D (fun q : Nat => s.heap.size ≤ q) (wF d ad (jc_ r2) 0 z_ z_ 0 z_ z_ z_ 0 z_ z_ ++ wM dZ dN am (jc_ r2) 0 (up_ z_ 12 0) (up_ z_ 12 0)) := by
    rw [hzz]
    exact va_D.app hDr (hD1.weaken (fun _ _ _ h => cl_A hDc hS hA _ h)) (fun i j x y hi hj q => hap i x hi (by rw [q]; exact hD1.2 j y hj))
  refine lv_astore_n (lv' := [(2, .ref (am 0)), (1, .ref (ad 0)), (0, .ref b)]) hx hb dL_law_25 rfl hl (by decide) rfl (fun ls hl => ?_)
  refine lv_iconst (v := nI 1) hx hb dL_law_26 (by decide) ?_
  refine lv_istore_n (lv' := [(3, .int (nI 1)), (2, .ref (am 0)), (1, .ref (ad 0)), (0, .ref b)]) hx hb dL_law_27 rfl hl (by decide) rfl (fun ls hl => ?_)
  refine W.widen (k := 600000) (n := 7290000) (Nat.le_of_ble_eq_true rfl) (Nat.le_of_ble_eq_true rfl) ?_
  have hj := jc_in r2
  exact law_loop hL C0 D d dZ dN ad am (jc_ r2) (fun q : Nat => s.heap.size ≤ q) hA (fun _ h => h) hKx hKm (L + 3) 1 0 z_ z_ 0 0 0 z_ z_ z_ 0 z_ z_ (by omega) (by omega) ⟨hj.1, hj.2, by decide, fun i _ h => by simp at h⟩ ⟨by decide, fun _ _ => (by decide : (0 : Nat) < 6), fun _ _ => (by decide : (0 : Nat) < 6), fun _ _ => (by decide : (0 : Nat) ≤ 2), by decide, fun _ _ => (by decide : (0 : Nat) < 12), fun _ _ => (by decide : (0 : Nat) < 6)⟩ (by intro k hk; rw [hzz]; exact ⟨(by decide : (0 : Nat) < 32), (by decide : (0 : Nat) < 32)⟩) _ _ hPn hDn hS1 _ (lv_sub hl [3, 2, 1, 0] rfl)
end
section
set_option maxHeartbeats 4000000 in
theorem lw_walk (l : Launch) (b : Addr) (xs : List Int32) : MetFree l x (headSpec (Jvm.Cond.code x code maxLocals ret :: tables_1) room_1) (lw_P b xs) (fun _ _ _ _ _ => True) lw_Q := by
  refine MetFree.of_bodyS (code := code) (maxLocals := maxLocals) (ret := ret) (by decide) ?_ ?_
  · intro args s m h hn
    obtain ⟨meth, c, h1, h2, h3, h4, h5, h6, -, -⟩ := Cond.code_spec hn (atoms_spec (ws := Jvm.Cond.code x code maxLocals ret :: tables_1) h _ List.mem_cons_self)
    exact ⟨meth, c, h1, h2, h3, h4, h5, h6⟩
  · intro p e s m args below meth c s₁ B hml0 hP _
    obtain ⟨rfl, hx, hbd, hgv⟩ := hP
    obtain ⟨scr, harrAt, hlist, hof, hsmall⟩ := hx
    obtain ⟨hcb, hkn, -, -⟩ := State.arrayAt?_spec harrAt
    have hown : s.vm.findClass R_law = some m.cls := findClass_of_methodNamed B.named
    have hts0 : ∀ c ∈ (Jvm.Cond.code x code maxLocals ret :: tables_1), c.before #[Value.ref b] s = true := atoms_spec (ws := Jvm.Cond.code x code maxLocals ret :: tables_1) B.pre
    have hts : ∀ w ∈ lw_tbl, w.before #[Value.ref b] s = true := k2_hts_sels lw_privs (fun w hw => hts0 w (List.mem_cons_of_mem _ hw)) lw_privs_ok
    have hml : c.maxLocals = 4 := B.maxLocals_eq (hts0 _ List.mem_cons_self)
    have X₀ : Stand p l e room_1 s m #[Value.ref b] below meth c s₁ [] 0 0 := Stand.of_body B
    have hh0 : s₁.heap = s.heap := by rw [B.state]; rfl
    have hsz : scr.slots.size = xs.length := by rw [← Array.length_toList, hlist, List.length_map]
    have hval : ∀ j : Nat, j < xs.length → scr.slots[j]? = some (.int (xs.getD j 0)) := fun j hj => by
      rw [← Array.getElem?_toList, hlist]
      simp [hj]
    have hbl : b < s.heap.size := (Array.getElem?_eq_some_iff.mp hcb).1
    have hX : va_X b xs.length (fun j => xs.getD j 0) s s.heap := ⟨scr, hcb, hof, hkn, hsz, hval⟩
    have K : W p l e room_1 s m #[Value.ref b] below meth c s₁.heap [] 0 0 (lw_Z below #[Value.ref b] s) (entryFrame m ([Value.ref b] : List Value).toArray 4) := by
      rw [hh0]
      exact whole_start l hbd ⟨B.exec, B.bytes, B.returns, hml, hown, hts, hX, hbl, B.notSynchronized, hgv⟩
    obtain ⟨t, a1, o, b1, b2, b3⟩ := K s₁ rfl X₀
    exact ⟨t, o, a1, b1, b2, b3⟩
theorem lw_pre_spec {args : Array Value} {s : State} (h : (Jvm.Cond.and given_1 narrow_1).before args s = true) (hr : rest_1_c.before args s = true) : ∃ (b : Addr) (xs : List Int32), lw_P b xs args s := by
  have hs := flat_of_before _ h
  have hq := flat_of_before _ hr
  have hc : (Cond.count 1).before args s = true := hs _ (by decide +kernel)
  have harr : (Cond.arrayOf (.arg 0) .int).before args s = true := hs _ (by decide +kernel)
  have hle : (Cond.le (.length (.arg 0)) (.int 193)).before args s = true := hs _ (by decide +kernel)
  have hlen : (Cond.isInt (.length (.arg 0))).before args s = true := hq _ (by decide +kernel)
  have hall : (Cond.all (.arg 0) (.isInt (.elem (.arg 0) (.index 0)))).before args s = true := hq _ (by decide +kernel)
  obtain ⟨b, xs, hb, hx⟩ := State.ints_of_pre rfl harr hlen hall
  have hsm : xs.length < 2 ^ 31 := hx.choose_spec.2.2.2
  have hev : (Term.length (.arg 0)).eval args s none [] s = some (.int xs.length.toInt32) := hx.length_eval hb
  have hv := Cond.le_ints hev (show (Term.int 193).eval args s none [] s = some (.int 193) from rfl)
  have hd : xs.length.toInt32 ≤ 193 := by
    simpa [Cond.before, Cond.holds, hv] using hle
  have hN : xs.length ≤ 193 := (Int32.ofNat_le_ofNat hsm (by decide)).mp (show Int32.ofNat xs.length ≤ Int32.ofNat 193 from hd)
  exact ⟨b, xs, Cond.one_arg hc (show args[0]? = some (.ref b) from hb), hx, hN, h⟩
theorem lw_comes (l : Launch) : Comes l x (Jvm.Cond.code x code maxLocals ret :: tables_1) room_1 (fun tb e args s => Calls_1 tb e args s ∧ rest_1 tb e args s ∧ Pre_1 tb e args s)
    (fun _ _ args s o t => lw_Q args s o t) := by
  intro p e ha hc hk s m args below hf hfit hheap happ hpre
  obtain ⟨b, xs, hP⟩ := lw_pre_spec hpre.2.2 hpre.2.1
  obtain ⟨k, o, h1, h2, h3, hQ⟩ := lw_walk l b xs p e ha hc hk s m args below hf ((Spec.applies_iff_loose hf).mp happ).1 hP trivial
  exact ⟨k, o, h1, h2, h3, hQ⟩
theorem lw_frame {s t : State} {o : Outcome} {args : Array Value} (h : Framed s o t [] 600000 7290000) :
    Framed s o t (fieldLocs frame_1_writes args s ++ arrayLocs frame_1_arrays args s ++ staticLocs frame_1_statics s) 600000 7290000 := h
theorem lw_limb (L : Cond) (hL : ∀ (args : Array Value) (s t : State), L.after args s (.returned (some (.int 1))) t = true) :
    ArmFor flags0 classFile x code maxLocals ret World_1 tables_1 room_1 Calls_1 rest_1 Pre_1
      (fun tb e a s o t => postC L tb e a s o t ∧ Framed s o t (fieldLocs frame_1_writes a s ++ arrayLocs frame_1_arrays a s ++ staticLocs frame_1_statics s) 600000 7290000) := by
  intro l _ _ _ p e ha hc hk s m args below hf hfit hheap happ hpre
  obtain ⟨k, o, h1, h2, h3, rfl, hF⟩ := lw_comes l p e ha hc hk s m args below hf hfit hheap happ hpre
  exact ⟨k, _, h1, h2, h3, hL args s _, lw_frame hF⟩
theorem i_vc : Claimed_1_1 ∧ Claimed_1_2 := ⟨lw_limb limb_1_1 (fun args s t => by simp [limb_1_1, Cond.after, Cond.holds, Cond.value]), lw_limb limb_1_2 (fun args s t => Cond.after_iff.mpr (by
  first | (rw [show limb_1_2 = Cond.eq .result (.int 1) from rfl, Cond.eq_ints (x := 1) (y := 1) rfl rfl]; simp; done) | (simp [limb_1_2, Cond.value, Term.eval]; done)))⟩
end
