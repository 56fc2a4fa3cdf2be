section
-- ===== PART A: goes FIRST, ahead of the names: the tables' words, and 'selects' of the private methods out of them =====
/-- a private method of a class that the tables say can be made, by its rows of tables_1 -/
def lw_okq (q : MethodName × Nat) : Prop := (q.1.cls ≠ "java/lang/invoke/MethodHandle" ∧ q.1.cls ≠ "java/lang/invoke/VarHandle") ∧ Cond.instantiable q.1.cls q.2 ∈ tables_1 ∧ Cond.privateMethod q.1 ∈ tables_1 ∧ Cond.instanceMethod q.1 ∈ tables_1
set_option maxRecDepth 100000
theorem lw_t1 {w : Cond} (h : w ∈ tables_1_1) : w ∈ tables_1 := List.mem_append_left _ h
theorem lw_t2 {w : Cond} (h : w ∈ tables_1_2) : w ∈ tables_1 := List.mem_append_right _ h
theorem lw_p0 : lw_okq (⟨"PrivateIntersect", "find", "(II)I"⟩, 9) := ⟨⟨by decide +kernel, by decide +kernel⟩, lw_t1 (List.mem_of_getElem? (i := 4) rfl), lw_t1 (List.mem_of_getElem? (i := 57) rfl), lw_t1 (List.mem_of_getElem? (i := 58) rfl)⟩
theorem lw_p1 : lw_okq (⟨"PrivateIntersect", "insert", "(II)I"⟩, 9) := ⟨⟨by decide +kernel, by decide +kernel⟩, lw_t1 (List.mem_of_getElem? (i := 4) rfl), lw_t1 (List.mem_of_getElem? (i := 61) rfl), lw_t1 (List.mem_of_getElem? (i := 62) rfl)⟩
theorem lw_p2 : lw_okq (⟨"PrivateIntersect", "compareTwo", "(II)V"⟩, 9) := ⟨⟨by decide +kernel, by decide +kernel⟩, lw_t1 (List.mem_of_getElem? (i := 4) rfl), lw_t1 (List.mem_of_getElem? (i := 89) rfl), lw_t1 (List.mem_of_getElem? (i := 90) rfl)⟩
theorem lw_p3 : lw_okq (⟨"PrivateIntersect", "send", "(I)V"⟩, 9) := ⟨⟨by decide +kernel, by decide +kernel⟩, lw_t1 (List.mem_of_getElem? (i := 4) rfl), lw_t1 (List.mem_of_getElem? (i := 93) rfl), lw_t1 (List.mem_of_getElem? (i := 94) rfl)⟩
theorem lw_p4 : lw_okq (⟨"PrivateIntersect", "next", "(I)I"⟩, 9) := ⟨⟨by decide +kernel, by decide +kernel⟩, lw_t1 (List.mem_of_getElem? (i := 4) rfl), lw_t1 (List.mem_of_getElem? (i := 100) rfl), lw_t1 (List.mem_of_getElem? (i := 101) rfl)⟩
theorem lw_p5 : lw_okq (⟨"PrivateIntersect", "raise", "(II)V"⟩, 9) := ⟨⟨by decide +kernel, by decide +kernel⟩, lw_t1 (List.mem_of_getElem? (i := 4) rfl), lw_t1 (List.mem_of_getElem? (i := 105) rfl), lw_t1 (List.mem_of_getElem? (i := 106) rfl)⟩
theorem lw_p6 : lw_okq (⟨"PrivateIntersect", "isSent", "(II)Z"⟩, 9) := ⟨⟨by decide +kernel, by decide +kernel⟩, lw_t1 (List.mem_of_getElem? (i := 4) rfl), lw_t1 (List.mem_of_getElem? (i := 109) rfl), lw_t1 (List.mem_of_getElem? (i := 110) rfl)⟩
theorem lw_p7 : lw_okq (⟨"PrivateIntersect", "hits", "(I)I"⟩, 9) := ⟨⟨by decide +kernel, by decide +kernel⟩, lw_t1 (List.mem_of_getElem? (i := 4) rfl), lw_t1 (List.mem_of_getElem? (i := 113) rfl), lw_t1 (List.mem_of_getElem? (i := 114) rfl)⟩
theorem lw_p8 : lw_okq (⟨"PrivateIntersect", "hitNumber", "(II)I"⟩, 9) := ⟨⟨by decide +kernel, by decide +kernel⟩, lw_t1 (List.mem_of_getElem? (i := 4) rfl), lw_t1 (List.mem_of_getElem? (i := 121) rfl), lw_t1 (List.mem_of_getElem? (i := 122) rfl)⟩
theorem lw_p9 : lw_okq (⟨"PrivateIntersect", "compareThree", "(I)V"⟩, 9) := ⟨⟨by decide +kernel, by decide +kernel⟩, lw_t1 (List.mem_of_getElem? (i := 4) rfl), lw_t1 (List.mem_of_getElem? (i := 133) rfl), lw_t1 (List.mem_of_getElem? (i := 134) rfl)⟩
theorem lw_p10 : lw_okq (⟨"PrivateIntersect", "pairCount", "(II)I"⟩, 9) := ⟨⟨by decide +kernel, by decide +kernel⟩, lw_t1 (List.mem_of_getElem? (i := 4) rfl), lw_t1 (List.mem_of_getElem? (i := 149) rfl), lw_t1 (List.mem_of_getElem? (i := 150) rfl)⟩
theorem lw_p11 : lw_okq (⟨"PrivateIntersectModel", "bad", "(I)Z"⟩, 3) := ⟨⟨by decide +kernel, by decide +kernel⟩, lw_t1 (List.mem_of_getElem? (i := 169) rfl), lw_t1 (List.mem_of_getElem? (i := 189) rfl), lw_t1 (List.mem_of_getElem? (i := 190) rfl)⟩
theorem lw_p12 : lw_okq (⟨"PrivateIntersectModel", "badItem", "(I)Z"⟩, 3) := ⟨⟨by decide +kernel, by decide +kernel⟩, lw_t1 (List.mem_of_getElem? (i := 169) rfl), lw_t1 (List.mem_of_getElem? (i := 197) rfl), lw_t1 (List.mem_of_getElem? (i := 198) rfl)⟩
theorem lw_p13 : lw_okq (⟨"PrivateIntersectModel", "size", "(I)I"⟩, 3) := ⟨⟨by decide +kernel, by decide +kernel⟩, lw_t1 (List.mem_of_getElem? (i := 169) rfl), lw_t1 (List.mem_of_getElem? (i := 201) rfl), lw_t1 (List.mem_of_getElem? (i := 202) rfl)⟩
theorem lw_p14 : lw_okq (⟨"PrivateIntersectModel", "among", "(IIII)Z"⟩, 3) := ⟨⟨by decide +kernel, by decide +kernel⟩, lw_t1 (List.mem_of_getElem? (i := 169) rfl), lw_t1 (List.mem_of_getElem? (i := 209) rfl), lw_t1 (List.mem_of_getElem? (i := 210) rfl)⟩
theorem lw_p15 : lw_okq (⟨"PrivateIntersectModel", "note", "(II)V"⟩, 3) := ⟨⟨by decide +kernel, by decide +kernel⟩, lw_t1 (List.mem_of_getElem? (i := 169) rfl), lw_t1 (List.mem_of_getElem? (i := 233) rfl), lw_t1 (List.mem_of_getElem? (i := 234) rfl)⟩
def lw_privs_1 : List (MethodName × Nat) := [(⟨"PrivateIntersect", "find", "(II)I"⟩, 9), (⟨"PrivateIntersect", "insert", "(II)I"⟩, 9), (⟨"PrivateIntersect", "compareTwo", "(II)V"⟩, 9), (⟨"PrivateIntersect", "send", "(I)V"⟩, 9), (⟨"PrivateIntersect", "next", "(I)I"⟩, 9), (⟨"PrivateIntersect", "raise", "(II)V"⟩, 9), (⟨"PrivateIntersect", "isSent", "(II)Z"⟩, 9), (⟨"PrivateIntersect", "hits", "(I)I"⟩, 9), (⟨"PrivateIntersect", "hitNumber", "(II)I"⟩, 9), (⟨"PrivateIntersect", "compareThree", "(I)V"⟩, 9), (⟨"PrivateIntersect", "pairCount", "(II)I"⟩, 9), (⟨"PrivateIntersectModel", "bad", "(I)Z"⟩, 3), (⟨"PrivateIntersectModel", "badItem", "(I)Z"⟩, 3), (⟨"PrivateIntersectModel", "size", "(I)I"⟩, 3), (⟨"PrivateIntersectModel", "among", "(IIII)Z"⟩, 3), (⟨"PrivateIntersectModel", "note", "(II)V"⟩, 3)]
theorem lw_r1 : ∀ q ∈ lw_privs_1, lw_okq q := List.forall_mem_cons.mpr ⟨lw_p0, List.forall_mem_cons.mpr ⟨lw_p1, List.forall_mem_cons.mpr ⟨lw_p2, List.forall_mem_cons.mpr ⟨lw_p3, List.forall_mem_cons.mpr ⟨lw_p4, List.forall_mem_cons.mpr ⟨lw_p5, List.forall_mem_cons.mpr ⟨lw_p6, List.forall_mem_cons.mpr ⟨lw_p7, List.forall_mem_cons.mpr ⟨lw_p8, List.forall_mem_cons.mpr ⟨lw_p9, List.forall_mem_cons.mpr ⟨lw_p10, List.forall_mem_cons.mpr ⟨lw_p11, List.forall_mem_cons.mpr ⟨lw_p12, List.forall_mem_cons.mpr ⟨lw_p13, List.forall_mem_cons.mpr ⟨lw_p14, List.forall_mem_cons.mpr ⟨lw_p15, fun _ h => absurd h List.not_mem_nil⟩⟩⟩⟩⟩⟩⟩⟩⟩⟩⟩⟩⟩⟩⟩⟩
theorem lw_p16 : lw_okq (⟨"PrivateIntersectModel", "shared", "(II)I"⟩, 3) := ⟨⟨by decide +kernel, by decide +kernel⟩, lw_t1 (List.mem_of_getElem? (i := 169) rfl), lw_t1 (List.mem_of_getElem? (i := 237) rfl), lw_t1 (List.mem_of_getElem? (i := 238) rfl)⟩
theorem lw_p17 : lw_okq (⟨"PrivateIntersectModel", "heldBy", "(I)I"⟩, 3) := ⟨⟨by decide +kernel, by decide +kernel⟩, lw_t1 (List.mem_of_getElem? (i := 169) rfl), lw_t2 (List.mem_of_getElem? (i := 13) rfl), lw_t2 (List.mem_of_getElem? (i := 14) rfl)⟩
theorem lw_p18 : lw_okq (⟨"PrivateIntersectModel", "holders", "(I)I"⟩, 3) := ⟨⟨by decide +kernel, by decide +kernel⟩, lw_t1 (List.mem_of_getElem? (i := 169) rfl), lw_t2 (List.mem_of_getElem? (i := 17) rfl), lw_t2 (List.mem_of_getElem? (i := 18) rfl)⟩
def lw_privs_2 : List (MethodName × Nat) := [(⟨"PrivateIntersectModel", "shared", "(II)I"⟩, 3), (⟨"PrivateIntersectModel", "heldBy", "(I)I"⟩, 3), (⟨"PrivateIntersectModel", "holders", "(I)I"⟩, 3)]
theorem lw_r2 : ∀ q ∈ lw_privs_2, lw_okq q := List.forall_mem_cons.mpr ⟨lw_p16, List.forall_mem_cons.mpr ⟨lw_p17, List.forall_mem_cons.mpr ⟨lw_p18, fun _ h => absurd h List.not_mem_nil⟩⟩⟩
def lw_privs : List (MethodName × Nat) := lw_privs_1 ++ (lw_privs_2)
def lw_tbl : List Cond := k2_sels lw_privs ++ tables_1
theorem lw_privs_ok : ∀ q ∈ lw_privs, lw_okq q := by
  show ∀ q ∈ lw_privs_1 ++ (lw_privs_2), lw_okq q
  exact List.forall_mem_append.mpr ⟨lw_r1, lw_r2⟩
-- ===== ONE list of words for every method: the tables' words that hold all through a run =====
def lw_all : List Cond := lw_tbl.filter goodWord
/-- a word of the tables by its place: claim/WORDS.tsv -/
theorem lw_w {w : Cond} (i : Nat) (h : lw_tbl[i]? = some w) (g : goodWord w = true) : w ∈ lw_all := List.mem_filter.mpr ⟨List.mem_of_getElem? h, g⟩
theorem lw_all_tbl {w : Cond} (h : w ∈ lw_all) : w ∈ lw_tbl := (List.mem_filter.mp h).1
theorem lw_self : GoodIn lw_all lw_all := fun w h => ⟨h, good_of_word (List.mem_filter.mp h).2⟩
/-- a class's field words, by their places -/
theorem lw_in (ws : List Cond) (ps : List Nat) (hp : ws = ps.filterMap (fun i => lw_tbl[i]?)) (hg : ws.all goodWord = true) : ∀ w ∈ ws, w ∈ lw_all := by
  intro w h
  have h1 := List.all_eq_true.mp hg w h
  rw [hp] at h
  obtain ⟨i, -, hi⟩ := List.mem_filterMap.mp h
  exact lw_w i hi h1
/-- the words of a contract for the method y with code b, L locals, answer r -/
abbrev ws_ (y : MethodName) (b : ByteArray) (L : Nat) (r : Option FieldType) : List Cond := Cond.code y b L r :: lw_all
theorem lw_meth {y : MethodName} {b : ByteArray} {L : Nat} {r : Option FieldType} (h : Cond.code y b L r ∈ lw_all) : GoodIn lw_all (ws_ y b L r) := by
  intro w hw
  rcases List.mem_cons.mp hw with e | e
  · rw [e]
    exact lw_self _ h
  · exact lw_self _ e
theorem lw_app {a c : List Cond} (ha : ∀ w ∈ a, w ∈ lw_all) (hc : GoodIn lw_all c) : GoodIn lw_all (a ++ c) := by
  intro w hw
  rcases List.mem_append.mp hw with e | e
  · exact lw_self w (ha w e)
  · exact hc w e
/-- what a call through an object asks: cwV n hts (lw_V ..) -/
theorem lw_V {own : String} {idx : Nat} {C : String} {y : MethodName} {b : ByteArray} {L : Nat} {r : Option FieldType} (h1 : Cond.methodLink own idx y ∈ lw_all) (h2 : Cond.instanceMethod y ∈ lw_all) (h3 : Cond.selects C y y ∈ lw_all) (h4 : Cond.initialized C ∈ lw_all) (h5 : Cond.code y b L r ∈ lw_all) : GoodIn lw_all (wsV own idx C y (ws_ y b L r)) := by
  refine lw_app ?_ (lw_meth h5)
  intro w hw
  simp only [List.mem_cons, List.not_mem_nil, or_false] at hw
  rcases hw with e | e | e | e
  · rw [e]; exact h1
  · rw [e]; exact h2
  · rw [e]; exact h3
  · rw [e]; exact h4
/-- what a static call asks: va_cwS n hts (lw_S ..) -/
theorem lw_S {own : String} {idx : Nat} {y : MethodName} {b : ByteArray} {L : Nat} {r : Option FieldType} (h1 : Cond.methodLink own idx y ∈ lw_all) (h2 : Cond.static y ∈ lw_all) (h3 : Cond.initialized y.cls ∈ lw_all) (h4 : Cond.code y b L r ∈ lw_all) : GoodIn lw_all (va_wsS own idx y (ws_ y b L r)) := by
  refine lw_app ?_ (lw_meth h4)
  intro w hw
  simp only [List.mem_cons, List.not_mem_nil, or_false] at hw
  rcases hw with e | e | e
  · rw [e]; exact h1
  · rw [e]; exact h2
  · rw [e]; exact h3
/-- the words of a contract for a method WITH HANDLERS (hh: its table) -/
abbrev wsW_ (y : MethodName) (b : ByteArray) (L : Nat) (r : Option FieldType) (hh : List (Nat × Nat × Nat × Nat)) : List Cond := Cond.codeWith y b L r hh :: lw_all
theorem lw_methW {y : MethodName} {b : ByteArray} {L : Nat} {r : Option FieldType} {hh : List (Nat × Nat × Nat × Nat)} (h : Cond.codeWith y b L r hh ∈ lw_all) : GoodIn lw_all (wsW_ y b L r hh) := by
  intro w hw
  rcases List.mem_cons.mp hw with e | e
  · rw [e]
    exact lw_self _ h
  · exact lw_self _ e
/-- any list of words by their places (lw_in), good -/
theorem lw_good {ws : List Cond} (h : ∀ w ∈ ws, w ∈ lw_all) : GoodIn lw_all ws := fun w hw => lw_self w (h w hw)
/-- what a call of a method with handlers asks: vx_cwVW n hts (lw_VW ..), vx_cwSW n hts (lw_SW ..) -/
theorem lw_VW {own : String} {idx : Nat} {C : String} {y : MethodName} {b : ByteArray} {L : Nat} {r : Option FieldType} {hh : List (Nat × Nat × Nat × Nat)} (h1 : Cond.methodLink own idx y ∈ lw_all) (h2 : Cond.instanceMethod y ∈ lw_all) (h3 : Cond.selects C y y ∈ lw_all) (h4 : Cond.initialized C ∈ lw_all) (h5 : Cond.codeWith y b L r hh ∈ lw_all) : GoodIn lw_all (wsV own idx C y (wsW_ y b L r hh)) := by
  refine lw_app ?_ (lw_methW h5)
  intro w hw
  simp only [List.mem_cons, List.not_mem_nil, or_false] at hw
  rcases hw with e | e | e | e
  · rw [e]; exact h1
  · rw [e]; exact h2
  · rw [e]; exact h3
  · rw [e]; exact h4
theorem lw_SW {own : String} {idx : Nat} {y : MethodName} {b : ByteArray} {L : Nat} {r : Option FieldType} {hh : List (Nat × Nat × Nat × Nat)} (h1 : Cond.methodLink own idx y ∈ lw_all) (h2 : Cond.static y ∈ lw_all) (h3 : Cond.initialized y.cls ∈ lw_all) (h4 : Cond.codeWith y b L r hh ∈ lw_all) : GoodIn lw_all (va_wsS own idx y (wsW_ y b L r hh)) := by
  refine lw_app ?_ (lw_methW h4)
  intro w hw
  simp only [List.mem_cons, List.not_mem_nil, or_false] at hw
  rcases hw with e | e | e
  · rw [e]; exact h1
  · rw [e]; exact h2
  · rw [e]; exact h3
/-- a word by its place in its run of the tables -/
theorem lw_at {r : List Cond} (hr : ∀ w ∈ r, w ∈ lw_tbl) {w : Cond} (i : Nat) (h : r[i]? = some w) : w ∈ lw_tbl := hr w (List.mem_of_getElem? h)
theorem lw_g {w : Cond} (h : w ∈ lw_tbl) (g : goodWord w = true) : w ∈ lw_all := List.mem_filter.mpr ⟨h, g⟩
theorem lw_ms : ∀ w ∈ k2_sels lw_privs, w ∈ lw_tbl := fun w h => show w ∈ k2_sels lw_privs ++ tables_1 from List.mem_append_left _ h
theorem lw_m1 : ∀ w ∈ tables_1_1, w ∈ lw_tbl := fun w h => show w ∈ k2_sels lw_privs ++ tables_1 from List.mem_append_right (k2_sels lw_privs) (show w ∈ tables_1 from List.mem_append_left _ h)
theorem lw_m2 : ∀ w ∈ tables_1_2, w ∈ lw_tbl := fun w h => show w ∈ k2_sels lw_privs ++ tables_1 from List.mem_append_right (k2_sels lw_privs) (show w ∈ tables_1 from List.mem_append_right _ h)
theorem qs0 : (Cond.selects "PrivateIntersect" ⟨"PrivateIntersect", "find", "(II)I"⟩ ⟨"PrivateIntersect", "find", "(II)I"⟩) ∈ lw_all := lw_g (lw_at lw_ms 0 rfl) rfl
theorem qs1 : (Cond.selects "PrivateIntersect" ⟨"PrivateIntersect", "insert", "(II)I"⟩ ⟨"PrivateIntersect", "insert", "(II)I"⟩) ∈ lw_all := lw_g (lw_at lw_ms 1 rfl) rfl
theorem qs2 : (Cond.selects "PrivateIntersect" ⟨"PrivateIntersect", "compareTwo", "(II)V"⟩ ⟨"PrivateIntersect", "compareTwo", "(II)V"⟩) ∈ lw_all := lw_g (lw_at lw_ms 2 rfl) rfl
theorem qs3 : (Cond.selects "PrivateIntersect" ⟨"PrivateIntersect", "send", "(I)V"⟩ ⟨"PrivateIntersect", "send", "(I)V"⟩) ∈ lw_all := lw_g (lw_at lw_ms 3 rfl) rfl
theorem qs4 : (Cond.selects "PrivateIntersect" ⟨"PrivateIntersect", "next", "(I)I"⟩ ⟨"PrivateIntersect", "next", "(I)I"⟩) ∈ lw_all := lw_g (lw_at lw_ms 4 rfl) rfl
theorem qs5 : (Cond.selects "PrivateIntersect" ⟨"PrivateIntersect", "raise", "(II)V"⟩ ⟨"PrivateIntersect", "raise", "(II)V"⟩) ∈ lw_all := lw_g (lw_at lw_ms 5 rfl) rfl
theorem qs6 : (Cond.selects "PrivateIntersect" ⟨"PrivateIntersect", "isSent", "(II)Z"⟩ ⟨"PrivateIntersect", "isSent", "(II)Z"⟩) ∈ lw_all := lw_g (lw_at lw_ms 6 rfl) rfl
theorem qs7 : (Cond.selects "PrivateIntersect" ⟨"PrivateIntersect", "hits", "(I)I"⟩ ⟨"PrivateIntersect", "hits", "(I)I"⟩) ∈ lw_all := lw_g (lw_at lw_ms 7 rfl) rfl
theorem qs8 : (Cond.selects "PrivateIntersect" ⟨"PrivateIntersect", "hitNumber", "(II)I"⟩ ⟨"PrivateIntersect", "hitNumber", "(II)I"⟩) ∈ lw_all := lw_g (lw_at lw_ms 8 rfl) rfl
theorem qs9 : (Cond.selects "PrivateIntersect" ⟨"PrivateIntersect", "compareThree", "(I)V"⟩ ⟨"PrivateIntersect", "compareThree", "(I)V"⟩) ∈ lw_all := lw_g (lw_at lw_ms 9 rfl) rfl
theorem qs10 : (Cond.selects "PrivateIntersect" ⟨"PrivateIntersect", "pairCount", "(II)I"⟩ ⟨"PrivateIntersect", "pairCount", "(II)I"⟩) ∈ lw_all := lw_g (lw_at lw_ms 10 rfl) rfl
theorem qs11 : (Cond.selects "PrivateIntersectModel" ⟨"PrivateIntersectModel", "bad", "(I)Z"⟩ ⟨"PrivateIntersectModel", "bad", "(I)Z"⟩) ∈ lw_all := lw_g (lw_at lw_ms 11 rfl) rfl
theorem qs12 : (Cond.selects "PrivateIntersectModel" ⟨"PrivateIntersectModel", "badItem", "(I)Z"⟩ ⟨"PrivateIntersectModel", "badItem", "(I)Z"⟩) ∈ lw_all := lw_g (lw_at lw_ms 12 rfl) rfl
theorem qs13 : (Cond.selects "PrivateIntersectModel" ⟨"PrivateIntersectModel", "size", "(I)I"⟩ ⟨"PrivateIntersectModel", "size", "(I)I"⟩) ∈ lw_all := lw_g (lw_at lw_ms 13 rfl) rfl
theorem qs14 : (Cond.selects "PrivateIntersectModel" ⟨"PrivateIntersectModel", "among", "(IIII)Z"⟩ ⟨"PrivateIntersectModel", "among", "(IIII)Z"⟩) ∈ lw_all := lw_g (lw_at lw_ms 14 rfl) rfl
theorem qs15 : (Cond.selects "PrivateIntersectModel" ⟨"PrivateIntersectModel", "note", "(II)V"⟩ ⟨"PrivateIntersectModel", "note", "(II)V"⟩) ∈ lw_all := lw_g (lw_at lw_ms 15 rfl) rfl
theorem qs16 : (Cond.selects "PrivateIntersectModel" ⟨"PrivateIntersectModel", "shared", "(II)I"⟩ ⟨"PrivateIntersectModel", "shared", "(II)I"⟩) ∈ lw_all := lw_g (lw_at lw_ms 16 rfl) rfl
theorem qs17 : (Cond.selects "PrivateIntersectModel" ⟨"PrivateIntersectModel", "heldBy", "(I)I"⟩ ⟨"PrivateIntersectModel", "heldBy", "(I)I"⟩) ∈ lw_all := lw_g (lw_at lw_ms 17 rfl) rfl
theorem qs18 : (Cond.selects "PrivateIntersectModel" ⟨"PrivateIntersectModel", "holders", "(I)I"⟩ ⟨"PrivateIntersectModel", "holders", "(I)I"⟩) ∈ lw_all := lw_g (lw_at lw_ms 18 rfl) rfl
end
section
/-! PrivateIntersectLaw -/
set_option maxRecDepth 100000
def RX0 : String := "PrivateIntersectLaw"
abbrev cX0_cell : ByteArray := method_2_code
def yX0_cell : MethodName := ⟨RX0, "cell", "([II)I"⟩
theorem dX0_cell_0 : decode cX0_cell 0 = .ok (.iload_n 1, 1) := by decide +kernel
theorem dX0_cell_1 : decode cX0_cell 1 = .ok (.aload_n 0, 1) := by decide +kernel
theorem dX0_cell_2 : decode cX0_cell 2 = .ok (.arraylength, 1) := by decide +kernel
theorem dX0_cell_3 : decode cX0_cell 3 = .ok (.if_icmp .ge 9, 3) := by decide +kernel
theorem dX0_cell_6 : decode cX0_cell 6 = .ok (.aload_n 0, 1) := by decide +kernel
theorem dX0_cell_7 : decode cX0_cell 7 = .ok (.iload_n 1, 1) := by decide +kernel
theorem dX0_cell_8 : decode cX0_cell 8 = .ok (.iaload, 1) := by decide +kernel
theorem dX0_cell_9 : decode cX0_cell 9 = .ok (.goto 4, 3) := by decide +kernel
theorem dX0_cell_12 : decode cX0_cell 12 = .ok (.iconst 0, 1) := by decide +kernel
theorem dX0_cell_13 : decode cX0_cell 13 = .ok (.ireturn, 1) := by decide +kernel
theorem q19 : (Jvm.Cond.initialized "PrivateIntersectLaw") ∈ lw_all := lw_g (lw_at lw_m1 0 rfl) rfl
theorem q22 : (Jvm.Cond.classLink "PrivateIntersectLaw" (7 : Nat) "PrivateIntersect") ∈ lw_all := lw_g (lw_at lw_m1 3 rfl) rfl
theorem q24 : (Jvm.Cond.methodLink "PrivateIntersectLaw" (15 : Nat) ({ cls := "PrivateIntersect", name := "<init>", desc := "(III)V" } : Jvm.MethodName)) ∈ lw_all := lw_g (lw_at lw_m1 5 rfl) rfl
theorem q67 : (Jvm.Cond.methodLink "PrivateIntersectLaw" (21 : Nat) ({ cls := "PrivateIntersect", name := "secret", desc := "(II)I" } : Jvm.MethodName)) ∈ lw_all := lw_g (lw_at lw_m1 48 rfl) rfl
theorem q68 : (Jvm.Cond.methodLink "PrivateIntersectLaw" (26 : Nat) ({ cls := "PrivateIntersect", name := "give", desc := "(III)I" } : Jvm.MethodName)) ∈ lw_all := lw_g (lw_at lw_m1 49 rfl) rfl
theorem q83 : (Jvm.Cond.methodLink "PrivateIntersectLaw" (31 : Nat) ({ cls := "PrivateIntersect", name := "giveMany", desc := "(III)I" } : Jvm.MethodName)) ∈ lw_all := lw_g (lw_at lw_m1 64 rfl) rfl
theorem q87 : (Jvm.Cond.methodLink "PrivateIntersectLaw" (35 : Nat) ({ cls := "PrivateIntersect", name := "take", desc := "(II)I" } : Jvm.MethodName)) ∈ lw_all := lw_g (lw_at lw_m1 68 rfl) rfl
theorem q91 : (Jvm.Cond.methodLink "PrivateIntersectLaw" (39 : Nat) ({ cls := "PrivateIntersect", name := "clear", desc := "(I)I" } : Jvm.MethodName)) ∈ lw_all := lw_g (lw_at lw_m1 72 rfl) rfl
theorem q95 : (Jvm.Cond.methodLink "PrivateIntersectLaw" (44 : Nat) ({ cls := "PrivateIntersect", name := "held", desc := "(I)I" } : Jvm.MethodName)) ∈ lw_all := lw_g (lw_at lw_m1 76 rfl) rfl
theorem q99 : (Jvm.Cond.methodLink "PrivateIntersectLaw" (48 : Nat) ({ cls := "PrivateIntersect", name := "holds", desc := "(II)I" } : Jvm.MethodName)) ∈ lw_all := lw_g (lw_at lw_m1 80 rfl) rfl
theorem q103 : (Jvm.Cond.methodLink "PrivateIntersectLaw" (52 : Nat) ({ cls := "PrivateIntersect", name := "common", desc := "(II)I" } : Jvm.MethodName)) ∈ lw_all := lw_g (lw_at lw_m1 84 rfl) rfl
theorem q135 : (Jvm.Cond.methodLink "PrivateIntersectLaw" (56 : Nat) ({ cls := "PrivateIntersect", name := "commonItem", desc := "(III)I" } : Jvm.MethodName)) ∈ lw_all := lw_g (lw_at lw_m1 116 rfl) rfl
theorem q143 : (Jvm.Cond.methodLink "PrivateIntersectLaw" (60 : Nat) ({ cls := "PrivateIntersect", name := "commonWeight", desc := "(II)I" } : Jvm.MethodName)) ∈ lw_all := lw_g (lw_at lw_m1 124 rfl) rfl
theorem q147 : (Jvm.Cond.methodLink "PrivateIntersectLaw" (64 : Nat) ({ cls := "PrivateIntersect", name := "commonToAll", desc := "()I" } : Jvm.MethodName)) ∈ lw_all := lw_g (lw_at lw_m1 128 rfl) rfl
theorem q155 : (Jvm.Cond.methodLink "PrivateIntersectLaw" (69 : Nat) ({ cls := "PrivateIntersect", name := "itemOfAll", desc := "(I)I" } : Jvm.MethodName)) ∈ lw_all := lw_g (lw_at lw_m1 136 rfl) rfl
theorem q159 : (Jvm.Cond.methodLink "PrivateIntersectLaw" (73 : Nat) ({ cls := "PrivateIntersect", name := "any", desc := "()I" } : Jvm.MethodName)) ∈ lw_all := lw_g (lw_at lw_m1 140 rfl) rfl
theorem q171 : (Jvm.Cond.methodLink "PrivateIntersectLaw" (77 : Nat) ({ cls := "PrivateIntersect", name := "heldByJust", desc := "(I)I" } : Jvm.MethodName)) ∈ lw_all := lw_g (lw_at lw_m1 152 rfl) rfl
theorem q172 : (Jvm.Cond.methodLink "PrivateIntersectLaw" (81 : Nat) ({ cls := "PrivateIntersect", name := "alone", desc := "(I)I" } : Jvm.MethodName)) ∈ lw_all := lw_g (lw_at lw_m1 153 rfl) rfl
theorem q176 : (Jvm.Cond.methodLink "PrivateIntersectLaw" (85 : Nat) ({ cls := "PrivateIntersect", name := "within", desc := "(II)I" } : Jvm.MethodName)) ∈ lw_all := lw_g (lw_at lw_m1 157 rfl) rfl
theorem q180 : (Jvm.Cond.methodLink "PrivateIntersectLaw" (89 : Nat) ({ cls := "PrivateIntersect", name := "traffic", desc := "()I" } : Jvm.MethodName)) ∈ lw_all := lw_g (lw_at lw_m1 161 rfl) rfl
theorem q184 : (Jvm.Cond.methodLink "PrivateIntersectLaw" (9 : Nat) ({ cls := "PrivateIntersectLaw", name := "cell", desc := "([II)I" } : Jvm.MethodName)) ∈ lw_all := lw_g (lw_at lw_m1 165 rfl) rfl
theorem q185 : (Jvm.Cond.static ({ cls := "PrivateIntersectLaw", name := "cell", desc := "([II)I" } : Jvm.MethodName)) ∈ lw_all := lw_g (lw_at lw_m1 166 rfl) rfl
theorem q186 : (Jvm.Cond.code ({ cls := "PrivateIntersectLaw", name := "cell", desc := "([II)I" } : Jvm.MethodName) method_2_code (2 : Nat) (Option.some Jvm.ClassFile.FieldType.int)) ∈ lw_all := lw_g (lw_at lw_m1 167 rfl) rfl
theorem q187 : (Jvm.Cond.classLink "PrivateIntersectLaw" (18 : Nat) "PrivateIntersectModel") ∈ lw_all := lw_g (lw_at lw_m1 168 rfl) rfl
theorem q189 : (Jvm.Cond.methodLink "PrivateIntersectLaw" (20 : Nat) ({ cls := "PrivateIntersectModel", name := "<init>", desc := "(III)V" } : Jvm.MethodName)) ∈ lw_all := lw_g (lw_at lw_m1 170 rfl) rfl
theorem q203 : (Jvm.Cond.methodLink "PrivateIntersectLaw" (25 : Nat) ({ cls := "PrivateIntersectModel", name := "secret", desc := "(II)I" } : Jvm.MethodName)) ∈ lw_all := lw_g (lw_at lw_m1 184 rfl) rfl
theorem q211 : (Jvm.Cond.methodLink "PrivateIntersectLaw" (30 : Nat) ({ cls := "PrivateIntersectModel", name := "give", desc := "(III)I" } : Jvm.MethodName)) ∈ lw_all := lw_g (lw_at lw_m1 192 rfl) rfl
theorem q223 : (Jvm.Cond.methodLink "PrivateIntersectLaw" (34 : Nat) ({ cls := "PrivateIntersectModel", name := "giveMany", desc := "(III)I" } : Jvm.MethodName)) ∈ lw_all := lw_g (lw_at lw_m1 204 rfl) rfl
theorem q231 : (Jvm.Cond.methodLink "PrivateIntersectLaw" (38 : Nat) ({ cls := "PrivateIntersectModel", name := "take", desc := "(II)I" } : Jvm.MethodName)) ∈ lw_all := lw_g (lw_at lw_m1 212 rfl) rfl
theorem q235 : (Jvm.Cond.methodLink "PrivateIntersectLaw" (43 : Nat) ({ cls := "PrivateIntersectModel", name := "clear", desc := "(I)I" } : Jvm.MethodName)) ∈ lw_all := lw_g (lw_at lw_m1 216 rfl) rfl
theorem q239 : (Jvm.Cond.methodLink "PrivateIntersectLaw" (47 : Nat) ({ cls := "PrivateIntersectModel", name := "held", desc := "(I)I" } : Jvm.MethodName)) ∈ lw_all := lw_g (lw_at lw_m1 220 rfl) rfl
theorem q243 : (Jvm.Cond.methodLink "PrivateIntersectLaw" (51 : Nat) ({ cls := "PrivateIntersectModel", name := "holds", desc := "(II)I" } : Jvm.MethodName)) ∈ lw_all := lw_g (lw_at lw_m1 224 rfl) rfl
theorem q247 : (Jvm.Cond.methodLink "PrivateIntersectLaw" (55 : Nat) ({ cls := "PrivateIntersectModel", name := "common", desc := "(II)I" } : Jvm.MethodName)) ∈ lw_all := lw_g (lw_at lw_m1 228 rfl) rfl
theorem q259 : (Jvm.Cond.methodLink "PrivateIntersectLaw" (59 : Nat) ({ cls := "PrivateIntersectModel", name := "commonItem", desc := "(III)I" } : Jvm.MethodName)) ∈ lw_all := lw_g (lw_at lw_m2 0 rfl) rfl
theorem q263 : (Jvm.Cond.methodLink "PrivateIntersectLaw" (63 : Nat) ({ cls := "PrivateIntersectModel", name := "commonWeight", desc := "(II)I" } : Jvm.MethodName)) ∈ lw_all := lw_g (lw_at lw_m2 4 rfl) rfl
theorem q267 : (Jvm.Cond.methodLink "PrivateIntersectLaw" (68 : Nat) ({ cls := "PrivateIntersectModel", name := "commonToAll", desc := "()I" } : Jvm.MethodName)) ∈ lw_all := lw_g (lw_at lw_m2 8 rfl) rfl
theorem q279 : (Jvm.Cond.methodLink "PrivateIntersectLaw" (72 : Nat) ({ cls := "PrivateIntersectModel", name := "itemOfAll", desc := "(I)I" } : Jvm.MethodName)) ∈ lw_all := lw_g (lw_at lw_m2 20 rfl) rfl
theorem q283 : (Jvm.Cond.methodLink "PrivateIntersectLaw" (76 : Nat) ({ cls := "PrivateIntersectModel", name := "any", desc := "()I" } : Jvm.MethodName)) ∈ lw_all := lw_g (lw_at lw_m2 24 rfl) rfl
theorem q287 : (Jvm.Cond.methodLink "PrivateIntersectLaw" (80 : Nat) ({ cls := "PrivateIntersectModel", name := "heldByJust", desc := "(I)I" } : Jvm.MethodName)) ∈ lw_all := lw_g (lw_at lw_m2 28 rfl) rfl
theorem q291 : (Jvm.Cond.methodLink "PrivateIntersectLaw" (84 : Nat) ({ cls := "PrivateIntersectModel", name := "alone", desc := "(I)I" } : Jvm.MethodName)) ∈ lw_all := lw_g (lw_at lw_m2 32 rfl) rfl
theorem q295 : (Jvm.Cond.methodLink "PrivateIntersectLaw" (88 : Nat) ({ cls := "PrivateIntersectModel", name := "within", desc := "(II)I" } : Jvm.MethodName)) ∈ lw_all := lw_g (lw_at lw_m2 36 rfl) rfl
theorem q299 : (Jvm.Cond.methodLink "PrivateIntersectLaw" (92 : Nat) ({ cls := "PrivateIntersectModel", name := "traffic", desc := "()I" } : Jvm.MethodName)) ∈ lw_all := lw_g (lw_at lw_m2 40 rfl) rfl
/-! java/lang/Object -/
set_option maxRecDepth 100000
def RJ0 : String := "java/lang/Object"
abbrev cJ0_init : ByteArray := object_method_1_code
def yJ0_init : MethodName := ⟨RJ0, "<init>", "()V"⟩
theorem dJ0_init_0 : decode cJ0_init 0 = .ok (.return_, 1) := by decide +kernel
theorem q28 : (Jvm.Cond.instanceMethod ({ cls := "java/lang/Object", name := "<init>", desc := "()V" } : Jvm.MethodName)) ∈ lw_all := lw_g (lw_at lw_m1 9 rfl) rfl
theorem q29 : (Jvm.Cond.code ({ cls := "java/lang/Object", name := "<init>", desc := "()V" } : Jvm.MethodName) object_method_1_code (1 : Nat) (Option.none : Option Jvm.ClassFile.FieldType)) ∈ lw_all := lw_g (lw_at lw_m1 10 rfl) rfl
theorem q65 : (Jvm.Cond.arrayClass Jvm.ClassFile.FieldType.int) ∈ lw_all := lw_g (lw_at lw_m1 46 rfl) rfl
set_option maxRecDepth 100000
theorem q66 : (Jvm.Cond.arrayClass Jvm.ClassFile.FieldType.boolean) ∈ lw_all := lw_g (lw_at lw_m1 47 rfl) rfl
end
section
/-! PrivateIntersect -/
set_option maxRecDepth 100000
def RX1 : String := "PrivateIntersect"
def TX1 : u_T := fun k => match k with
  | 0 => ("PrivateIntersect", "items", "[I", true)
  | 1 => ("PrivateIntersect", "weights", "[I", true)
  | 2 => ("PrivateIntersect", "sizes", "[I", true)
  | 3 => ("PrivateIntersect", "exponents", "[I", true)
  | 4 => ("PrivateIntersect", "sent", "[I", true)
  | 5 => ("PrivateIntersect", "origin", "[I", true)
  | 6 => ("PrivateIntersect", "hit", "[Z", true)
  | 7 => ("PrivateIntersect", "random", "I", false)
  | _ => ("PrivateIntersect", "lastTraffic", "I", false)
def tyX1 : Nat → FieldType := fun k => match k with
  | 0 => .array .int
  | 1 => .array .int
  | 2 => .array .int
  | 3 => .array .int
  | 4 => .array .int
  | 5 => .array .int
  | 6 => .array .boolean
  | 7 => .int
  | _ => .int
abbrev wsX10 : List Cond := u_ws RX1 TX1 9
theorem nmX1 : ∀ a, a < 9 → ∀ b, b < 9 → a ≠ b → (TX1 a).2.1 ≠ (TX1 b).2.1 := by decide +kernel
theorem tyX1_ok : ∀ k, k < 9 → parseFieldDescriptor (TX1 k).2.2.1 = some (tyX1 k) := by decide +kernel
abbrev cX1_init : ByteArray := prog_1_method_1_code
def yX1_init : MethodName := ⟨RX1, "<init>", "(III)V"⟩
theorem dX1_init_0 : decode cX1_init 0 = .ok (.aload_n 0, 1) := by decide +kernel
theorem dX1_init_1 : decode cX1_init 1 = .ok (.invokespecial 1, 3) := by decide +kernel
theorem dX1_init_4 : decode cX1_init 4 = .ok (.aload_n 0, 1) := by decide +kernel
theorem dX1_init_5 : decode cX1_init 5 = .ok (.bipush 48, 2) := by decide +kernel
theorem dX1_init_7 : decode cX1_init 7 = .ok (.newarray .int, 2) := by decide +kernel
theorem dX1_init_9 : decode cX1_init 9 = .ok (.putfield 7, 3) := by decide +kernel
theorem dX1_init_12 : decode cX1_init 12 = .ok (.aload_n 0, 1) := by decide +kernel
theorem dX1_init_13 : decode cX1_init 13 = .ok (.bipush 48, 2) := by decide +kernel
theorem dX1_init_15 : decode cX1_init 15 = .ok (.newarray .int, 2) := by decide +kernel
theorem dX1_init_17 : decode cX1_init 17 = .ok (.putfield 13, 3) := by decide +kernel
theorem dX1_init_20 : decode cX1_init 20 = .ok (.aload_n 0, 1) := by decide +kernel
theorem dX1_init_21 : decode cX1_init 21 = .ok (.iconst 3, 1) := by decide +kernel
theorem dX1_init_22 : decode cX1_init 22 = .ok (.newarray .int, 2) := by decide +kernel
theorem dX1_init_24 : decode cX1_init 24 = .ok (.putfield 16, 3) := by decide +kernel
theorem dX1_init_27 : decode cX1_init 27 = .ok (.aload_n 0, 1) := by decide +kernel
theorem dX1_init_28 : decode cX1_init 28 = .ok (.iconst 3, 1) := by decide +kernel
theorem dX1_init_29 : decode cX1_init 29 = .ok (.newarray .int, 2) := by decide +kernel
theorem dX1_init_31 : decode cX1_init 31 = .ok (.putfield 19, 3) := by decide +kernel
theorem dX1_init_34 : decode cX1_init 34 = .ok (.aload_n 0, 1) := by decide +kernel
theorem dX1_init_35 : decode cX1_init 35 = .ok (.bipush 48, 2) := by decide +kernel
theorem dX1_init_37 : decode cX1_init 37 = .ok (.newarray .int, 2) := by decide +kernel
theorem dX1_init_39 : decode cX1_init 39 = .ok (.putfield 22, 3) := by decide +kernel
theorem dX1_init_42 : decode cX1_init 42 = .ok (.aload_n 0, 1) := by decide +kernel
theorem dX1_init_43 : decode cX1_init 43 = .ok (.bipush 48, 2) := by decide +kernel
theorem dX1_init_45 : decode cX1_init 45 = .ok (.newarray .int, 2) := by decide +kernel
theorem dX1_init_47 : decode cX1_init 47 = .ok (.putfield 25, 3) := by decide +kernel
theorem dX1_init_50 : decode cX1_init 50 = .ok (.aload_n 0, 1) := by decide +kernel
theorem dX1_init_51 : decode cX1_init 51 = .ok (.bipush 16, 2) := by decide +kernel
theorem dX1_init_53 : decode cX1_init 53 = .ok (.newarray .boolean, 2) := by decide +kernel
theorem dX1_init_55 : decode cX1_init 55 = .ok (.putfield 28, 3) := by decide +kernel
theorem dX1_init_58 : decode cX1_init 58 = .ok (.aload_n 0, 1) := by decide +kernel
theorem dX1_init_59 : decode cX1_init 59 = .ok (.iconst 0, 1) := by decide +kernel
theorem dX1_init_60 : decode cX1_init 60 = .ok (.iload_n 1, 1) := by decide +kernel
theorem dX1_init_61 : decode cX1_init 61 = .ok (.invokevirtual 32, 3) := by decide +kernel
theorem dX1_init_64 : decode cX1_init 64 = .ok (.pop, 1) := by decide +kernel
theorem dX1_init_65 : decode cX1_init 65 = .ok (.aload_n 0, 1) := by decide +kernel
theorem dX1_init_66 : decode cX1_init 66 = .ok (.iconst 1, 1) := by decide +kernel
theorem dX1_init_67 : decode cX1_init 67 = .ok (.iload_n 2, 1) := by decide +kernel
theorem dX1_init_68 : decode cX1_init 68 = .ok (.invokevirtual 32, 3) := by decide +kernel
theorem dX1_init_71 : decode cX1_init 71 = .ok (.pop, 1) := by decide +kernel
theorem dX1_init_72 : decode cX1_init 72 = .ok (.aload_n 0, 1) := by decide +kernel
theorem dX1_init_73 : decode cX1_init 73 = .ok (.iconst 2, 1) := by decide +kernel
theorem dX1_init_74 : decode cX1_init 74 = .ok (.iload_n 3, 1) := by decide +kernel
theorem dX1_init_75 : decode cX1_init 75 = .ok (.invokevirtual 32, 3) := by decide +kernel
theorem dX1_init_78 : decode cX1_init 78 = .ok (.pop, 1) := by decide +kernel
theorem dX1_init_79 : decode cX1_init 79 = .ok (.return_, 1) := by decide +kernel
abbrev cX1_secret : ByteArray := prog_1_method_2_code
def yX1_secret : MethodName := ⟨RX1, "secret", "(II)I"⟩
theorem dX1_secret_0 : decode cX1_secret 0 = .ok (.iload_n 1, 1) := by decide +kernel
theorem dX1_secret_1 : decode cX1_secret 1 = .ok (.invokestatic 36, 3) := by decide +kernel
theorem dX1_secret_4 : decode cX1_secret 4 = .ok (.ifCond .ne 5, 3) := by decide +kernel
theorem dX1_secret_7 : decode cX1_secret 7 = .ok (.iconst (-1), 1) := by decide +kernel
theorem dX1_secret_8 : decode cX1_secret 8 = .ok (.ireturn, 1) := by decide +kernel
theorem dX1_secret_9 : decode cX1_secret 9 = .ok (.iload_n 2, 1) := by decide +kernel
theorem dX1_secret_10 : decode cX1_secret 10 = .ok (.sipush 1018, 3) := by decide +kernel
theorem dX1_secret_13 : decode cX1_secret 13 = .ok (.irem, 1) := by decide +kernel
theorem dX1_secret_14 : decode cX1_secret 14 = .ok (.istore_n 3, 1) := by decide +kernel
theorem dX1_secret_15 : decode cX1_secret 15 = .ok (.aload_n 0, 1) := by decide +kernel
theorem dX1_secret_16 : decode cX1_secret 16 = .ok (.getfield 19, 3) := by decide +kernel
theorem dX1_secret_19 : decode cX1_secret 19 = .ok (.iload_n 1, 1) := by decide +kernel
theorem dX1_secret_20 : decode cX1_secret 20 = .ok (.iload_n 3, 1) := by decide +kernel
theorem dX1_secret_21 : decode cX1_secret 21 = .ok (.ifCond .ge 11, 3) := by decide +kernel
theorem dX1_secret_24 : decode cX1_secret 24 = .ok (.iload_n 3, 1) := by decide +kernel
theorem dX1_secret_25 : decode cX1_secret 25 = .ok (.sipush 1019, 3) := by decide +kernel
theorem dX1_secret_28 : decode cX1_secret 28 = .ok (.iadd, 1) := by decide +kernel
theorem dX1_secret_29 : decode cX1_secret 29 = .ok (.goto 6, 3) := by decide +kernel
theorem dX1_secret_32 : decode cX1_secret 32 = .ok (.iload_n 3, 1) := by decide +kernel
theorem dX1_secret_33 : decode cX1_secret 33 = .ok (.iconst 1, 1) := by decide +kernel
theorem dX1_secret_34 : decode cX1_secret 34 = .ok (.iadd, 1) := by decide +kernel
theorem dX1_secret_35 : decode cX1_secret 35 = .ok (.iastore, 1) := by decide +kernel
theorem dX1_secret_36 : decode cX1_secret 36 = .ok (.aload_n 0, 1) := by decide +kernel
theorem dX1_secret_37 : decode cX1_secret 37 = .ok (.aload_n 0, 1) := by decide +kernel
theorem dX1_secret_38 : decode cX1_secret 38 = .ok (.getfield 40, 3) := by decide +kernel
theorem dX1_secret_41 : decode cX1_secret 41 = .ok (.bipush 31, 2) := by decide +kernel
theorem dX1_secret_43 : decode cX1_secret 43 = .ok (.imul, 1) := by decide +kernel
theorem dX1_secret_44 : decode cX1_secret 44 = .ok (.iload_n 2, 1) := by decide +kernel
theorem dX1_secret_45 : decode cX1_secret 45 = .ok (.iadd, 1) := by decide +kernel
theorem dX1_secret_46 : decode cX1_secret 46 = .ok (.putfield 40, 3) := by decide +kernel
theorem dX1_secret_49 : decode cX1_secret 49 = .ok (.iconst 0, 1) := by decide +kernel
theorem dX1_secret_50 : decode cX1_secret 50 = .ok (.ireturn, 1) := by decide +kernel
abbrev cX1_isParty : ByteArray := prog_1_method_19_code
def yX1_isParty : MethodName := ⟨RX1, "isParty", "(I)Z"⟩
theorem dX1_isParty_0 : decode cX1_isParty 0 = .ok (.iload_n 0, 1) := by decide +kernel
theorem dX1_isParty_1 : decode cX1_isParty 1 = .ok (.ifCond .lt 12, 3) := by decide +kernel
theorem dX1_isParty_4 : decode cX1_isParty 4 = .ok (.iload_n 0, 1) := by decide +kernel
theorem dX1_isParty_5 : decode cX1_isParty 5 = .ok (.iconst 2, 1) := by decide +kernel
theorem dX1_isParty_6 : decode cX1_isParty 6 = .ok (.if_icmp .gt 7, 3) := by decide +kernel
theorem dX1_isParty_9 : decode cX1_isParty 9 = .ok (.iconst 1, 1) := by decide +kernel
theorem dX1_isParty_10 : decode cX1_isParty 10 = .ok (.goto 4, 3) := by decide +kernel
theorem dX1_isParty_13 : decode cX1_isParty 13 = .ok (.iconst 0, 1) := by decide +kernel
theorem dX1_isParty_14 : decode cX1_isParty 14 = .ok (.ireturn, 1) := by decide +kernel
abbrev cX1_give : ByteArray := prog_1_method_3_code
def yX1_give : MethodName := ⟨RX1, "give", "(III)I"⟩
theorem dX1_give_0 : decode cX1_give 0 = .ok (.iload_n 1, 1) := by decide +kernel
theorem dX1_give_1 : decode cX1_give 1 = .ok (.invokestatic 36, 3) := by decide +kernel
theorem dX1_give_4 : decode cX1_give 4 = .ok (.ifCond .ne 5, 3) := by decide +kernel
theorem dX1_give_7 : decode cX1_give 7 = .ok (.iconst (-1), 1) := by decide +kernel
theorem dX1_give_8 : decode cX1_give 8 = .ok (.ireturn, 1) := by decide +kernel
theorem dX1_give_9 : decode cX1_give 9 = .ok (.iload_n 2, 1) := by decide +kernel
theorem dX1_give_10 : decode cX1_give 10 = .ok (.invokestatic 44, 3) := by decide +kernel
theorem dX1_give_13 : decode cX1_give 13 = .ok (.ifCond .ne 6, 3) := by decide +kernel
theorem dX1_give_16 : decode cX1_give 16 = .ok (.bipush (-2), 2) := by decide +kernel
theorem dX1_give_18 : decode cX1_give 18 = .ok (.ireturn, 1) := by decide +kernel
theorem dX1_give_19 : decode cX1_give 19 = .ok (.aload_n 0, 1) := by decide +kernel
theorem dX1_give_20 : decode cX1_give 20 = .ok (.iload_n 1, 1) := by decide +kernel
theorem dX1_give_21 : decode cX1_give 21 = .ok (.iload_n 2, 1) := by decide +kernel
theorem dX1_give_22 : decode cX1_give 22 = .ok (.invokevirtual 47, 3) := by decide +kernel
theorem dX1_give_25 : decode cX1_give 25 = .ok (.istore 4, 2) := by decide +kernel
theorem dX1_give_27 : decode cX1_give 27 = .ok (.iload 4, 2) := by decide +kernel
theorem dX1_give_29 : decode cX1_give 29 = .ok (.ifCond .ge 25, 3) := by decide +kernel
theorem dX1_give_32 : decode cX1_give 32 = .ok (.aload_n 0, 1) := by decide +kernel
theorem dX1_give_33 : decode cX1_give 33 = .ok (.getfield 16, 3) := by decide +kernel
theorem dX1_give_36 : decode cX1_give 36 = .ok (.iload_n 1, 1) := by decide +kernel
theorem dX1_give_37 : decode cX1_give 37 = .ok (.iaload, 1) := by decide +kernel
theorem dX1_give_38 : decode cX1_give 38 = .ok (.bipush 16, 2) := by decide +kernel
theorem dX1_give_40 : decode cX1_give 40 = .ok (.if_icmp .ne 6, 3) := by decide +kernel
theorem dX1_give_43 : decode cX1_give 43 = .ok (.bipush (-3), 2) := by decide +kernel
theorem dX1_give_45 : decode cX1_give 45 = .ok (.ireturn, 1) := by decide +kernel
theorem dX1_give_46 : decode cX1_give 46 = .ok (.aload_n 0, 1) := by decide +kernel
theorem dX1_give_47 : decode cX1_give 47 = .ok (.iload_n 1, 1) := by decide +kernel
theorem dX1_give_48 : decode cX1_give 48 = .ok (.iload_n 2, 1) := by decide +kernel
theorem dX1_give_49 : decode cX1_give 49 = .ok (.invokevirtual 50, 3) := by decide +kernel
theorem dX1_give_52 : decode cX1_give 52 = .ok (.istore 4, 2) := by decide +kernel
theorem dX1_give_54 : decode cX1_give 54 = .ok (.aload_n 0, 1) := by decide +kernel
theorem dX1_give_55 : decode cX1_give 55 = .ok (.getfield 13, 3) := by decide +kernel
theorem dX1_give_58 : decode cX1_give 58 = .ok (.iload 4, 2) := by decide +kernel
theorem dX1_give_60 : decode cX1_give 60 = .ok (.iload_n 3, 1) := by decide +kernel
theorem dX1_give_61 : decode cX1_give 61 = .ok (.iastore, 1) := by decide +kernel
theorem dX1_give_62 : decode cX1_give 62 = .ok (.aload_n 0, 1) := by decide +kernel
theorem dX1_give_63 : decode cX1_give 63 = .ok (.getfield 16, 3) := by decide +kernel
theorem dX1_give_66 : decode cX1_give 66 = .ok (.iload_n 1, 1) := by decide +kernel
theorem dX1_give_67 : decode cX1_give 67 = .ok (.iaload, 1) := by decide +kernel
theorem dX1_give_68 : decode cX1_give 68 = .ok (.ireturn, 1) := by decide +kernel
abbrev cX1_isItem : ByteArray := prog_1_method_20_code
def yX1_isItem : MethodName := ⟨RX1, "isItem", "(I)Z"⟩
theorem dX1_isItem_0 : decode cX1_isItem 0 = .ok (.iload_n 0, 1) := by decide +kernel
theorem dX1_isItem_1 : decode cX1_isItem 1 = .ok (.ifCond .lt 13, 3) := by decide +kernel
theorem dX1_isItem_4 : decode cX1_isItem 4 = .ok (.iload_n 0, 1) := by decide +kernel
theorem dX1_isItem_5 : decode cX1_isItem 5 = .ok (.bipush 64, 2) := by decide +kernel
theorem dX1_isItem_7 : decode cX1_isItem 7 = .ok (.if_icmp .ge 7, 3) := by decide +kernel
theorem dX1_isItem_10 : decode cX1_isItem 10 = .ok (.iconst 1, 1) := by decide +kernel
theorem dX1_isItem_11 : decode cX1_isItem 11 = .ok (.goto 4, 3) := by decide +kernel
theorem dX1_isItem_14 : decode cX1_isItem 14 = .ok (.iconst 0, 1) := by decide +kernel
theorem dX1_isItem_15 : decode cX1_isItem 15 = .ok (.ireturn, 1) := by decide +kernel
abbrev cX1_find : ByteArray := prog_1_method_21_code
def yX1_find : MethodName := ⟨RX1, "find", "(II)I"⟩
theorem dX1_find_0 : decode cX1_find 0 = .ok (.bipush 16, 2) := by decide +kernel
theorem dX1_find_2 : decode cX1_find 2 = .ok (.iload_n 1, 1) := by decide +kernel
theorem dX1_find_3 : decode cX1_find 3 = .ok (.imul, 1) := by decide +kernel
theorem dX1_find_4 : decode cX1_find 4 = .ok (.istore_n 3, 1) := by decide +kernel
theorem dX1_find_5 : decode cX1_find 5 = .ok (.iload_n 3, 1) := by decide +kernel
theorem dX1_find_6 : decode cX1_find 6 = .ok (.bipush 16, 2) := by decide +kernel
theorem dX1_find_8 : decode cX1_find 8 = .ok (.iload_n 1, 1) := by decide +kernel
theorem dX1_find_9 : decode cX1_find 9 = .ok (.imul, 1) := by decide +kernel
theorem dX1_find_10 : decode cX1_find 10 = .ok (.aload_n 0, 1) := by decide +kernel
theorem dX1_find_11 : decode cX1_find 11 = .ok (.getfield 16, 3) := by decide +kernel
theorem dX1_find_14 : decode cX1_find 14 = .ok (.iload_n 1, 1) := by decide +kernel
theorem dX1_find_15 : decode cX1_find 15 = .ok (.iaload, 1) := by decide +kernel
theorem dX1_find_16 : decode cX1_find 16 = .ok (.iadd, 1) := by decide +kernel
theorem dX1_find_17 : decode cX1_find 17 = .ok (.if_icmp .ge 21, 3) := by decide +kernel
theorem dX1_find_20 : decode cX1_find 20 = .ok (.aload_n 0, 1) := by decide +kernel
theorem dX1_find_21 : decode cX1_find 21 = .ok (.getfield 7, 3) := by decide +kernel
theorem dX1_find_24 : decode cX1_find 24 = .ok (.iload_n 3, 1) := by decide +kernel
theorem dX1_find_25 : decode cX1_find 25 = .ok (.iaload, 1) := by decide +kernel
theorem dX1_find_26 : decode cX1_find 26 = .ok (.iload_n 2, 1) := by decide +kernel
theorem dX1_find_27 : decode cX1_find 27 = .ok (.if_icmp .ne 5, 3) := by decide +kernel
theorem dX1_find_30 : decode cX1_find 30 = .ok (.iload_n 3, 1) := by decide +kernel
theorem dX1_find_31 : decode cX1_find 31 = .ok (.ireturn, 1) := by decide +kernel
theorem dX1_find_32 : decode cX1_find 32 = .ok (.iinc 3 1, 3) := by decide +kernel
theorem dX1_find_35 : decode cX1_find 35 = .ok (.goto (-30), 3) := by decide +kernel
theorem dX1_find_38 : decode cX1_find 38 = .ok (.iconst (-1), 1) := by decide +kernel
theorem dX1_find_39 : decode cX1_find 39 = .ok (.ireturn, 1) := by decide +kernel
abbrev cX1_insert : ByteArray := prog_1_method_22_code
def yX1_insert : MethodName := ⟨RX1, "insert", "(II)I"⟩
theorem dX1_insert_0 : decode cX1_insert 0 = .ok (.bipush 16, 2) := by decide +kernel
theorem dX1_insert_2 : decode cX1_insert 2 = .ok (.iload_n 1, 1) := by decide +kernel
theorem dX1_insert_3 : decode cX1_insert 3 = .ok (.imul, 1) := by decide +kernel
theorem dX1_insert_4 : decode cX1_insert 4 = .ok (.aload_n 0, 1) := by decide +kernel
theorem dX1_insert_5 : decode cX1_insert 5 = .ok (.getfield 16, 3) := by decide +kernel
theorem dX1_insert_8 : decode cX1_insert 8 = .ok (.iload_n 1, 1) := by decide +kernel
theorem dX1_insert_9 : decode cX1_insert 9 = .ok (.iaload, 1) := by decide +kernel
theorem dX1_insert_10 : decode cX1_insert 10 = .ok (.iadd, 1) := by decide +kernel
theorem dX1_insert_11 : decode cX1_insert 11 = .ok (.istore_n 3, 1) := by decide +kernel
theorem dX1_insert_12 : decode cX1_insert 12 = .ok (.iload_n 3, 1) := by decide +kernel
theorem dX1_insert_13 : decode cX1_insert 13 = .ok (.bipush 16, 2) := by decide +kernel
theorem dX1_insert_15 : decode cX1_insert 15 = .ok (.iload_n 1, 1) := by decide +kernel
theorem dX1_insert_16 : decode cX1_insert 16 = .ok (.imul, 1) := by decide +kernel
theorem dX1_insert_17 : decode cX1_insert 17 = .ok (.if_icmp .le 49, 3) := by decide +kernel
theorem dX1_insert_20 : decode cX1_insert 20 = .ok (.aload_n 0, 1) := by decide +kernel
theorem dX1_insert_21 : decode cX1_insert 21 = .ok (.getfield 7, 3) := by decide +kernel
theorem dX1_insert_24 : decode cX1_insert 24 = .ok (.iload_n 3, 1) := by decide +kernel
theorem dX1_insert_25 : decode cX1_insert 25 = .ok (.iconst 1, 1) := by decide +kernel
theorem dX1_insert_26 : decode cX1_insert 26 = .ok (.isub, 1) := by decide +kernel
theorem dX1_insert_27 : decode cX1_insert 27 = .ok (.iaload, 1) := by decide +kernel
theorem dX1_insert_28 : decode cX1_insert 28 = .ok (.iload_n 2, 1) := by decide +kernel
theorem dX1_insert_29 : decode cX1_insert 29 = .ok (.if_icmp .le 37, 3) := by decide +kernel
theorem dX1_insert_32 : decode cX1_insert 32 = .ok (.aload_n 0, 1) := by decide +kernel
theorem dX1_insert_33 : decode cX1_insert 33 = .ok (.getfield 7, 3) := by decide +kernel
theorem dX1_insert_36 : decode cX1_insert 36 = .ok (.iload_n 3, 1) := by decide +kernel
theorem dX1_insert_37 : decode cX1_insert 37 = .ok (.aload_n 0, 1) := by decide +kernel
theorem dX1_insert_38 : decode cX1_insert 38 = .ok (.getfield 7, 3) := by decide +kernel
theorem dX1_insert_41 : decode cX1_insert 41 = .ok (.iload_n 3, 1) := by decide +kernel
theorem dX1_insert_42 : decode cX1_insert 42 = .ok (.iconst 1, 1) := by decide +kernel
theorem dX1_insert_43 : decode cX1_insert 43 = .ok (.isub, 1) := by decide +kernel
theorem dX1_insert_44 : decode cX1_insert 44 = .ok (.iaload, 1) := by decide +kernel
theorem dX1_insert_45 : decode cX1_insert 45 = .ok (.iastore, 1) := by decide +kernel
theorem dX1_insert_46 : decode cX1_insert 46 = .ok (.aload_n 0, 1) := by decide +kernel
theorem dX1_insert_47 : decode cX1_insert 47 = .ok (.getfield 13, 3) := by decide +kernel
theorem dX1_insert_50 : decode cX1_insert 50 = .ok (.iload_n 3, 1) := by decide +kernel
theorem dX1_insert_51 : decode cX1_insert 51 = .ok (.aload_n 0, 1) := by decide +kernel
theorem dX1_insert_52 : decode cX1_insert 52 = .ok (.getfield 13, 3) := by decide +kernel
theorem dX1_insert_55 : decode cX1_insert 55 = .ok (.iload_n 3, 1) := by decide +kernel
theorem dX1_insert_56 : decode cX1_insert 56 = .ok (.iconst 1, 1) := by decide +kernel
theorem dX1_insert_57 : decode cX1_insert 57 = .ok (.isub, 1) := by decide +kernel
theorem dX1_insert_58 : decode cX1_insert 58 = .ok (.iaload, 1) := by decide +kernel
theorem dX1_insert_59 : decode cX1_insert 59 = .ok (.iastore, 1) := by decide +kernel
theorem dX1_insert_60 : decode cX1_insert 60 = .ok (.iinc 3 (-1), 3) := by decide +kernel
theorem dX1_insert_63 : decode cX1_insert 63 = .ok (.goto (-51), 3) := by decide +kernel
theorem dX1_insert_66 : decode cX1_insert 66 = .ok (.aload_n 0, 1) := by decide +kernel
theorem dX1_insert_67 : decode cX1_insert 67 = .ok (.getfield 7, 3) := by decide +kernel
theorem dX1_insert_70 : decode cX1_insert 70 = .ok (.iload_n 3, 1) := by decide +kernel
theorem dX1_insert_71 : decode cX1_insert 71 = .ok (.iload_n 2, 1) := by decide +kernel
theorem dX1_insert_72 : decode cX1_insert 72 = .ok (.iastore, 1) := by decide +kernel
theorem dX1_insert_73 : decode cX1_insert 73 = .ok (.aload_n 0, 1) := by decide +kernel
theorem dX1_insert_74 : decode cX1_insert 74 = .ok (.getfield 16, 3) := by decide +kernel
theorem dX1_insert_77 : decode cX1_insert 77 = .ok (.iload_n 1, 1) := by decide +kernel
theorem dX1_insert_78 : decode cX1_insert 78 = .ok (.dup2, 1) := by decide +kernel
theorem dX1_insert_79 : decode cX1_insert 79 = .ok (.iaload, 1) := by decide +kernel
theorem dX1_insert_80 : decode cX1_insert 80 = .ok (.iconst 1, 1) := by decide +kernel
theorem dX1_insert_81 : decode cX1_insert 81 = .ok (.iadd, 1) := by decide +kernel
theorem dX1_insert_82 : decode cX1_insert 82 = .ok (.iastore, 1) := by decide +kernel
theorem dX1_insert_83 : decode cX1_insert 83 = .ok (.iload_n 3, 1) := by decide +kernel
theorem dX1_insert_84 : decode cX1_insert 84 = .ok (.ireturn, 1) := by decide +kernel
abbrev cX1_giveMany : ByteArray := prog_1_method_4_code
def yX1_giveMany : MethodName := ⟨RX1, "giveMany", "(III)I"⟩
theorem dX1_giveMany_0 : decode cX1_giveMany 0 = .ok (.iload_n 1, 1) := by decide +kernel
theorem dX1_giveMany_1 : decode cX1_giveMany 1 = .ok (.invokestatic 36, 3) := by decide +kernel
theorem dX1_giveMany_4 : decode cX1_giveMany 4 = .ok (.ifCond .ne 5, 3) := by decide +kernel
theorem dX1_giveMany_7 : decode cX1_giveMany 7 = .ok (.iconst (-1), 1) := by decide +kernel
theorem dX1_giveMany_8 : decode cX1_giveMany 8 = .ok (.ireturn, 1) := by decide +kernel
theorem dX1_giveMany_9 : decode cX1_giveMany 9 = .ok (.iload_n 2, 1) := by decide +kernel
theorem dX1_giveMany_10 : decode cX1_giveMany 10 = .ok (.bipush 64, 2) := by decide +kernel
theorem dX1_giveMany_12 : decode cX1_giveMany 12 = .ok (.if_icmp .lt 10, 3) := by decide +kernel
theorem dX1_giveMany_15 : decode cX1_giveMany 15 = .ok (.iload_n 2, 1) := by decide +kernel
theorem dX1_giveMany_16 : decode cX1_giveMany 16 = .ok (.sipush 1087, 3) := by decide +kernel
theorem dX1_giveMany_19 : decode cX1_giveMany 19 = .ok (.if_icmp .le 6, 3) := by decide +kernel
theorem dX1_giveMany_22 : decode cX1_giveMany 22 = .ok (.bipush (-2), 2) := by decide +kernel
theorem dX1_giveMany_24 : decode cX1_giveMany 24 = .ok (.ireturn, 1) := by decide +kernel
theorem dX1_giveMany_25 : decode cX1_giveMany 25 = .ok (.iload_n 3, 1) := by decide +kernel
theorem dX1_giveMany_26 : decode cX1_giveMany 26 = .ok (.iconst 1, 1) := by decide +kernel
theorem dX1_giveMany_27 : decode cX1_giveMany 27 = .ok (.if_icmp .lt 9, 3) := by decide +kernel
theorem dX1_giveMany_30 : decode cX1_giveMany 30 = .ok (.iload_n 3, 1) := by decide +kernel
theorem dX1_giveMany_31 : decode cX1_giveMany 31 = .ok (.bipush 63, 2) := by decide +kernel
theorem dX1_giveMany_33 : decode cX1_giveMany 33 = .ok (.if_icmp .le 6, 3) := by decide +kernel
theorem dX1_giveMany_36 : decode cX1_giveMany 36 = .ok (.bipush (-3), 2) := by decide +kernel
theorem dX1_giveMany_38 : decode cX1_giveMany 38 = .ok (.ireturn, 1) := by decide +kernel
theorem dX1_giveMany_39 : decode cX1_giveMany 39 = .ok (.lconst 0, 1) := by decide +kernel
theorem dX1_giveMany_40 : decode cX1_giveMany 40 = .ok (.lstore 4, 2) := by decide +kernel
theorem dX1_giveMany_42 : decode cX1_giveMany 42 = .ok (.iconst 0, 1) := by decide +kernel
theorem dX1_giveMany_43 : decode cX1_giveMany 43 = .ok (.istore 6, 2) := by decide +kernel
theorem dX1_giveMany_45 : decode cX1_giveMany 45 = .ok (.iconst 0, 1) := by decide +kernel
theorem dX1_giveMany_46 : decode cX1_giveMany 46 = .ok (.istore 7, 2) := by decide +kernel
theorem dX1_giveMany_48 : decode cX1_giveMany 48 = .ok (.iload 7, 2) := by decide +kernel
theorem dX1_giveMany_50 : decode cX1_giveMany 50 = .ok (.iload_n 2, 1) := by decide +kernel
theorem dX1_giveMany_51 : decode cX1_giveMany 51 = .ok (.bipush 6, 2) := by decide +kernel
theorem dX1_giveMany_53 : decode cX1_giveMany 53 = .ok (.ishr, 1) := by decide +kernel
theorem dX1_giveMany_54 : decode cX1_giveMany 54 = .ok (.if_icmp .ge 57, 3) := by decide +kernel
theorem dX1_giveMany_57 : decode cX1_giveMany 57 = .ok (.iload_n 2, 1) := by decide +kernel
theorem dX1_giveMany_58 : decode cX1_giveMany 58 = .ok (.bipush 63, 2) := by decide +kernel
theorem dX1_giveMany_60 : decode cX1_giveMany 60 = .ok (.iand, 1) := by decide +kernel
theorem dX1_giveMany_61 : decode cX1_giveMany 61 = .ok (.iload 7, 2) := by decide +kernel
theorem dX1_giveMany_63 : decode cX1_giveMany 63 = .ok (.iload_n 3, 1) := by decide +kernel
theorem dX1_giveMany_64 : decode cX1_giveMany 64 = .ok (.imul, 1) := by decide +kernel
theorem dX1_giveMany_65 : decode cX1_giveMany 65 = .ok (.iadd, 1) := by decide +kernel
theorem dX1_giveMany_66 : decode cX1_giveMany 66 = .ok (.bipush 63, 2) := by decide +kernel
theorem dX1_giveMany_68 : decode cX1_giveMany 68 = .ok (.iand, 1) := by decide +kernel
theorem dX1_giveMany_69 : decode cX1_giveMany 69 = .ok (.istore 8, 2) := by decide +kernel
theorem dX1_giveMany_71 : decode cX1_giveMany 71 = .ok (.aload_n 0, 1) := by decide +kernel
theorem dX1_giveMany_72 : decode cX1_giveMany 72 = .ok (.iload_n 1, 1) := by decide +kernel
theorem dX1_giveMany_73 : decode cX1_giveMany 73 = .ok (.iload 8, 2) := by decide +kernel
theorem dX1_giveMany_75 : decode cX1_giveMany 75 = .ok (.invokevirtual 47, 3) := by decide +kernel
theorem dX1_giveMany_78 : decode cX1_giveMany 78 = .ok (.ifCond .ge 27, 3) := by decide +kernel
theorem dX1_giveMany_81 : decode cX1_giveMany 81 = .ok (.lload 4, 2) := by decide +kernel
theorem dX1_giveMany_83 : decode cX1_giveMany 83 = .ok (.iload 8, 2) := by decide +kernel
theorem dX1_giveMany_85 : decode cX1_giveMany 85 = .ok (.lushr, 1) := by decide +kernel
theorem dX1_giveMany_86 : decode cX1_giveMany 86 = .ok (.lconst 1, 1) := by decide +kernel
theorem dX1_giveMany_87 : decode cX1_giveMany 87 = .ok (.land, 1) := by decide +kernel
theorem dX1_giveMany_88 : decode cX1_giveMany 88 = .ok (.lconst 0, 1) := by decide +kernel
theorem dX1_giveMany_89 : decode cX1_giveMany 89 = .ok (.lcmp, 1) := by decide +kernel
theorem dX1_giveMany_90 : decode cX1_giveMany 90 = .ok (.ifCond .ne 15, 3) := by decide +kernel
theorem dX1_giveMany_93 : decode cX1_giveMany 93 = .ok (.lload 4, 2) := by decide +kernel
theorem dX1_giveMany_95 : decode cX1_giveMany 95 = .ok (.lconst 1, 1) := by decide +kernel
theorem dX1_giveMany_96 : decode cX1_giveMany 96 = .ok (.iload 8, 2) := by decide +kernel
theorem dX1_giveMany_98 : decode cX1_giveMany 98 = .ok (.lshl, 1) := by decide +kernel
theorem dX1_giveMany_99 : decode cX1_giveMany 99 = .ok (.lor, 1) := by decide +kernel
theorem dX1_giveMany_100 : decode cX1_giveMany 100 = .ok (.lstore 4, 2) := by decide +kernel
theorem dX1_giveMany_102 : decode cX1_giveMany 102 = .ok (.iinc 6 1, 3) := by decide +kernel
theorem dX1_giveMany_105 : decode cX1_giveMany 105 = .ok (.iinc 7 1, 3) := by decide +kernel
theorem dX1_giveMany_108 : decode cX1_giveMany 108 = .ok (.goto (-60), 3) := by decide +kernel
theorem dX1_giveMany_111 : decode cX1_giveMany 111 = .ok (.aload_n 0, 1) := by decide +kernel
theorem dX1_giveMany_112 : decode cX1_giveMany 112 = .ok (.getfield 16, 3) := by decide +kernel
theorem dX1_giveMany_115 : decode cX1_giveMany 115 = .ok (.iload_n 1, 1) := by decide +kernel
theorem dX1_giveMany_116 : decode cX1_giveMany 116 = .ok (.iaload, 1) := by decide +kernel
theorem dX1_giveMany_117 : decode cX1_giveMany 117 = .ok (.iload 6, 2) := by decide +kernel
theorem dX1_giveMany_119 : decode cX1_giveMany 119 = .ok (.iadd, 1) := by decide +kernel
theorem dX1_giveMany_120 : decode cX1_giveMany 120 = .ok (.bipush 16, 2) := by decide +kernel
theorem dX1_giveMany_122 : decode cX1_giveMany 122 = .ok (.if_icmp .le 6, 3) := by decide +kernel
theorem dX1_giveMany_125 : decode cX1_giveMany 125 = .ok (.bipush (-4), 2) := by decide +kernel
theorem dX1_giveMany_127 : decode cX1_giveMany 127 = .ok (.ireturn, 1) := by decide +kernel
theorem dX1_giveMany_128 : decode cX1_giveMany 128 = .ok (.iconst 0, 1) := by decide +kernel
theorem dX1_giveMany_129 : decode cX1_giveMany 129 = .ok (.istore 7, 2) := by decide +kernel
theorem dX1_giveMany_131 : decode cX1_giveMany 131 = .ok (.iload 7, 2) := by decide +kernel
theorem dX1_giveMany_133 : decode cX1_giveMany 133 = .ok (.bipush 64, 2) := by decide +kernel
theorem dX1_giveMany_135 : decode cX1_giveMany 135 = .ok (.if_icmp .ge 38, 3) := by decide +kernel
theorem dX1_giveMany_138 : decode cX1_giveMany 138 = .ok (.lload 4, 2) := by decide +kernel
theorem dX1_giveMany_140 : decode cX1_giveMany 140 = .ok (.iload 7, 2) := by decide +kernel
theorem dX1_giveMany_142 : decode cX1_giveMany 142 = .ok (.lushr, 1) := by decide +kernel
theorem dX1_giveMany_143 : decode cX1_giveMany 143 = .ok (.lconst 1, 1) := by decide +kernel
theorem dX1_giveMany_144 : decode cX1_giveMany 144 = .ok (.land, 1) := by decide +kernel
theorem dX1_giveMany_145 : decode cX1_giveMany 145 = .ok (.lconst 1, 1) := by decide +kernel
theorem dX1_giveMany_146 : decode cX1_giveMany 146 = .ok (.lcmp, 1) := by decide +kernel
theorem dX1_giveMany_147 : decode cX1_giveMany 147 = .ok (.ifCond .ne 20, 3) := by decide +kernel
theorem dX1_giveMany_150 : decode cX1_giveMany 150 = .ok (.aload_n 0, 1) := by decide +kernel
theorem dX1_giveMany_151 : decode cX1_giveMany 151 = .ok (.iload_n 1, 1) := by decide +kernel
theorem dX1_giveMany_152 : decode cX1_giveMany 152 = .ok (.iload 7, 2) := by decide +kernel
theorem dX1_giveMany_154 : decode cX1_giveMany 154 = .ok (.invokevirtual 50, 3) := by decide +kernel
theorem dX1_giveMany_157 : decode cX1_giveMany 157 = .ok (.istore 8, 2) := by decide +kernel
theorem dX1_giveMany_159 : decode cX1_giveMany 159 = .ok (.aload_n 0, 1) := by decide +kernel
theorem dX1_giveMany_160 : decode cX1_giveMany 160 = .ok (.getfield 13, 3) := by decide +kernel
theorem dX1_giveMany_163 : decode cX1_giveMany 163 = .ok (.iload 8, 2) := by decide +kernel
theorem dX1_giveMany_165 : decode cX1_giveMany 165 = .ok (.iconst 1, 1) := by decide +kernel
theorem dX1_giveMany_166 : decode cX1_giveMany 166 = .ok (.iastore, 1) := by decide +kernel
theorem dX1_giveMany_167 : decode cX1_giveMany 167 = .ok (.iinc 7 1, 3) := by decide +kernel
theorem dX1_giveMany_170 : decode cX1_giveMany 170 = .ok (.goto (-39), 3) := by decide +kernel
theorem dX1_giveMany_173 : decode cX1_giveMany 173 = .ok (.aload_n 0, 1) := by decide +kernel
theorem dX1_giveMany_174 : decode cX1_giveMany 174 = .ok (.getfield 16, 3) := by decide +kernel
theorem dX1_giveMany_177 : decode cX1_giveMany 177 = .ok (.iload_n 1, 1) := by decide +kernel
theorem dX1_giveMany_178 : decode cX1_giveMany 178 = .ok (.iaload, 1) := by decide +kernel
theorem dX1_giveMany_179 : decode cX1_giveMany 179 = .ok (.ireturn, 1) := by decide +kernel
abbrev cX1_take : ByteArray := prog_1_method_5_code
def yX1_take : MethodName := ⟨RX1, "take", "(II)I"⟩
theorem dX1_take_0 : decode cX1_take 0 = .ok (.iload_n 1, 1) := by decide +kernel
theorem dX1_take_1 : decode cX1_take 1 = .ok (.invokestatic 36, 3) := by decide +kernel
theorem dX1_take_4 : decode cX1_take 4 = .ok (.ifCond .ne 5, 3) := by decide +kernel
theorem dX1_take_7 : decode cX1_take 7 = .ok (.iconst (-1), 1) := by decide +kernel
theorem dX1_take_8 : decode cX1_take 8 = .ok (.ireturn, 1) := by decide +kernel
theorem dX1_take_9 : decode cX1_take 9 = .ok (.iload_n 2, 1) := by decide +kernel
theorem dX1_take_10 : decode cX1_take 10 = .ok (.invokestatic 44, 3) := by decide +kernel
theorem dX1_take_13 : decode cX1_take 13 = .ok (.ifCond .ne 6, 3) := by decide +kernel
theorem dX1_take_16 : decode cX1_take 16 = .ok (.bipush (-2), 2) := by decide +kernel
theorem dX1_take_18 : decode cX1_take 18 = .ok (.ireturn, 1) := by decide +kernel
theorem dX1_take_19 : decode cX1_take 19 = .ok (.aload_n 0, 1) := by decide +kernel
theorem dX1_take_20 : decode cX1_take 20 = .ok (.iload_n 1, 1) := by decide +kernel
theorem dX1_take_21 : decode cX1_take 21 = .ok (.iload_n 2, 1) := by decide +kernel
theorem dX1_take_22 : decode cX1_take 22 = .ok (.invokevirtual 47, 3) := by decide +kernel
theorem dX1_take_25 : decode cX1_take 25 = .ok (.istore_n 3, 1) := by decide +kernel
theorem dX1_take_26 : decode cX1_take 26 = .ok (.iload_n 3, 1) := by decide +kernel
theorem dX1_take_27 : decode cX1_take 27 = .ok (.ifCond .ge 6, 3) := by decide +kernel
theorem dX1_take_30 : decode cX1_take 30 = .ok (.bipush (-3), 2) := by decide +kernel
theorem dX1_take_32 : decode cX1_take 32 = .ok (.ireturn, 1) := by decide +kernel
theorem dX1_take_33 : decode cX1_take 33 = .ok (.bipush 16, 2) := by decide +kernel
theorem dX1_take_35 : decode cX1_take 35 = .ok (.iload_n 1, 1) := by decide +kernel
theorem dX1_take_36 : decode cX1_take 36 = .ok (.imul, 1) := by decide +kernel
theorem dX1_take_37 : decode cX1_take 37 = .ok (.aload_n 0, 1) := by decide +kernel
theorem dX1_take_38 : decode cX1_take 38 = .ok (.getfield 16, 3) := by decide +kernel
theorem dX1_take_41 : decode cX1_take 41 = .ok (.iload_n 1, 1) := by decide +kernel
theorem dX1_take_42 : decode cX1_take 42 = .ok (.iaload, 1) := by decide +kernel
theorem dX1_take_43 : decode cX1_take 43 = .ok (.iadd, 1) := by decide +kernel
theorem dX1_take_44 : decode cX1_take 44 = .ok (.istore 4, 2) := by decide +kernel
theorem dX1_take_46 : decode cX1_take 46 = .ok (.iload_n 3, 1) := by decide +kernel
theorem dX1_take_47 : decode cX1_take 47 = .ok (.iconst 1, 1) := by decide +kernel
theorem dX1_take_48 : decode cX1_take 48 = .ok (.iadd, 1) := by decide +kernel
theorem dX1_take_49 : decode cX1_take 49 = .ok (.istore 5, 2) := by decide +kernel
theorem dX1_take_51 : decode cX1_take 51 = .ok (.iload 5, 2) := by decide +kernel
theorem dX1_take_53 : decode cX1_take 53 = .ok (.iload 4, 2) := by decide +kernel
theorem dX1_take_55 : decode cX1_take 55 = .ok (.if_icmp .ge 41, 3) := by decide +kernel
theorem dX1_take_58 : decode cX1_take 58 = .ok (.aload_n 0, 1) := by decide +kernel
theorem dX1_take_59 : decode cX1_take 59 = .ok (.getfield 7, 3) := by decide +kernel
theorem dX1_take_62 : decode cX1_take 62 = .ok (.iload 5, 2) := by decide +kernel
theorem dX1_take_64 : decode cX1_take 64 = .ok (.iconst 1, 1) := by decide +kernel
theorem dX1_take_65 : decode cX1_take 65 = .ok (.isub, 1) := by decide +kernel
theorem dX1_take_66 : decode cX1_take 66 = .ok (.aload_n 0, 1) := by decide +kernel
theorem dX1_take_67 : decode cX1_take 67 = .ok (.getfield 7, 3) := by decide +kernel
theorem dX1_take_70 : decode cX1_take 70 = .ok (.iload 5, 2) := by decide +kernel
theorem dX1_take_72 : decode cX1_take 72 = .ok (.iaload, 1) := by decide +kernel
theorem dX1_take_73 : decode cX1_take 73 = .ok (.iastore, 1) := by decide +kernel
theorem dX1_take_74 : decode cX1_take 74 = .ok (.aload_n 0, 1) := by decide +kernel
theorem dX1_take_75 : decode cX1_take 75 = .ok (.getfield 13, 3) := by decide +kernel
theorem dX1_take_78 : decode cX1_take 78 = .ok (.iload 5, 2) := by decide +kernel
theorem dX1_take_80 : decode cX1_take 80 = .ok (.iconst 1, 1) := by decide +kernel
theorem dX1_take_81 : decode cX1_take 81 = .ok (.isub, 1) := by decide +kernel
theorem dX1_take_82 : decode cX1_take 82 = .ok (.aload_n 0, 1) := by decide +kernel
theorem dX1_take_83 : decode cX1_take 83 = .ok (.getfield 13, 3) := by decide +kernel
theorem dX1_take_86 : decode cX1_take 86 = .ok (.iload 5, 2) := by decide +kernel
theorem dX1_take_88 : decode cX1_take 88 = .ok (.iaload, 1) := by decide +kernel
theorem dX1_take_89 : decode cX1_take 89 = .ok (.iastore, 1) := by decide +kernel
theorem dX1_take_90 : decode cX1_take 90 = .ok (.iinc 5 1, 3) := by decide +kernel
theorem dX1_take_93 : decode cX1_take 93 = .ok (.goto (-42), 3) := by decide +kernel
theorem dX1_take_96 : decode cX1_take 96 = .ok (.aload_n 0, 1) := by decide +kernel
theorem dX1_take_97 : decode cX1_take 97 = .ok (.getfield 16, 3) := by decide +kernel
theorem dX1_take_100 : decode cX1_take 100 = .ok (.iload_n 1, 1) := by decide +kernel
theorem dX1_take_101 : decode cX1_take 101 = .ok (.dup2, 1) := by decide +kernel
theorem dX1_take_102 : decode cX1_take 102 = .ok (.iaload, 1) := by decide +kernel
theorem dX1_take_103 : decode cX1_take 103 = .ok (.iconst 1, 1) := by decide +kernel
theorem dX1_take_104 : decode cX1_take 104 = .ok (.isub, 1) := by decide +kernel
theorem dX1_take_105 : decode cX1_take 105 = .ok (.iastore, 1) := by decide +kernel
theorem dX1_take_106 : decode cX1_take 106 = .ok (.aload_n 0, 1) := by decide +kernel
theorem dX1_take_107 : decode cX1_take 107 = .ok (.getfield 16, 3) := by decide +kernel
theorem dX1_take_110 : decode cX1_take 110 = .ok (.iload_n 1, 1) := by decide +kernel
theorem dX1_take_111 : decode cX1_take 111 = .ok (.iaload, 1) := by decide +kernel
theorem dX1_take_112 : decode cX1_take 112 = .ok (.ireturn, 1) := by decide +kernel
end
section
set_option maxRecDepth 100000
abbrev cX1_clear : ByteArray := prog_1_method_6_code
def yX1_clear : MethodName := ⟨RX1, "clear", "(I)I"⟩
theorem dX1_clear_0 : decode cX1_clear 0 = .ok (.iload_n 1, 1) := by decide +kernel
theorem dX1_clear_1 : decode cX1_clear 1 = .ok (.invokestatic 36, 3) := by decide +kernel
theorem dX1_clear_4 : decode cX1_clear 4 = .ok (.ifCond .ne 5, 3) := by decide +kernel
theorem dX1_clear_7 : decode cX1_clear 7 = .ok (.iconst (-1), 1) := by decide +kernel
theorem dX1_clear_8 : decode cX1_clear 8 = .ok (.ireturn, 1) := by decide +kernel
theorem dX1_clear_9 : decode cX1_clear 9 = .ok (.aload_n 0, 1) := by decide +kernel
theorem dX1_clear_10 : decode cX1_clear 10 = .ok (.getfield 16, 3) := by decide +kernel
theorem dX1_clear_13 : decode cX1_clear 13 = .ok (.iload_n 1, 1) := by decide +kernel
theorem dX1_clear_14 : decode cX1_clear 14 = .ok (.iaload, 1) := by decide +kernel
theorem dX1_clear_15 : decode cX1_clear 15 = .ok (.istore_n 2, 1) := by decide +kernel
theorem dX1_clear_16 : decode cX1_clear 16 = .ok (.aload_n 0, 1) := by decide +kernel
theorem dX1_clear_17 : decode cX1_clear 17 = .ok (.getfield 16, 3) := by decide +kernel
theorem dX1_clear_20 : decode cX1_clear 20 = .ok (.iload_n 1, 1) := by decide +kernel
theorem dX1_clear_21 : decode cX1_clear 21 = .ok (.iconst 0, 1) := by decide +kernel
theorem dX1_clear_22 : decode cX1_clear 22 = .ok (.iastore, 1) := by decide +kernel
theorem dX1_clear_23 : decode cX1_clear 23 = .ok (.iload_n 2, 1) := by decide +kernel
theorem dX1_clear_24 : decode cX1_clear 24 = .ok (.ireturn, 1) := by decide +kernel
abbrev cX1_held : ByteArray := prog_1_method_7_code
def yX1_held : MethodName := ⟨RX1, "held", "(I)I"⟩
theorem dX1_held_0 : decode cX1_held 0 = .ok (.iload_n 1, 1) := by decide +kernel
theorem dX1_held_1 : decode cX1_held 1 = .ok (.invokestatic 36, 3) := by decide +kernel
theorem dX1_held_4 : decode cX1_held 4 = .ok (.ifCond .eq 12, 3) := by decide +kernel
theorem dX1_held_7 : decode cX1_held 7 = .ok (.aload_n 0, 1) := by decide +kernel
theorem dX1_held_8 : decode cX1_held 8 = .ok (.getfield 16, 3) := by decide +kernel
theorem dX1_held_11 : decode cX1_held 11 = .ok (.iload_n 1, 1) := by decide +kernel
theorem dX1_held_12 : decode cX1_held 12 = .ok (.iaload, 1) := by decide +kernel
theorem dX1_held_13 : decode cX1_held 13 = .ok (.goto 4, 3) := by decide +kernel
theorem dX1_held_16 : decode cX1_held 16 = .ok (.iconst (-1), 1) := by decide +kernel
theorem dX1_held_17 : decode cX1_held 17 = .ok (.ireturn, 1) := by decide +kernel
abbrev cX1_holds : ByteArray := prog_1_method_8_code
def yX1_holds : MethodName := ⟨RX1, "holds", "(II)I"⟩
theorem dX1_holds_0 : decode cX1_holds 0 = .ok (.iload_n 1, 1) := by decide +kernel
theorem dX1_holds_1 : decode cX1_holds 1 = .ok (.invokestatic 36, 3) := by decide +kernel
theorem dX1_holds_4 : decode cX1_holds 4 = .ok (.ifCond .ne 5, 3) := by decide +kernel
theorem dX1_holds_7 : decode cX1_holds 7 = .ok (.iconst (-1), 1) := by decide +kernel
theorem dX1_holds_8 : decode cX1_holds 8 = .ok (.ireturn, 1) := by decide +kernel
theorem dX1_holds_9 : decode cX1_holds 9 = .ok (.iload_n 2, 1) := by decide +kernel
theorem dX1_holds_10 : decode cX1_holds 10 = .ok (.invokestatic 44, 3) := by decide +kernel
theorem dX1_holds_13 : decode cX1_holds 13 = .ok (.ifCond .ne 6, 3) := by decide +kernel
theorem dX1_holds_16 : decode cX1_holds 16 = .ok (.bipush (-2), 2) := by decide +kernel
theorem dX1_holds_18 : decode cX1_holds 18 = .ok (.ireturn, 1) := by decide +kernel
theorem dX1_holds_19 : decode cX1_holds 19 = .ok (.aload_n 0, 1) := by decide +kernel
theorem dX1_holds_20 : decode cX1_holds 20 = .ok (.iload_n 1, 1) := by decide +kernel
theorem dX1_holds_21 : decode cX1_holds 21 = .ok (.iload_n 2, 1) := by decide +kernel
theorem dX1_holds_22 : decode cX1_holds 22 = .ok (.invokevirtual 47, 3) := by decide +kernel
theorem dX1_holds_25 : decode cX1_holds 25 = .ok (.ifCond .ge 7, 3) := by decide +kernel
theorem dX1_holds_28 : decode cX1_holds 28 = .ok (.iconst 0, 1) := by decide +kernel
theorem dX1_holds_29 : decode cX1_holds 29 = .ok (.goto 4, 3) := by decide +kernel
theorem dX1_holds_32 : decode cX1_holds 32 = .ok (.iconst 1, 1) := by decide +kernel
theorem dX1_holds_33 : decode cX1_holds 33 = .ok (.ireturn, 1) := by decide +kernel
abbrev cX1_common : ByteArray := prog_1_method_9_code
def yX1_common : MethodName := ⟨RX1, "common", "(II)I"⟩
theorem dX1_common_0 : decode cX1_common 0 = .ok (.iload_n 1, 1) := by decide +kernel
theorem dX1_common_1 : decode cX1_common 1 = .ok (.invokestatic 36, 3) := by decide +kernel
theorem dX1_common_4 : decode cX1_common 4 = .ok (.ifCond .eq 10, 3) := by decide +kernel
theorem dX1_common_7 : decode cX1_common 7 = .ok (.iload_n 2, 1) := by decide +kernel
theorem dX1_common_8 : decode cX1_common 8 = .ok (.invokestatic 36, 3) := by decide +kernel
theorem dX1_common_11 : decode cX1_common 11 = .ok (.ifCond .ne 5, 3) := by decide +kernel
theorem dX1_common_14 : decode cX1_common 14 = .ok (.iconst (-1), 1) := by decide +kernel
theorem dX1_common_15 : decode cX1_common 15 = .ok (.ireturn, 1) := by decide +kernel
theorem dX1_common_16 : decode cX1_common 16 = .ok (.aload_n 0, 1) := by decide +kernel
theorem dX1_common_17 : decode cX1_common 17 = .ok (.iload_n 1, 1) := by decide +kernel
theorem dX1_common_18 : decode cX1_common 18 = .ok (.iload_n 2, 1) := by decide +kernel
theorem dX1_common_19 : decode cX1_common 19 = .ok (.invokevirtual 53, 3) := by decide +kernel
theorem dX1_common_22 : decode cX1_common 22 = .ok (.aload_n 0, 1) := by decide +kernel
theorem dX1_common_23 : decode cX1_common 23 = .ok (.iload_n 1, 1) := by decide +kernel
theorem dX1_common_24 : decode cX1_common 24 = .ok (.invokevirtual 57, 3) := by decide +kernel
theorem dX1_common_27 : decode cX1_common 27 = .ok (.ireturn, 1) := by decide +kernel
abbrev cX1_compareTwo : ByteArray := prog_1_method_28_code
def yX1_compareTwo : MethodName := ⟨RX1, "compareTwo", "(II)V"⟩
theorem dX1_compareTwo_0 : decode cX1_compareTwo 0 = .ok (.iconst 0, 1) := by decide +kernel
theorem dX1_compareTwo_1 : decode cX1_compareTwo 1 = .ok (.istore_n 3, 1) := by decide +kernel
theorem dX1_compareTwo_2 : decode cX1_compareTwo 2 = .ok (.iload_n 3, 1) := by decide +kernel
theorem dX1_compareTwo_3 : decode cX1_compareTwo 3 = .ok (.bipush 16, 2) := by decide +kernel
theorem dX1_compareTwo_5 : decode cX1_compareTwo 5 = .ok (.if_icmp .ge 25, 3) := by decide +kernel
theorem dX1_compareTwo_8 : decode cX1_compareTwo 8 = .ok (.aload_n 0, 1) := by decide +kernel
theorem dX1_compareTwo_9 : decode cX1_compareTwo 9 = .ok (.getfield 28, 3) := by decide +kernel
theorem dX1_compareTwo_12 : decode cX1_compareTwo 12 = .ok (.iload_n 3, 1) := by decide +kernel
theorem dX1_compareTwo_13 : decode cX1_compareTwo 13 = .ok (.iload_n 1, 1) := by decide +kernel
theorem dX1_compareTwo_14 : decode cX1_compareTwo 14 = .ok (.iload_n 2, 1) := by decide +kernel
theorem dX1_compareTwo_15 : decode cX1_compareTwo 15 = .ok (.if_icmp .ne 7, 3) := by decide +kernel
theorem dX1_compareTwo_18 : decode cX1_compareTwo 18 = .ok (.iconst 1, 1) := by decide +kernel
theorem dX1_compareTwo_19 : decode cX1_compareTwo 19 = .ok (.goto 4, 3) := by decide +kernel
theorem dX1_compareTwo_22 : decode cX1_compareTwo 22 = .ok (.iconst 0, 1) := by decide +kernel
theorem dX1_compareTwo_23 : decode cX1_compareTwo 23 = .ok (.bastore, 1) := by decide +kernel
theorem dX1_compareTwo_24 : decode cX1_compareTwo 24 = .ok (.iinc 3 1, 3) := by decide +kernel
theorem dX1_compareTwo_27 : decode cX1_compareTwo 27 = .ok (.goto (-25), 3) := by decide +kernel
theorem dX1_compareTwo_30 : decode cX1_compareTwo 30 = .ok (.iload_n 1, 1) := by decide +kernel
theorem dX1_compareTwo_31 : decode cX1_compareTwo 31 = .ok (.iload_n 2, 1) := by decide +kernel
theorem dX1_compareTwo_32 : decode cX1_compareTwo 32 = .ok (.if_icmp .ne 4, 3) := by decide +kernel
theorem dX1_compareTwo_35 : decode cX1_compareTwo 35 = .ok (.return_, 1) := by decide +kernel
theorem dX1_compareTwo_36 : decode cX1_compareTwo 36 = .ok (.aload_n 0, 1) := by decide +kernel
theorem dX1_compareTwo_37 : decode cX1_compareTwo 37 = .ok (.iload_n 1, 1) := by decide +kernel
theorem dX1_compareTwo_38 : decode cX1_compareTwo 38 = .ok (.invokevirtual 84, 3) := by decide +kernel
theorem dX1_compareTwo_41 : decode cX1_compareTwo 41 = .ok (.aload_n 0, 1) := by decide +kernel
theorem dX1_compareTwo_42 : decode cX1_compareTwo 42 = .ok (.iload_n 2, 1) := by decide +kernel
theorem dX1_compareTwo_43 : decode cX1_compareTwo 43 = .ok (.invokevirtual 84, 3) := by decide +kernel
theorem dX1_compareTwo_46 : decode cX1_compareTwo 46 = .ok (.aload_n 0, 1) := by decide +kernel
theorem dX1_compareTwo_47 : decode cX1_compareTwo 47 = .ok (.iload_n 1, 1) := by decide +kernel
theorem dX1_compareTwo_48 : decode cX1_compareTwo 48 = .ok (.iload_n 2, 1) := by decide +kernel
theorem dX1_compareTwo_49 : decode cX1_compareTwo 49 = .ok (.invokevirtual 87, 3) := by decide +kernel
theorem dX1_compareTwo_52 : decode cX1_compareTwo 52 = .ok (.aload_n 0, 1) := by decide +kernel
theorem dX1_compareTwo_53 : decode cX1_compareTwo 53 = .ok (.iload_n 2, 1) := by decide +kernel
theorem dX1_compareTwo_54 : decode cX1_compareTwo 54 = .ok (.iload_n 1, 1) := by decide +kernel
theorem dX1_compareTwo_55 : decode cX1_compareTwo 55 = .ok (.invokevirtual 87, 3) := by decide +kernel
theorem dX1_compareTwo_58 : decode cX1_compareTwo 58 = .ok (.iconst 0, 1) := by decide +kernel
theorem dX1_compareTwo_59 : decode cX1_compareTwo 59 = .ok (.istore_n 3, 1) := by decide +kernel
theorem dX1_compareTwo_60 : decode cX1_compareTwo 60 = .ok (.iload_n 3, 1) := by decide +kernel
theorem dX1_compareTwo_61 : decode cX1_compareTwo 61 = .ok (.aload_n 0, 1) := by decide +kernel
theorem dX1_compareTwo_62 : decode cX1_compareTwo 62 = .ok (.getfield 16, 3) := by decide +kernel
theorem dX1_compareTwo_65 : decode cX1_compareTwo 65 = .ok (.iload_n 1, 1) := by decide +kernel
theorem dX1_compareTwo_66 : decode cX1_compareTwo 66 = .ok (.iaload, 1) := by decide +kernel
theorem dX1_compareTwo_67 : decode cX1_compareTwo 67 = .ok (.if_icmp .ge 45, 3) := by decide +kernel
theorem dX1_compareTwo_70 : decode cX1_compareTwo 70 = .ok (.aload_n 0, 1) := by decide +kernel
theorem dX1_compareTwo_71 : decode cX1_compareTwo 71 = .ok (.iload_n 2, 1) := by decide +kernel
theorem dX1_compareTwo_72 : decode cX1_compareTwo 72 = .ok (.aload_n 0, 1) := by decide +kernel
theorem dX1_compareTwo_73 : decode cX1_compareTwo 73 = .ok (.getfield 22, 3) := by decide +kernel
theorem dX1_compareTwo_76 : decode cX1_compareTwo 76 = .ok (.bipush 16, 2) := by decide +kernel
theorem dX1_compareTwo_78 : decode cX1_compareTwo 78 = .ok (.iload_n 1, 1) := by decide +kernel
theorem dX1_compareTwo_79 : decode cX1_compareTwo 79 = .ok (.imul, 1) := by decide +kernel
theorem dX1_compareTwo_80 : decode cX1_compareTwo 80 = .ok (.iload_n 3, 1) := by decide +kernel
theorem dX1_compareTwo_81 : decode cX1_compareTwo 81 = .ok (.iadd, 1) := by decide +kernel
theorem dX1_compareTwo_82 : decode cX1_compareTwo 82 = .ok (.iaload, 1) := by decide +kernel
theorem dX1_compareTwo_83 : decode cX1_compareTwo 83 = .ok (.invokevirtual 90, 3) := by decide +kernel
theorem dX1_compareTwo_86 : decode cX1_compareTwo 86 = .ok (.istore 4, 2) := by decide +kernel
theorem dX1_compareTwo_88 : decode cX1_compareTwo 88 = .ok (.aload_n 0, 1) := by decide +kernel
theorem dX1_compareTwo_89 : decode cX1_compareTwo 89 = .ok (.getfield 28, 3) := by decide +kernel
theorem dX1_compareTwo_92 : decode cX1_compareTwo 92 = .ok (.aload_n 0, 1) := by decide +kernel
theorem dX1_compareTwo_93 : decode cX1_compareTwo 93 = .ok (.getfield 25, 3) := by decide +kernel
theorem dX1_compareTwo_96 : decode cX1_compareTwo 96 = .ok (.bipush 16, 2) := by decide +kernel
theorem dX1_compareTwo_98 : decode cX1_compareTwo 98 = .ok (.iload_n 1, 1) := by decide +kernel
theorem dX1_compareTwo_99 : decode cX1_compareTwo 99 = .ok (.imul, 1) := by decide +kernel
theorem dX1_compareTwo_100 : decode cX1_compareTwo 100 = .ok (.iload_n 3, 1) := by decide +kernel
theorem dX1_compareTwo_101 : decode cX1_compareTwo 101 = .ok (.iadd, 1) := by decide +kernel
theorem dX1_compareTwo_102 : decode cX1_compareTwo 102 = .ok (.iaload, 1) := by decide +kernel
theorem dX1_compareTwo_103 : decode cX1_compareTwo 103 = .ok (.iload 4, 2) := by decide +kernel
theorem dX1_compareTwo_105 : decode cX1_compareTwo 105 = .ok (.bastore, 1) := by decide +kernel
theorem dX1_compareTwo_106 : decode cX1_compareTwo 106 = .ok (.iinc 3 1, 3) := by decide +kernel
theorem dX1_compareTwo_109 : decode cX1_compareTwo 109 = .ok (.goto (-49), 3) := by decide +kernel
theorem dX1_compareTwo_112 : decode cX1_compareTwo 112 = .ok (.aload_n 0, 1) := by decide +kernel
theorem dX1_compareTwo_113 : decode cX1_compareTwo 113 = .ok (.aload_n 0, 1) := by decide +kernel
theorem dX1_compareTwo_114 : decode cX1_compareTwo 114 = .ok (.getfield 16, 3) := by decide +kernel
theorem dX1_compareTwo_117 : decode cX1_compareTwo 117 = .ok (.iload_n 1, 1) := by decide +kernel
theorem dX1_compareTwo_118 : decode cX1_compareTwo 118 = .ok (.iaload, 1) := by decide +kernel
theorem dX1_compareTwo_119 : decode cX1_compareTwo 119 = .ok (.aload_n 0, 1) := by decide +kernel
theorem dX1_compareTwo_120 : decode cX1_compareTwo 120 = .ok (.getfield 16, 3) := by decide +kernel
theorem dX1_compareTwo_123 : decode cX1_compareTwo 123 = .ok (.iload_n 2, 1) := by decide +kernel
theorem dX1_compareTwo_124 : decode cX1_compareTwo 124 = .ok (.iaload, 1) := by decide +kernel
theorem dX1_compareTwo_125 : decode cX1_compareTwo 125 = .ok (.iadd, 1) := by decide +kernel
theorem dX1_compareTwo_126 : decode cX1_compareTwo 126 = .ok (.aload_n 0, 1) := by decide +kernel
theorem dX1_compareTwo_127 : decode cX1_compareTwo 127 = .ok (.iload_n 1, 1) := by decide +kernel
theorem dX1_compareTwo_128 : decode cX1_compareTwo 128 = .ok (.invokevirtual 57, 3) := by decide +kernel
theorem dX1_compareTwo_131 : decode cX1_compareTwo 131 = .ok (.isub, 1) := by decide +kernel
theorem dX1_compareTwo_132 : decode cX1_compareTwo 132 = .ok (.putfield 74, 3) := by decide +kernel
theorem dX1_compareTwo_135 : decode cX1_compareTwo 135 = .ok (.return_, 1) := by decide +kernel
abbrev cX1_send : ByteArray := prog_1_method_25_code
def yX1_send : MethodName := ⟨RX1, "send", "(I)V"⟩
theorem dX1_send_0 : decode cX1_send 0 = .ok (.bipush 16, 2) := by decide +kernel
theorem dX1_send_2 : decode cX1_send 2 = .ok (.iload_n 1, 1) := by decide +kernel
theorem dX1_send_3 : decode cX1_send 3 = .ok (.imul, 1) := by decide +kernel
theorem dX1_send_4 : decode cX1_send 4 = .ok (.istore_n 2, 1) := by decide +kernel
theorem dX1_send_5 : decode cX1_send 5 = .ok (.iconst 0, 1) := by decide +kernel
theorem dX1_send_6 : decode cX1_send 6 = .ok (.istore_n 3, 1) := by decide +kernel
theorem dX1_send_7 : decode cX1_send 7 = .ok (.iload_n 3, 1) := by decide +kernel
theorem dX1_send_8 : decode cX1_send 8 = .ok (.aload_n 0, 1) := by decide +kernel
theorem dX1_send_9 : decode cX1_send 9 = .ok (.getfield 16, 3) := by decide +kernel
theorem dX1_send_12 : decode cX1_send 12 = .ok (.iload_n 1, 1) := by decide +kernel
theorem dX1_send_13 : decode cX1_send 13 = .ok (.iaload, 1) := by decide +kernel
theorem dX1_send_14 : decode cX1_send 14 = .ok (.if_icmp .ge 64, 3) := by decide +kernel
theorem dX1_send_17 : decode cX1_send 17 = .ok (.aload_n 0, 1) := by decide +kernel
theorem dX1_send_18 : decode cX1_send 18 = .ok (.getfield 7, 3) := by decide +kernel
theorem dX1_send_21 : decode cX1_send 21 = .ok (.iload_n 2, 1) := by decide +kernel
theorem dX1_send_22 : decode cX1_send 22 = .ok (.iload_n 3, 1) := by decide +kernel
theorem dX1_send_23 : decode cX1_send 23 = .ok (.iadd, 1) := by decide +kernel
theorem dX1_send_24 : decode cX1_send 24 = .ok (.iaload, 1) := by decide +kernel
theorem dX1_send_25 : decode cX1_send 25 = .ok (.iconst 1, 1) := by decide +kernel
theorem dX1_send_26 : decode cX1_send 26 = .ok (.iadd, 1) := by decide +kernel
theorem dX1_send_27 : decode cX1_send 27 = .ok (.aload_n 0, 1) := by decide +kernel
theorem dX1_send_28 : decode cX1_send 28 = .ok (.getfield 7, 3) := by decide +kernel
theorem dX1_send_31 : decode cX1_send 31 = .ok (.iload_n 2, 1) := by decide +kernel
theorem dX1_send_32 : decode cX1_send 32 = .ok (.iload_n 3, 1) := by decide +kernel
theorem dX1_send_33 : decode cX1_send 33 = .ok (.iadd, 1) := by decide +kernel
theorem dX1_send_34 : decode cX1_send 34 = .ok (.iaload, 1) := by decide +kernel
theorem dX1_send_35 : decode cX1_send 35 = .ok (.iconst 1, 1) := by decide +kernel
theorem dX1_send_36 : decode cX1_send 36 = .ok (.iadd, 1) := by decide +kernel
theorem dX1_send_37 : decode cX1_send 37 = .ok (.imul, 1) := by decide +kernel
theorem dX1_send_38 : decode cX1_send 38 = .ok (.sipush 2039, 3) := by decide +kernel
theorem dX1_send_41 : decode cX1_send 41 = .ok (.irem, 1) := by decide +kernel
theorem dX1_send_42 : decode cX1_send 42 = .ok (.istore 4, 2) := by decide +kernel
theorem dX1_send_44 : decode cX1_send 44 = .ok (.aload_n 0, 1) := by decide +kernel
theorem dX1_send_45 : decode cX1_send 45 = .ok (.getfield 22, 3) := by decide +kernel
theorem dX1_send_48 : decode cX1_send 48 = .ok (.iload_n 2, 1) := by decide +kernel
theorem dX1_send_49 : decode cX1_send 49 = .ok (.iload_n 3, 1) := by decide +kernel
theorem dX1_send_50 : decode cX1_send 50 = .ok (.iadd, 1) := by decide +kernel
theorem dX1_send_51 : decode cX1_send 51 = .ok (.iload 4, 2) := by decide +kernel
theorem dX1_send_53 : decode cX1_send 53 = .ok (.aload_n 0, 1) := by decide +kernel
theorem dX1_send_54 : decode cX1_send 54 = .ok (.getfield 19, 3) := by decide +kernel
theorem dX1_send_57 : decode cX1_send 57 = .ok (.iload_n 1, 1) := by decide +kernel
theorem dX1_send_58 : decode cX1_send 58 = .ok (.iaload, 1) := by decide +kernel
theorem dX1_send_59 : decode cX1_send 59 = .ok (.invokestatic 78, 3) := by decide +kernel
theorem dX1_send_62 : decode cX1_send 62 = .ok (.iastore, 1) := by decide +kernel
theorem dX1_send_63 : decode cX1_send 63 = .ok (.aload_n 0, 1) := by decide +kernel
theorem dX1_send_64 : decode cX1_send 64 = .ok (.getfield 25, 3) := by decide +kernel
theorem dX1_send_67 : decode cX1_send 67 = .ok (.iload_n 2, 1) := by decide +kernel
theorem dX1_send_68 : decode cX1_send 68 = .ok (.iload_n 3, 1) := by decide +kernel
theorem dX1_send_69 : decode cX1_send 69 = .ok (.iadd, 1) := by decide +kernel
theorem dX1_send_70 : decode cX1_send 70 = .ok (.iload_n 3, 1) := by decide +kernel
theorem dX1_send_71 : decode cX1_send 71 = .ok (.iastore, 1) := by decide +kernel
theorem dX1_send_72 : decode cX1_send 72 = .ok (.iinc 3 1, 3) := by decide +kernel
theorem dX1_send_75 : decode cX1_send 75 = .ok (.goto (-68), 3) := by decide +kernel
theorem dX1_send_78 : decode cX1_send 78 = .ok (.aload_n 0, 1) := by decide +kernel
theorem dX1_send_79 : decode cX1_send 79 = .ok (.getfield 16, 3) := by decide +kernel
theorem dX1_send_82 : decode cX1_send 82 = .ok (.iload_n 1, 1) := by decide +kernel
theorem dX1_send_83 : decode cX1_send 83 = .ok (.iaload, 1) := by decide +kernel
theorem dX1_send_84 : decode cX1_send 84 = .ok (.iconst 1, 1) := by decide +kernel
theorem dX1_send_85 : decode cX1_send 85 = .ok (.isub, 1) := by decide +kernel
theorem dX1_send_86 : decode cX1_send 86 = .ok (.istore_n 3, 1) := by decide +kernel
theorem dX1_send_87 : decode cX1_send 87 = .ok (.iload_n 3, 1) := by decide +kernel
theorem dX1_send_88 : decode cX1_send 88 = .ok (.ifCond .le 88, 3) := by decide +kernel
theorem dX1_send_91 : decode cX1_send 91 = .ok (.iload_n 2, 1) := by decide +kernel
theorem dX1_send_92 : decode cX1_send 92 = .ok (.aload_n 0, 1) := by decide +kernel
theorem dX1_send_93 : decode cX1_send 93 = .ok (.iload_n 3, 1) := by decide +kernel
theorem dX1_send_94 : decode cX1_send 94 = .ok (.iconst 1, 1) := by decide +kernel
theorem dX1_send_95 : decode cX1_send 95 = .ok (.iadd, 1) := by decide +kernel
theorem dX1_send_96 : decode cX1_send 96 = .ok (.invokevirtual 81, 3) := by decide +kernel
theorem dX1_send_99 : decode cX1_send 99 = .ok (.iadd, 1) := by decide +kernel
theorem dX1_send_100 : decode cX1_send 100 = .ok (.istore 4, 2) := by decide +kernel
theorem dX1_send_102 : decode cX1_send 102 = .ok (.aload_n 0, 1) := by decide +kernel
theorem dX1_send_103 : decode cX1_send 103 = .ok (.getfield 22, 3) := by decide +kernel
theorem dX1_send_106 : decode cX1_send 106 = .ok (.iload_n 2, 1) := by decide +kernel
theorem dX1_send_107 : decode cX1_send 107 = .ok (.iload_n 3, 1) := by decide +kernel
theorem dX1_send_108 : decode cX1_send 108 = .ok (.iadd, 1) := by decide +kernel
theorem dX1_send_109 : decode cX1_send 109 = .ok (.iaload, 1) := by decide +kernel
theorem dX1_send_110 : decode cX1_send 110 = .ok (.istore 5, 2) := by decide +kernel
theorem dX1_send_112 : decode cX1_send 112 = .ok (.aload_n 0, 1) := by decide +kernel
theorem dX1_send_113 : decode cX1_send 113 = .ok (.getfield 25, 3) := by decide +kernel
theorem dX1_send_116 : decode cX1_send 116 = .ok (.iload_n 2, 1) := by decide +kernel
theorem dX1_send_117 : decode cX1_send 117 = .ok (.iload_n 3, 1) := by decide +kernel
theorem dX1_send_118 : decode cX1_send 118 = .ok (.iadd, 1) := by decide +kernel
theorem dX1_send_119 : decode cX1_send 119 = .ok (.iaload, 1) := by decide +kernel
theorem dX1_send_120 : decode cX1_send 120 = .ok (.istore 6, 2) := by decide +kernel
theorem dX1_send_122 : decode cX1_send 122 = .ok (.aload_n 0, 1) := by decide +kernel
theorem dX1_send_123 : decode cX1_send 123 = .ok (.getfield 22, 3) := by decide +kernel
theorem dX1_send_126 : decode cX1_send 126 = .ok (.iload_n 2, 1) := by decide +kernel
theorem dX1_send_127 : decode cX1_send 127 = .ok (.iload_n 3, 1) := by decide +kernel
theorem dX1_send_128 : decode cX1_send 128 = .ok (.iadd, 1) := by decide +kernel
theorem dX1_send_129 : decode cX1_send 129 = .ok (.aload_n 0, 1) := by decide +kernel
theorem dX1_send_130 : decode cX1_send 130 = .ok (.getfield 22, 3) := by decide +kernel
theorem dX1_send_133 : decode cX1_send 133 = .ok (.iload 4, 2) := by decide +kernel
theorem dX1_send_135 : decode cX1_send 135 = .ok (.iaload, 1) := by decide +kernel
theorem dX1_send_136 : decode cX1_send 136 = .ok (.iastore, 1) := by decide +kernel
theorem dX1_send_137 : decode cX1_send 137 = .ok (.aload_n 0, 1) := by decide +kernel
theorem dX1_send_138 : decode cX1_send 138 = .ok (.getfield 25, 3) := by decide +kernel
theorem dX1_send_141 : decode cX1_send 141 = .ok (.iload_n 2, 1) := by decide +kernel
theorem dX1_send_142 : decode cX1_send 142 = .ok (.iload_n 3, 1) := by decide +kernel
theorem dX1_send_143 : decode cX1_send 143 = .ok (.iadd, 1) := by decide +kernel
theorem dX1_send_144 : decode cX1_send 144 = .ok (.aload_n 0, 1) := by decide +kernel
theorem dX1_send_145 : decode cX1_send 145 = .ok (.getfield 25, 3) := by decide +kernel
theorem dX1_send_148 : decode cX1_send 148 = .ok (.iload 4, 2) := by decide +kernel
theorem dX1_send_150 : decode cX1_send 150 = .ok (.iaload, 1) := by decide +kernel
theorem dX1_send_151 : decode cX1_send 151 = .ok (.iastore, 1) := by decide +kernel
theorem dX1_send_152 : decode cX1_send 152 = .ok (.aload_n 0, 1) := by decide +kernel
theorem dX1_send_153 : decode cX1_send 153 = .ok (.getfield 22, 3) := by decide +kernel
theorem dX1_send_156 : decode cX1_send 156 = .ok (.iload 4, 2) := by decide +kernel
theorem dX1_send_158 : decode cX1_send 158 = .ok (.iload 5, 2) := by decide +kernel
theorem dX1_send_160 : decode cX1_send 160 = .ok (.iastore, 1) := by decide +kernel
theorem dX1_send_161 : decode cX1_send 161 = .ok (.aload_n 0, 1) := by decide +kernel
theorem dX1_send_162 : decode cX1_send 162 = .ok (.getfield 25, 3) := by decide +kernel
theorem dX1_send_165 : decode cX1_send 165 = .ok (.iload 4, 2) := by decide +kernel
theorem dX1_send_167 : decode cX1_send 167 = .ok (.iload 6, 2) := by decide +kernel
theorem dX1_send_169 : decode cX1_send 169 = .ok (.iastore, 1) := by decide +kernel
theorem dX1_send_170 : decode cX1_send 170 = .ok (.iinc 3 (-1), 3) := by decide +kernel
theorem dX1_send_173 : decode cX1_send 173 = .ok (.goto (-86), 3) := by decide +kernel
theorem dX1_send_176 : decode cX1_send 176 = .ok (.return_, 1) := by decide +kernel
end
section
set_option maxRecDepth 100000
abbrev cX1_power : ByteArray := prog_1_method_23_code
def yX1_power : MethodName := ⟨RX1, "power", "(II)I"⟩
theorem dX1_power_0 : decode cX1_power 0 = .ok (.iconst 1, 1) := by decide +kernel
theorem dX1_power_1 : decode cX1_power 1 = .ok (.istore_n 2, 1) := by decide +kernel
theorem dX1_power_2 : decode cX1_power 2 = .ok (.iload_n 0, 1) := by decide +kernel
theorem dX1_power_3 : decode cX1_power 3 = .ok (.sipush 2039, 3) := by decide +kernel
theorem dX1_power_6 : decode cX1_power 6 = .ok (.irem, 1) := by decide +kernel
theorem dX1_power_7 : decode cX1_power 7 = .ok (.istore_n 3, 1) := by decide +kernel
theorem dX1_power_8 : decode cX1_power 8 = .ok (.iconst 0, 1) := by decide +kernel
theorem dX1_power_9 : decode cX1_power 9 = .ok (.istore 4, 2) := by decide +kernel
theorem dX1_power_11 : decode cX1_power 11 = .ok (.iload 4, 2) := by decide +kernel
theorem dX1_power_13 : decode cX1_power 13 = .ok (.bipush 10, 2) := by decide +kernel
theorem dX1_power_15 : decode cX1_power 15 = .ok (.if_icmp .ge 35, 3) := by decide +kernel
theorem dX1_power_18 : decode cX1_power 18 = .ok (.iload_n 1, 1) := by decide +kernel
theorem dX1_power_19 : decode cX1_power 19 = .ok (.iload 4, 2) := by decide +kernel
theorem dX1_power_21 : decode cX1_power 21 = .ok (.ishr, 1) := by decide +kernel
theorem dX1_power_22 : decode cX1_power 22 = .ok (.iconst 1, 1) := by decide +kernel
theorem dX1_power_23 : decode cX1_power 23 = .ok (.iand, 1) := by decide +kernel
theorem dX1_power_24 : decode cX1_power 24 = .ok (.iconst 1, 1) := by decide +kernel
theorem dX1_power_25 : decode cX1_power 25 = .ok (.if_icmp .ne 11, 3) := by decide +kernel
theorem dX1_power_28 : decode cX1_power 28 = .ok (.iload_n 2, 1) := by decide +kernel
theorem dX1_power_29 : decode cX1_power 29 = .ok (.iload_n 3, 1) := by decide +kernel
theorem dX1_power_30 : decode cX1_power 30 = .ok (.imul, 1) := by decide +kernel
theorem dX1_power_31 : decode cX1_power 31 = .ok (.sipush 2039, 3) := by decide +kernel
theorem dX1_power_34 : decode cX1_power 34 = .ok (.irem, 1) := by decide +kernel
theorem dX1_power_35 : decode cX1_power 35 = .ok (.istore_n 2, 1) := by decide +kernel
theorem dX1_power_36 : decode cX1_power 36 = .ok (.iload_n 3, 1) := by decide +kernel
theorem dX1_power_37 : decode cX1_power 37 = .ok (.iload_n 3, 1) := by decide +kernel
theorem dX1_power_38 : decode cX1_power 38 = .ok (.imul, 1) := by decide +kernel
theorem dX1_power_39 : decode cX1_power 39 = .ok (.sipush 2039, 3) := by decide +kernel
theorem dX1_power_42 : decode cX1_power 42 = .ok (.irem, 1) := by decide +kernel
theorem dX1_power_43 : decode cX1_power 43 = .ok (.istore_n 3, 1) := by decide +kernel
theorem dX1_power_44 : decode cX1_power 44 = .ok (.iinc 4 1, 3) := by decide +kernel
theorem dX1_power_47 : decode cX1_power 47 = .ok (.goto (-36), 3) := by decide +kernel
theorem dX1_power_50 : decode cX1_power 50 = .ok (.iload_n 2, 1) := by decide +kernel
theorem dX1_power_51 : decode cX1_power 51 = .ok (.ireturn, 1) := by decide +kernel
abbrev cX1_next : ByteArray := prog_1_method_24_code
def yX1_next : MethodName := ⟨RX1, "next", "(I)I"⟩
theorem dX1_next_0 : decode cX1_next 0 = .ok (.aload_n 0, 1) := by decide +kernel
theorem dX1_next_1 : decode cX1_next 1 = .ok (.aload_n 0, 1) := by decide +kernel
theorem dX1_next_2 : decode cX1_next 2 = .ok (.getfield 40, 3) := by decide +kernel
theorem dX1_next_5 : decode cX1_next 5 = .ok (.ldc 77, 2) := by decide +kernel
theorem dX1_next_7 : decode cX1_next 7 = .ok (.imul, 1) := by decide +kernel
theorem dX1_next_8 : decode cX1_next 8 = .ok (.sipush 12345, 3) := by decide +kernel
theorem dX1_next_11 : decode cX1_next 11 = .ok (.iadd, 1) := by decide +kernel
theorem dX1_next_12 : decode cX1_next 12 = .ok (.putfield 40, 3) := by decide +kernel
theorem dX1_next_15 : decode cX1_next 15 = .ok (.aload_n 0, 1) := by decide +kernel
theorem dX1_next_16 : decode cX1_next 16 = .ok (.getfield 40, 3) := by decide +kernel
theorem dX1_next_19 : decode cX1_next 19 = .ok (.bipush 16, 2) := by decide +kernel
theorem dX1_next_21 : decode cX1_next 21 = .ok (.iushr, 1) := by decide +kernel
theorem dX1_next_22 : decode cX1_next 22 = .ok (.sipush 32767, 3) := by decide +kernel
theorem dX1_next_25 : decode cX1_next 25 = .ok (.iand, 1) := by decide +kernel
theorem dX1_next_26 : decode cX1_next 26 = .ok (.istore_n 2, 1) := by decide +kernel
theorem dX1_next_27 : decode cX1_next 27 = .ok (.iload_n 1, 1) := by decide +kernel
theorem dX1_next_28 : decode cX1_next 28 = .ok (.ifCond .le 9, 3) := by decide +kernel
theorem dX1_next_31 : decode cX1_next 31 = .ok (.iload_n 2, 1) := by decide +kernel
theorem dX1_next_32 : decode cX1_next 32 = .ok (.iload_n 1, 1) := by decide +kernel
theorem dX1_next_33 : decode cX1_next 33 = .ok (.irem, 1) := by decide +kernel
theorem dX1_next_34 : decode cX1_next 34 = .ok (.goto 4, 3) := by decide +kernel
theorem dX1_next_37 : decode cX1_next 37 = .ok (.iconst 0, 1) := by decide +kernel
theorem dX1_next_38 : decode cX1_next 38 = .ok (.ireturn, 1) := by decide +kernel
abbrev cX1_raise : ByteArray := prog_1_method_26_code
def yX1_raise : MethodName := ⟨RX1, "raise", "(II)V"⟩
theorem dX1_raise_0 : decode cX1_raise 0 = .ok (.bipush 16, 2) := by decide +kernel
theorem dX1_raise_2 : decode cX1_raise 2 = .ok (.iload_n 1, 1) := by decide +kernel
theorem dX1_raise_3 : decode cX1_raise 3 = .ok (.imul, 1) := by decide +kernel
theorem dX1_raise_4 : decode cX1_raise 4 = .ok (.istore_n 3, 1) := by decide +kernel
theorem dX1_raise_5 : decode cX1_raise 5 = .ok (.iload_n 3, 1) := by decide +kernel
theorem dX1_raise_6 : decode cX1_raise 6 = .ok (.bipush 16, 2) := by decide +kernel
theorem dX1_raise_8 : decode cX1_raise 8 = .ok (.iload_n 1, 1) := by decide +kernel
theorem dX1_raise_9 : decode cX1_raise 9 = .ok (.imul, 1) := by decide +kernel
theorem dX1_raise_10 : decode cX1_raise 10 = .ok (.aload_n 0, 1) := by decide +kernel
theorem dX1_raise_11 : decode cX1_raise 11 = .ok (.getfield 16, 3) := by decide +kernel
theorem dX1_raise_14 : decode cX1_raise 14 = .ok (.iload_n 1, 1) := by decide +kernel
theorem dX1_raise_15 : decode cX1_raise 15 = .ok (.iaload, 1) := by decide +kernel
theorem dX1_raise_16 : decode cX1_raise 16 = .ok (.iadd, 1) := by decide +kernel
theorem dX1_raise_17 : decode cX1_raise 17 = .ok (.if_icmp .ge 30, 3) := by decide +kernel
theorem dX1_raise_20 : decode cX1_raise 20 = .ok (.aload_n 0, 1) := by decide +kernel
theorem dX1_raise_21 : decode cX1_raise 21 = .ok (.getfield 22, 3) := by decide +kernel
theorem dX1_raise_24 : decode cX1_raise 24 = .ok (.iload_n 3, 1) := by decide +kernel
theorem dX1_raise_25 : decode cX1_raise 25 = .ok (.aload_n 0, 1) := by decide +kernel
theorem dX1_raise_26 : decode cX1_raise 26 = .ok (.getfield 22, 3) := by decide +kernel
theorem dX1_raise_29 : decode cX1_raise 29 = .ok (.iload_n 3, 1) := by decide +kernel
theorem dX1_raise_30 : decode cX1_raise 30 = .ok (.iaload, 1) := by decide +kernel
theorem dX1_raise_31 : decode cX1_raise 31 = .ok (.aload_n 0, 1) := by decide +kernel
theorem dX1_raise_32 : decode cX1_raise 32 = .ok (.getfield 19, 3) := by decide +kernel
theorem dX1_raise_35 : decode cX1_raise 35 = .ok (.iload_n 2, 1) := by decide +kernel
theorem dX1_raise_36 : decode cX1_raise 36 = .ok (.iaload, 1) := by decide +kernel
theorem dX1_raise_37 : decode cX1_raise 37 = .ok (.invokestatic 78, 3) := by decide +kernel
theorem dX1_raise_40 : decode cX1_raise 40 = .ok (.iastore, 1) := by decide +kernel
theorem dX1_raise_41 : decode cX1_raise 41 = .ok (.iinc 3 1, 3) := by decide +kernel
theorem dX1_raise_44 : decode cX1_raise 44 = .ok (.goto (-39), 3) := by decide +kernel
theorem dX1_raise_47 : decode cX1_raise 47 = .ok (.return_, 1) := by decide +kernel
abbrev cX1_isSent : ByteArray := prog_1_method_27_code
def yX1_isSent : MethodName := ⟨RX1, "isSent", "(II)Z"⟩
theorem dX1_isSent_0 : decode cX1_isSent 0 = .ok (.bipush 16, 2) := by decide +kernel
theorem dX1_isSent_2 : decode cX1_isSent 2 = .ok (.iload_n 1, 1) := by decide +kernel
theorem dX1_isSent_3 : decode cX1_isSent 3 = .ok (.imul, 1) := by decide +kernel
theorem dX1_isSent_4 : decode cX1_isSent 4 = .ok (.istore_n 3, 1) := by decide +kernel
theorem dX1_isSent_5 : decode cX1_isSent 5 = .ok (.iload_n 3, 1) := by decide +kernel
theorem dX1_isSent_6 : decode cX1_isSent 6 = .ok (.bipush 16, 2) := by decide +kernel
theorem dX1_isSent_8 : decode cX1_isSent 8 = .ok (.iload_n 1, 1) := by decide +kernel
theorem dX1_isSent_9 : decode cX1_isSent 9 = .ok (.imul, 1) := by decide +kernel
theorem dX1_isSent_10 : decode cX1_isSent 10 = .ok (.aload_n 0, 1) := by decide +kernel
theorem dX1_isSent_11 : decode cX1_isSent 11 = .ok (.getfield 16, 3) := by decide +kernel
theorem dX1_isSent_14 : decode cX1_isSent 14 = .ok (.iload_n 1, 1) := by decide +kernel
theorem dX1_isSent_15 : decode cX1_isSent 15 = .ok (.iaload, 1) := by decide +kernel
theorem dX1_isSent_16 : decode cX1_isSent 16 = .ok (.iadd, 1) := by decide +kernel
theorem dX1_isSent_17 : decode cX1_isSent 17 = .ok (.if_icmp .ge 21, 3) := by decide +kernel
theorem dX1_isSent_20 : decode cX1_isSent 20 = .ok (.aload_n 0, 1) := by decide +kernel
theorem dX1_isSent_21 : decode cX1_isSent 21 = .ok (.getfield 22, 3) := by decide +kernel
theorem dX1_isSent_24 : decode cX1_isSent 24 = .ok (.iload_n 3, 1) := by decide +kernel
theorem dX1_isSent_25 : decode cX1_isSent 25 = .ok (.iaload, 1) := by decide +kernel
theorem dX1_isSent_26 : decode cX1_isSent 26 = .ok (.iload_n 2, 1) := by decide +kernel
theorem dX1_isSent_27 : decode cX1_isSent 27 = .ok (.if_icmp .ne 5, 3) := by decide +kernel
theorem dX1_isSent_30 : decode cX1_isSent 30 = .ok (.iconst 1, 1) := by decide +kernel
theorem dX1_isSent_31 : decode cX1_isSent 31 = .ok (.ireturn, 1) := by decide +kernel
theorem dX1_isSent_32 : decode cX1_isSent 32 = .ok (.iinc 3 1, 3) := by decide +kernel
theorem dX1_isSent_35 : decode cX1_isSent 35 = .ok (.goto (-30), 3) := by decide +kernel
theorem dX1_isSent_38 : decode cX1_isSent 38 = .ok (.iconst 0, 1) := by decide +kernel
theorem dX1_isSent_39 : decode cX1_isSent 39 = .ok (.ireturn, 1) := by decide +kernel
abbrev cX1_hits : ByteArray := prog_1_method_31_code
def yX1_hits : MethodName := ⟨RX1, "hits", "(I)I"⟩
theorem dX1_hits_0 : decode cX1_hits 0 = .ok (.iconst 0, 1) := by decide +kernel
theorem dX1_hits_1 : decode cX1_hits 1 = .ok (.istore_n 2, 1) := by decide +kernel
theorem dX1_hits_2 : decode cX1_hits 2 = .ok (.iconst 0, 1) := by decide +kernel
theorem dX1_hits_3 : decode cX1_hits 3 = .ok (.istore_n 3, 1) := by decide +kernel
theorem dX1_hits_4 : decode cX1_hits 4 = .ok (.iload_n 3, 1) := by decide +kernel
theorem dX1_hits_5 : decode cX1_hits 5 = .ok (.aload_n 0, 1) := by decide +kernel
theorem dX1_hits_6 : decode cX1_hits 6 = .ok (.getfield 16, 3) := by decide +kernel
theorem dX1_hits_9 : decode cX1_hits 9 = .ok (.iload_n 1, 1) := by decide +kernel
theorem dX1_hits_10 : decode cX1_hits 10 = .ok (.iaload, 1) := by decide +kernel
theorem dX1_hits_11 : decode cX1_hits 11 = .ok (.if_icmp .ge 26, 3) := by decide +kernel
theorem dX1_hits_14 : decode cX1_hits 14 = .ok (.iload_n 2, 1) := by decide +kernel
theorem dX1_hits_15 : decode cX1_hits 15 = .ok (.aload_n 0, 1) := by decide +kernel
theorem dX1_hits_16 : decode cX1_hits 16 = .ok (.getfield 28, 3) := by decide +kernel
theorem dX1_hits_19 : decode cX1_hits 19 = .ok (.iload_n 3, 1) := by decide +kernel
theorem dX1_hits_20 : decode cX1_hits 20 = .ok (.baload, 1) := by decide +kernel
theorem dX1_hits_21 : decode cX1_hits 21 = .ok (.ifCond .eq 7, 3) := by decide +kernel
theorem dX1_hits_24 : decode cX1_hits 24 = .ok (.iconst 1, 1) := by decide +kernel
theorem dX1_hits_25 : decode cX1_hits 25 = .ok (.goto 4, 3) := by decide +kernel
theorem dX1_hits_28 : decode cX1_hits 28 = .ok (.iconst 0, 1) := by decide +kernel
theorem dX1_hits_29 : decode cX1_hits 29 = .ok (.iadd, 1) := by decide +kernel
theorem dX1_hits_30 : decode cX1_hits 30 = .ok (.istore_n 2, 1) := by decide +kernel
theorem dX1_hits_31 : decode cX1_hits 31 = .ok (.iinc 3 1, 3) := by decide +kernel
theorem dX1_hits_34 : decode cX1_hits 34 = .ok (.goto (-30), 3) := by decide +kernel
theorem dX1_hits_37 : decode cX1_hits 37 = .ok (.iload_n 2, 1) := by decide +kernel
theorem dX1_hits_38 : decode cX1_hits 38 = .ok (.ireturn, 1) := by decide +kernel
abbrev cX1_commonItem : ByteArray := prog_1_method_10_code
def yX1_commonItem : MethodName := ⟨RX1, "commonItem", "(III)I"⟩
theorem dX1_commonItem_0 : decode cX1_commonItem 0 = .ok (.iload_n 1, 1) := by decide +kernel
theorem dX1_commonItem_1 : decode cX1_commonItem 1 = .ok (.invokestatic 36, 3) := by decide +kernel
theorem dX1_commonItem_4 : decode cX1_commonItem 4 = .ok (.ifCond .eq 10, 3) := by decide +kernel
theorem dX1_commonItem_7 : decode cX1_commonItem 7 = .ok (.iload_n 2, 1) := by decide +kernel
theorem dX1_commonItem_8 : decode cX1_commonItem 8 = .ok (.invokestatic 36, 3) := by decide +kernel
theorem dX1_commonItem_11 : decode cX1_commonItem 11 = .ok (.ifCond .ne 5, 3) := by decide +kernel
theorem dX1_commonItem_14 : decode cX1_commonItem 14 = .ok (.iconst (-1), 1) := by decide +kernel
theorem dX1_commonItem_15 : decode cX1_commonItem 15 = .ok (.ireturn, 1) := by decide +kernel
theorem dX1_commonItem_16 : decode cX1_commonItem 16 = .ok (.aload_n 0, 1) := by decide +kernel
theorem dX1_commonItem_17 : decode cX1_commonItem 17 = .ok (.iload_n 1, 1) := by decide +kernel
theorem dX1_commonItem_18 : decode cX1_commonItem 18 = .ok (.iload_n 2, 1) := by decide +kernel
theorem dX1_commonItem_19 : decode cX1_commonItem 19 = .ok (.invokevirtual 53, 3) := by decide +kernel
theorem dX1_commonItem_22 : decode cX1_commonItem 22 = .ok (.aload_n 0, 1) := by decide +kernel
theorem dX1_commonItem_23 : decode cX1_commonItem 23 = .ok (.iload_n 1, 1) := by decide +kernel
theorem dX1_commonItem_24 : decode cX1_commonItem 24 = .ok (.iload_n 3, 1) := by decide +kernel
theorem dX1_commonItem_25 : decode cX1_commonItem 25 = .ok (.invokevirtual 61, 3) := by decide +kernel
theorem dX1_commonItem_28 : decode cX1_commonItem 28 = .ok (.ifCond .ge 8, 3) := by decide +kernel
theorem dX1_commonItem_31 : decode cX1_commonItem 31 = .ok (.bipush (-2), 2) := by decide +kernel
theorem dX1_commonItem_33 : decode cX1_commonItem 33 = .ok (.goto 19, 3) := by decide +kernel
theorem dX1_commonItem_36 : decode cX1_commonItem 36 = .ok (.aload_n 0, 1) := by decide +kernel
theorem dX1_commonItem_37 : decode cX1_commonItem 37 = .ok (.getfield 7, 3) := by decide +kernel
theorem dX1_commonItem_40 : decode cX1_commonItem 40 = .ok (.bipush 16, 2) := by decide +kernel
theorem dX1_commonItem_42 : decode cX1_commonItem 42 = .ok (.iload_n 1, 1) := by decide +kernel
theorem dX1_commonItem_43 : decode cX1_commonItem 43 = .ok (.imul, 1) := by decide +kernel
theorem dX1_commonItem_44 : decode cX1_commonItem 44 = .ok (.aload_n 0, 1) := by decide +kernel
theorem dX1_commonItem_45 : decode cX1_commonItem 45 = .ok (.iload_n 1, 1) := by decide +kernel
theorem dX1_commonItem_46 : decode cX1_commonItem 46 = .ok (.iload_n 3, 1) := by decide +kernel
theorem dX1_commonItem_47 : decode cX1_commonItem 47 = .ok (.invokevirtual 61, 3) := by decide +kernel
theorem dX1_commonItem_50 : decode cX1_commonItem 50 = .ok (.iadd, 1) := by decide +kernel
theorem dX1_commonItem_51 : decode cX1_commonItem 51 = .ok (.iaload, 1) := by decide +kernel
theorem dX1_commonItem_52 : decode cX1_commonItem 52 = .ok (.ireturn, 1) := by decide +kernel
abbrev cX1_hitNumber : ByteArray := prog_1_method_32_code
def yX1_hitNumber : MethodName := ⟨RX1, "hitNumber", "(II)I"⟩
theorem dX1_hitNumber_0 : decode cX1_hitNumber 0 = .ok (.iload_n 2, 1) := by decide +kernel
theorem dX1_hitNumber_1 : decode cX1_hitNumber 1 = .ok (.istore_n 3, 1) := by decide +kernel
theorem dX1_hitNumber_2 : decode cX1_hitNumber 2 = .ok (.iconst 0, 1) := by decide +kernel
theorem dX1_hitNumber_3 : decode cX1_hitNumber 3 = .ok (.istore 4, 2) := by decide +kernel
theorem dX1_hitNumber_5 : decode cX1_hitNumber 5 = .ok (.iload 4, 2) := by decide +kernel
theorem dX1_hitNumber_7 : decode cX1_hitNumber 7 = .ok (.aload_n 0, 1) := by decide +kernel
theorem dX1_hitNumber_8 : decode cX1_hitNumber 8 = .ok (.getfield 16, 3) := by decide +kernel
theorem dX1_hitNumber_11 : decode cX1_hitNumber 11 = .ok (.iload_n 1, 1) := by decide +kernel
theorem dX1_hitNumber_12 : decode cX1_hitNumber 12 = .ok (.iaload, 1) := by decide +kernel
theorem dX1_hitNumber_13 : decode cX1_hitNumber 13 = .ok (.if_icmp .ge 29, 3) := by decide +kernel
theorem dX1_hitNumber_16 : decode cX1_hitNumber 16 = .ok (.aload_n 0, 1) := by decide +kernel
theorem dX1_hitNumber_17 : decode cX1_hitNumber 17 = .ok (.getfield 28, 3) := by decide +kernel
theorem dX1_hitNumber_20 : decode cX1_hitNumber 20 = .ok (.iload 4, 2) := by decide +kernel
theorem dX1_hitNumber_22 : decode cX1_hitNumber 22 = .ok (.baload, 1) := by decide +kernel
theorem dX1_hitNumber_23 : decode cX1_hitNumber 23 = .ok (.ifCond .eq 13, 3) := by decide +kernel
theorem dX1_hitNumber_26 : decode cX1_hitNumber 26 = .ok (.iload_n 3, 1) := by decide +kernel
theorem dX1_hitNumber_27 : decode cX1_hitNumber 27 = .ok (.ifCond .ne 6, 3) := by decide +kernel
theorem dX1_hitNumber_30 : decode cX1_hitNumber 30 = .ok (.iload 4, 2) := by decide +kernel
theorem dX1_hitNumber_32 : decode cX1_hitNumber 32 = .ok (.ireturn, 1) := by decide +kernel
theorem dX1_hitNumber_33 : decode cX1_hitNumber 33 = .ok (.iinc 3 (-1), 3) := by decide +kernel
theorem dX1_hitNumber_36 : decode cX1_hitNumber 36 = .ok (.iinc 4 1, 3) := by decide +kernel
theorem dX1_hitNumber_39 : decode cX1_hitNumber 39 = .ok (.goto (-34), 3) := by decide +kernel
theorem dX1_hitNumber_42 : decode cX1_hitNumber 42 = .ok (.iconst (-1), 1) := by decide +kernel
theorem dX1_hitNumber_43 : decode cX1_hitNumber 43 = .ok (.ireturn, 1) := by decide +kernel
abbrev cX1_commonWeight : ByteArray := prog_1_method_11_code
def yX1_commonWeight : MethodName := ⟨RX1, "commonWeight", "(II)I"⟩
theorem dX1_commonWeight_0 : decode cX1_commonWeight 0 = .ok (.iload_n 1, 1) := by decide +kernel
theorem dX1_commonWeight_1 : decode cX1_commonWeight 1 = .ok (.invokestatic 36, 3) := by decide +kernel
theorem dX1_commonWeight_4 : decode cX1_commonWeight 4 = .ok (.ifCond .eq 10, 3) := by decide +kernel
theorem dX1_commonWeight_7 : decode cX1_commonWeight 7 = .ok (.iload_n 2, 1) := by decide +kernel
theorem dX1_commonWeight_8 : decode cX1_commonWeight 8 = .ok (.invokestatic 36, 3) := by decide +kernel
theorem dX1_commonWeight_11 : decode cX1_commonWeight 11 = .ok (.ifCond .ne 5, 3) := by decide +kernel
theorem dX1_commonWeight_14 : decode cX1_commonWeight 14 = .ok (.iconst 0, 1) := by decide +kernel
theorem dX1_commonWeight_15 : decode cX1_commonWeight 15 = .ok (.ireturn, 1) := by decide +kernel
theorem dX1_commonWeight_16 : decode cX1_commonWeight 16 = .ok (.aload_n 0, 1) := by decide +kernel
theorem dX1_commonWeight_17 : decode cX1_commonWeight 17 = .ok (.iload_n 1, 1) := by decide +kernel
theorem dX1_commonWeight_18 : decode cX1_commonWeight 18 = .ok (.iload_n 2, 1) := by decide +kernel
theorem dX1_commonWeight_19 : decode cX1_commonWeight 19 = .ok (.invokevirtual 53, 3) := by decide +kernel
theorem dX1_commonWeight_22 : decode cX1_commonWeight 22 = .ok (.iconst 0, 1) := by decide +kernel
theorem dX1_commonWeight_23 : decode cX1_commonWeight 23 = .ok (.istore_n 3, 1) := by decide +kernel
theorem dX1_commonWeight_24 : decode cX1_commonWeight 24 = .ok (.iconst 0, 1) := by decide +kernel
theorem dX1_commonWeight_25 : decode cX1_commonWeight 25 = .ok (.istore 4, 2) := by decide +kernel
theorem dX1_commonWeight_27 : decode cX1_commonWeight 27 = .ok (.iload 4, 2) := by decide +kernel
theorem dX1_commonWeight_29 : decode cX1_commonWeight 29 = .ok (.aload_n 0, 1) := by decide +kernel
theorem dX1_commonWeight_30 : decode cX1_commonWeight 30 = .ok (.getfield 16, 3) := by decide +kernel
theorem dX1_commonWeight_33 : decode cX1_commonWeight 33 = .ok (.iload_n 1, 1) := by decide +kernel
theorem dX1_commonWeight_34 : decode cX1_commonWeight 34 = .ok (.iaload, 1) := by decide +kernel
theorem dX1_commonWeight_35 : decode cX1_commonWeight 35 = .ok (.if_icmp .ge 38, 3) := by decide +kernel
theorem dX1_commonWeight_38 : decode cX1_commonWeight 38 = .ok (.iload_n 3, 1) := by decide +kernel
theorem dX1_commonWeight_39 : decode cX1_commonWeight 39 = .ok (.aload_n 0, 1) := by decide +kernel
theorem dX1_commonWeight_40 : decode cX1_commonWeight 40 = .ok (.getfield 28, 3) := by decide +kernel
theorem dX1_commonWeight_43 : decode cX1_commonWeight 43 = .ok (.iload 4, 2) := by decide +kernel
theorem dX1_commonWeight_45 : decode cX1_commonWeight 45 = .ok (.baload, 1) := by decide +kernel
theorem dX1_commonWeight_46 : decode cX1_commonWeight 46 = .ok (.ifCond .eq 18, 3) := by decide +kernel
theorem dX1_commonWeight_49 : decode cX1_commonWeight 49 = .ok (.aload_n 0, 1) := by decide +kernel
theorem dX1_commonWeight_50 : decode cX1_commonWeight 50 = .ok (.getfield 13, 3) := by decide +kernel
theorem dX1_commonWeight_53 : decode cX1_commonWeight 53 = .ok (.bipush 16, 2) := by decide +kernel
theorem dX1_commonWeight_55 : decode cX1_commonWeight 55 = .ok (.iload_n 1, 1) := by decide +kernel
theorem dX1_commonWeight_56 : decode cX1_commonWeight 56 = .ok (.imul, 1) := by decide +kernel
theorem dX1_commonWeight_57 : decode cX1_commonWeight 57 = .ok (.iload 4, 2) := by decide +kernel
theorem dX1_commonWeight_59 : decode cX1_commonWeight 59 = .ok (.iadd, 1) := by decide +kernel
theorem dX1_commonWeight_60 : decode cX1_commonWeight 60 = .ok (.iaload, 1) := by decide +kernel
theorem dX1_commonWeight_61 : decode cX1_commonWeight 61 = .ok (.goto 4, 3) := by decide +kernel
theorem dX1_commonWeight_64 : decode cX1_commonWeight 64 = .ok (.iconst 0, 1) := by decide +kernel
theorem dX1_commonWeight_65 : decode cX1_commonWeight 65 = .ok (.iadd, 1) := by decide +kernel
theorem dX1_commonWeight_66 : decode cX1_commonWeight 66 = .ok (.istore_n 3, 1) := by decide +kernel
theorem dX1_commonWeight_67 : decode cX1_commonWeight 67 = .ok (.iinc 4 1, 3) := by decide +kernel
theorem dX1_commonWeight_70 : decode cX1_commonWeight 70 = .ok (.goto (-43), 3) := by decide +kernel
theorem dX1_commonWeight_73 : decode cX1_commonWeight 73 = .ok (.iload_n 3, 1) := by decide +kernel
theorem dX1_commonWeight_74 : decode cX1_commonWeight 74 = .ok (.ireturn, 1) := by decide +kernel
abbrev cX1_commonToAll : ByteArray := prog_1_method_12_code
def yX1_commonToAll : MethodName := ⟨RX1, "commonToAll", "()I"⟩
theorem dX1_commonToAll_0 : decode cX1_commonToAll 0 = .ok (.aload_n 0, 1) := by decide +kernel
theorem dX1_commonToAll_1 : decode cX1_commonToAll 1 = .ok (.iconst 0, 1) := by decide +kernel
theorem dX1_commonToAll_2 : decode cX1_commonToAll 2 = .ok (.invokevirtual 64, 3) := by decide +kernel
theorem dX1_commonToAll_5 : decode cX1_commonToAll 5 = .ok (.aload_n 0, 1) := by decide +kernel
theorem dX1_commonToAll_6 : decode cX1_commonToAll 6 = .ok (.iconst 0, 1) := by decide +kernel
theorem dX1_commonToAll_7 : decode cX1_commonToAll 7 = .ok (.invokevirtual 57, 3) := by decide +kernel
theorem dX1_commonToAll_10 : decode cX1_commonToAll 10 = .ok (.ireturn, 1) := by decide +kernel
end
section
set_option maxRecDepth 100000
abbrev cX1_compareThree : ByteArray := prog_1_method_29_code
def yX1_compareThree : MethodName := ⟨RX1, "compareThree", "(I)V"⟩
theorem dX1_compareThree_0 : decode cX1_compareThree 0 = .ok (.iconst 0, 1) := by decide +kernel
theorem dX1_compareThree_1 : decode cX1_compareThree 1 = .ok (.istore_n 2, 1) := by decide +kernel
theorem dX1_compareThree_2 : decode cX1_compareThree 2 = .ok (.iload_n 2, 1) := by decide +kernel
theorem dX1_compareThree_3 : decode cX1_compareThree 3 = .ok (.iconst 3, 1) := by decide +kernel
theorem dX1_compareThree_4 : decode cX1_compareThree 4 = .ok (.if_icmp .ge 38, 3) := by decide +kernel
theorem dX1_compareThree_7 : decode cX1_compareThree 7 = .ok (.aload_n 0, 1) := by decide +kernel
theorem dX1_compareThree_8 : decode cX1_compareThree 8 = .ok (.iload_n 2, 1) := by decide +kernel
theorem dX1_compareThree_9 : decode cX1_compareThree 9 = .ok (.invokevirtual 84, 3) := by decide +kernel
theorem dX1_compareThree_12 : decode cX1_compareThree 12 = .ok (.iconst 0, 1) := by decide +kernel
theorem dX1_compareThree_13 : decode cX1_compareThree 13 = .ok (.istore_n 3, 1) := by decide +kernel
theorem dX1_compareThree_14 : decode cX1_compareThree 14 = .ok (.iload_n 3, 1) := by decide +kernel
theorem dX1_compareThree_15 : decode cX1_compareThree 15 = .ok (.iconst 3, 1) := by decide +kernel
theorem dX1_compareThree_16 : decode cX1_compareThree 16 = .ok (.if_icmp .ge 20, 3) := by decide +kernel
theorem dX1_compareThree_19 : decode cX1_compareThree 19 = .ok (.iload_n 3, 1) := by decide +kernel
theorem dX1_compareThree_20 : decode cX1_compareThree 20 = .ok (.iload_n 2, 1) := by decide +kernel
theorem dX1_compareThree_21 : decode cX1_compareThree 21 = .ok (.if_icmp .eq 9, 3) := by decide +kernel
theorem dX1_compareThree_24 : decode cX1_compareThree 24 = .ok (.aload_n 0, 1) := by decide +kernel
theorem dX1_compareThree_25 : decode cX1_compareThree 25 = .ok (.iload_n 2, 1) := by decide +kernel
theorem dX1_compareThree_26 : decode cX1_compareThree 26 = .ok (.iload_n 3, 1) := by decide +kernel
theorem dX1_compareThree_27 : decode cX1_compareThree 27 = .ok (.invokevirtual 87, 3) := by decide +kernel
theorem dX1_compareThree_30 : decode cX1_compareThree 30 = .ok (.iinc 3 1, 3) := by decide +kernel
theorem dX1_compareThree_33 : decode cX1_compareThree 33 = .ok (.goto (-19), 3) := by decide +kernel
theorem dX1_compareThree_36 : decode cX1_compareThree 36 = .ok (.iinc 2 1, 3) := by decide +kernel
theorem dX1_compareThree_39 : decode cX1_compareThree 39 = .ok (.goto (-37), 3) := by decide +kernel
theorem dX1_compareThree_42 : decode cX1_compareThree 42 = .ok (.iload_n 1, 1) := by decide +kernel
theorem dX1_compareThree_43 : decode cX1_compareThree 43 = .ok (.ifCond .ne 7, 3) := by decide +kernel
theorem dX1_compareThree_46 : decode cX1_compareThree 46 = .ok (.iconst 1, 1) := by decide +kernel
theorem dX1_compareThree_47 : decode cX1_compareThree 47 = .ok (.goto 4, 3) := by decide +kernel
theorem dX1_compareThree_50 : decode cX1_compareThree 50 = .ok (.iconst 0, 1) := by decide +kernel
theorem dX1_compareThree_51 : decode cX1_compareThree 51 = .ok (.istore_n 2, 1) := by decide +kernel
theorem dX1_compareThree_52 : decode cX1_compareThree 52 = .ok (.iconst 3, 1) := by decide +kernel
theorem dX1_compareThree_53 : decode cX1_compareThree 53 = .ok (.iload_n 1, 1) := by decide +kernel
theorem dX1_compareThree_54 : decode cX1_compareThree 54 = .ok (.isub, 1) := by decide +kernel
theorem dX1_compareThree_55 : decode cX1_compareThree 55 = .ok (.iload_n 2, 1) := by decide +kernel
theorem dX1_compareThree_56 : decode cX1_compareThree 56 = .ok (.isub, 1) := by decide +kernel
theorem dX1_compareThree_57 : decode cX1_compareThree 57 = .ok (.istore_n 3, 1) := by decide +kernel
theorem dX1_compareThree_58 : decode cX1_compareThree 58 = .ok (.iconst 0, 1) := by decide +kernel
theorem dX1_compareThree_59 : decode cX1_compareThree 59 = .ok (.istore 4, 2) := by decide +kernel
theorem dX1_compareThree_61 : decode cX1_compareThree 61 = .ok (.iload 4, 2) := by decide +kernel
theorem dX1_compareThree_63 : decode cX1_compareThree 63 = .ok (.bipush 16, 2) := by decide +kernel
theorem dX1_compareThree_65 : decode cX1_compareThree 65 = .ok (.if_icmp .ge 17, 3) := by decide +kernel
theorem dX1_compareThree_68 : decode cX1_compareThree 68 = .ok (.aload_n 0, 1) := by decide +kernel
theorem dX1_compareThree_69 : decode cX1_compareThree 69 = .ok (.getfield 28, 3) := by decide +kernel
theorem dX1_compareThree_72 : decode cX1_compareThree 72 = .ok (.iload 4, 2) := by decide +kernel
theorem dX1_compareThree_74 : decode cX1_compareThree 74 = .ok (.iconst 0, 1) := by decide +kernel
theorem dX1_compareThree_75 : decode cX1_compareThree 75 = .ok (.bastore, 1) := by decide +kernel
theorem dX1_compareThree_76 : decode cX1_compareThree 76 = .ok (.iinc 4 1, 3) := by decide +kernel
theorem dX1_compareThree_79 : decode cX1_compareThree 79 = .ok (.goto (-18), 3) := by decide +kernel
theorem dX1_compareThree_82 : decode cX1_compareThree 82 = .ok (.iconst 0, 1) := by decide +kernel
theorem dX1_compareThree_83 : decode cX1_compareThree 83 = .ok (.istore 4, 2) := by decide +kernel
theorem dX1_compareThree_85 : decode cX1_compareThree 85 = .ok (.iload 4, 2) := by decide +kernel
theorem dX1_compareThree_87 : decode cX1_compareThree 87 = .ok (.aload_n 0, 1) := by decide +kernel
theorem dX1_compareThree_88 : decode cX1_compareThree 88 = .ok (.getfield 16, 3) := by decide +kernel
theorem dX1_compareThree_91 : decode cX1_compareThree 91 = .ok (.iload_n 1, 1) := by decide +kernel
theorem dX1_compareThree_92 : decode cX1_compareThree 92 = .ok (.iaload, 1) := by decide +kernel
theorem dX1_compareThree_93 : decode cX1_compareThree 93 = .ok (.if_icmp .ge 69, 3) := by decide +kernel
theorem dX1_compareThree_96 : decode cX1_compareThree 96 = .ok (.aload_n 0, 1) := by decide +kernel
theorem dX1_compareThree_97 : decode cX1_compareThree 97 = .ok (.getfield 22, 3) := by decide +kernel
theorem dX1_compareThree_100 : decode cX1_compareThree 100 = .ok (.bipush 16, 2) := by decide +kernel
theorem dX1_compareThree_102 : decode cX1_compareThree 102 = .ok (.iload_n 1, 1) := by decide +kernel
theorem dX1_compareThree_103 : decode cX1_compareThree 103 = .ok (.imul, 1) := by decide +kernel
theorem dX1_compareThree_104 : decode cX1_compareThree 104 = .ok (.iload 4, 2) := by decide +kernel
theorem dX1_compareThree_106 : decode cX1_compareThree 106 = .ok (.iadd, 1) := by decide +kernel
theorem dX1_compareThree_107 : decode cX1_compareThree 107 = .ok (.iaload, 1) := by decide +kernel
theorem dX1_compareThree_108 : decode cX1_compareThree 108 = .ok (.istore 5, 2) := by decide +kernel
theorem dX1_compareThree_110 : decode cX1_compareThree 110 = .ok (.aload_n 0, 1) := by decide +kernel
theorem dX1_compareThree_111 : decode cX1_compareThree 111 = .ok (.iload_n 2, 1) := by decide +kernel
theorem dX1_compareThree_112 : decode cX1_compareThree 112 = .ok (.iload 5, 2) := by decide +kernel
theorem dX1_compareThree_114 : decode cX1_compareThree 114 = .ok (.invokevirtual 90, 3) := by decide +kernel
theorem dX1_compareThree_117 : decode cX1_compareThree 117 = .ok (.ifCond .eq 17, 3) := by decide +kernel
theorem dX1_compareThree_120 : decode cX1_compareThree 120 = .ok (.aload_n 0, 1) := by decide +kernel
theorem dX1_compareThree_121 : decode cX1_compareThree 121 = .ok (.iload_n 3, 1) := by decide +kernel
theorem dX1_compareThree_122 : decode cX1_compareThree 122 = .ok (.iload 5, 2) := by decide +kernel
theorem dX1_compareThree_124 : decode cX1_compareThree 124 = .ok (.invokevirtual 90, 3) := by decide +kernel
theorem dX1_compareThree_127 : decode cX1_compareThree 127 = .ok (.ifCond .eq 7, 3) := by decide +kernel
theorem dX1_compareThree_130 : decode cX1_compareThree 130 = .ok (.iconst 1, 1) := by decide +kernel
theorem dX1_compareThree_131 : decode cX1_compareThree 131 = .ok (.goto 4, 3) := by decide +kernel
theorem dX1_compareThree_134 : decode cX1_compareThree 134 = .ok (.iconst 0, 1) := by decide +kernel
theorem dX1_compareThree_135 : decode cX1_compareThree 135 = .ok (.istore 6, 2) := by decide +kernel
theorem dX1_compareThree_137 : decode cX1_compareThree 137 = .ok (.aload_n 0, 1) := by decide +kernel
theorem dX1_compareThree_138 : decode cX1_compareThree 138 = .ok (.getfield 28, 3) := by decide +kernel
theorem dX1_compareThree_141 : decode cX1_compareThree 141 = .ok (.aload_n 0, 1) := by decide +kernel
theorem dX1_compareThree_142 : decode cX1_compareThree 142 = .ok (.getfield 25, 3) := by decide +kernel
theorem dX1_compareThree_145 : decode cX1_compareThree 145 = .ok (.bipush 16, 2) := by decide +kernel
theorem dX1_compareThree_147 : decode cX1_compareThree 147 = .ok (.iload_n 1, 1) := by decide +kernel
theorem dX1_compareThree_148 : decode cX1_compareThree 148 = .ok (.imul, 1) := by decide +kernel
theorem dX1_compareThree_149 : decode cX1_compareThree 149 = .ok (.iload 4, 2) := by decide +kernel
theorem dX1_compareThree_151 : decode cX1_compareThree 151 = .ok (.iadd, 1) := by decide +kernel
theorem dX1_compareThree_152 : decode cX1_compareThree 152 = .ok (.iaload, 1) := by decide +kernel
theorem dX1_compareThree_153 : decode cX1_compareThree 153 = .ok (.iload 6, 2) := by decide +kernel
theorem dX1_compareThree_155 : decode cX1_compareThree 155 = .ok (.bastore, 1) := by decide +kernel
theorem dX1_compareThree_156 : decode cX1_compareThree 156 = .ok (.iinc 4 1, 3) := by decide +kernel
theorem dX1_compareThree_159 : decode cX1_compareThree 159 = .ok (.goto (-74), 3) := by decide +kernel
theorem dX1_compareThree_162 : decode cX1_compareThree 162 = .ok (.return_, 1) := by decide +kernel
abbrev cX1_itemOfAll : ByteArray := prog_1_method_13_code
def yX1_itemOfAll : MethodName := ⟨RX1, "itemOfAll", "(I)I"⟩
theorem dX1_itemOfAll_0 : decode cX1_itemOfAll 0 = .ok (.aload_n 0, 1) := by decide +kernel
theorem dX1_itemOfAll_1 : decode cX1_itemOfAll 1 = .ok (.iconst 0, 1) := by decide +kernel
theorem dX1_itemOfAll_2 : decode cX1_itemOfAll 2 = .ok (.invokevirtual 64, 3) := by decide +kernel
theorem dX1_itemOfAll_5 : decode cX1_itemOfAll 5 = .ok (.aload_n 0, 1) := by decide +kernel
theorem dX1_itemOfAll_6 : decode cX1_itemOfAll 6 = .ok (.iconst 0, 1) := by decide +kernel
theorem dX1_itemOfAll_7 : decode cX1_itemOfAll 7 = .ok (.iload_n 1, 1) := by decide +kernel
theorem dX1_itemOfAll_8 : decode cX1_itemOfAll 8 = .ok (.invokevirtual 61, 3) := by decide +kernel
theorem dX1_itemOfAll_11 : decode cX1_itemOfAll 11 = .ok (.istore_n 2, 1) := by decide +kernel
theorem dX1_itemOfAll_12 : decode cX1_itemOfAll 12 = .ok (.iload_n 2, 1) := by decide +kernel
theorem dX1_itemOfAll_13 : decode cX1_itemOfAll 13 = .ok (.ifCond .ge 7, 3) := by decide +kernel
theorem dX1_itemOfAll_16 : decode cX1_itemOfAll 16 = .ok (.iconst (-1), 1) := by decide +kernel
theorem dX1_itemOfAll_17 : decode cX1_itemOfAll 17 = .ok (.goto 9, 3) := by decide +kernel
theorem dX1_itemOfAll_20 : decode cX1_itemOfAll 20 = .ok (.aload_n 0, 1) := by decide +kernel
theorem dX1_itemOfAll_21 : decode cX1_itemOfAll 21 = .ok (.getfield 7, 3) := by decide +kernel
theorem dX1_itemOfAll_24 : decode cX1_itemOfAll 24 = .ok (.iload_n 2, 1) := by decide +kernel
theorem dX1_itemOfAll_25 : decode cX1_itemOfAll 25 = .ok (.iaload, 1) := by decide +kernel
theorem dX1_itemOfAll_26 : decode cX1_itemOfAll 26 = .ok (.ireturn, 1) := by decide +kernel
abbrev cX1_any : ByteArray := prog_1_method_14_code
def yX1_any : MethodName := ⟨RX1, "any", "()I"⟩
theorem dX1_any_0 : decode cX1_any 0 = .ok (.aload_n 0, 1) := by decide +kernel
theorem dX1_any_1 : decode cX1_any 1 = .ok (.iconst 1, 1) := by decide +kernel
theorem dX1_any_2 : decode cX1_any 2 = .ok (.invokevirtual 68, 3) := by decide +kernel
theorem dX1_any_5 : decode cX1_any 5 = .ok (.aload_n 0, 1) := by decide +kernel
theorem dX1_any_6 : decode cX1_any 6 = .ok (.iconst 2, 1) := by decide +kernel
theorem dX1_any_7 : decode cX1_any 7 = .ok (.invokevirtual 68, 3) := by decide +kernel
theorem dX1_any_10 : decode cX1_any 10 = .ok (.iadd, 1) := by decide +kernel
theorem dX1_any_11 : decode cX1_any 11 = .ok (.aload_n 0, 1) := by decide +kernel
theorem dX1_any_12 : decode cX1_any 12 = .ok (.iconst 3, 1) := by decide +kernel
theorem dX1_any_13 : decode cX1_any 13 = .ok (.invokevirtual 68, 3) := by decide +kernel
theorem dX1_any_16 : decode cX1_any 16 = .ok (.iadd, 1) := by decide +kernel
theorem dX1_any_17 : decode cX1_any 17 = .ok (.ireturn, 1) := by decide +kernel
abbrev cX1_heldByJust : ByteArray := prog_1_method_15_code
def yX1_heldByJust : MethodName := ⟨RX1, "heldByJust", "(I)I"⟩
theorem dX1_heldByJust_0 : decode cX1_heldByJust 0 = .ok (.iload_n 1, 1) := by decide +kernel
theorem dX1_heldByJust_1 : decode cX1_heldByJust 1 = .ok (.iconst 1, 1) := by decide +kernel
theorem dX1_heldByJust_2 : decode cX1_heldByJust 2 = .ok (.if_icmp .lt 8, 3) := by decide +kernel
theorem dX1_heldByJust_5 : decode cX1_heldByJust 5 = .ok (.iload_n 1, 1) := by decide +kernel
theorem dX1_heldByJust_6 : decode cX1_heldByJust 6 = .ok (.iconst 3, 1) := by decide +kernel
theorem dX1_heldByJust_7 : decode cX1_heldByJust 7 = .ok (.if_icmp .le 5, 3) := by decide +kernel
theorem dX1_heldByJust_10 : decode cX1_heldByJust 10 = .ok (.iconst (-1), 1) := by decide +kernel
theorem dX1_heldByJust_11 : decode cX1_heldByJust 11 = .ok (.ireturn, 1) := by decide +kernel
theorem dX1_heldByJust_12 : decode cX1_heldByJust 12 = .ok (.aload_n 0, 1) := by decide +kernel
theorem dX1_heldByJust_13 : decode cX1_heldByJust 13 = .ok (.iconst 0, 1) := by decide +kernel
theorem dX1_heldByJust_14 : decode cX1_heldByJust 14 = .ok (.invokevirtual 64, 3) := by decide +kernel
theorem dX1_heldByJust_17 : decode cX1_heldByJust 17 = .ok (.aload_n 0, 1) := by decide +kernel
theorem dX1_heldByJust_18 : decode cX1_heldByJust 18 = .ok (.iconst 0, 1) := by decide +kernel
theorem dX1_heldByJust_19 : decode cX1_heldByJust 19 = .ok (.invokevirtual 57, 3) := by decide +kernel
theorem dX1_heldByJust_22 : decode cX1_heldByJust 22 = .ok (.istore_n 2, 1) := by decide +kernel
theorem dX1_heldByJust_23 : decode cX1_heldByJust 23 = .ok (.iload_n 1, 1) := by decide +kernel
theorem dX1_heldByJust_24 : decode cX1_heldByJust 24 = .ok (.iconst 3, 1) := by decide +kernel
theorem dX1_heldByJust_25 : decode cX1_heldByJust 25 = .ok (.if_icmp .ne 5, 3) := by decide +kernel
theorem dX1_heldByJust_28 : decode cX1_heldByJust 28 = .ok (.iload_n 2, 1) := by decide +kernel
theorem dX1_heldByJust_29 : decode cX1_heldByJust 29 = .ok (.ireturn, 1) := by decide +kernel
theorem dX1_heldByJust_30 : decode cX1_heldByJust 30 = .ok (.aload_n 0, 1) := by decide +kernel
theorem dX1_heldByJust_31 : decode cX1_heldByJust 31 = .ok (.iconst 0, 1) := by decide +kernel
theorem dX1_heldByJust_32 : decode cX1_heldByJust 32 = .ok (.iconst 1, 1) := by decide +kernel
theorem dX1_heldByJust_33 : decode cX1_heldByJust 33 = .ok (.invokevirtual 71, 3) := by decide +kernel
theorem dX1_heldByJust_36 : decode cX1_heldByJust 36 = .ok (.aload_n 0, 1) := by decide +kernel
theorem dX1_heldByJust_37 : decode cX1_heldByJust 37 = .ok (.iconst 0, 1) := by decide +kernel
theorem dX1_heldByJust_38 : decode cX1_heldByJust 38 = .ok (.iconst 2, 1) := by decide +kernel
theorem dX1_heldByJust_39 : decode cX1_heldByJust 39 = .ok (.invokevirtual 71, 3) := by decide +kernel
theorem dX1_heldByJust_42 : decode cX1_heldByJust 42 = .ok (.iadd, 1) := by decide +kernel
theorem dX1_heldByJust_43 : decode cX1_heldByJust 43 = .ok (.aload_n 0, 1) := by decide +kernel
theorem dX1_heldByJust_44 : decode cX1_heldByJust 44 = .ok (.iconst 1, 1) := by decide +kernel
theorem dX1_heldByJust_45 : decode cX1_heldByJust 45 = .ok (.iconst 2, 1) := by decide +kernel
theorem dX1_heldByJust_46 : decode cX1_heldByJust 46 = .ok (.invokevirtual 71, 3) := by decide +kernel
theorem dX1_heldByJust_49 : decode cX1_heldByJust 49 = .ok (.iadd, 1) := by decide +kernel
theorem dX1_heldByJust_50 : decode cX1_heldByJust 50 = .ok (.istore_n 3, 1) := by decide +kernel
theorem dX1_heldByJust_51 : decode cX1_heldByJust 51 = .ok (.iload_n 1, 1) := by decide +kernel
theorem dX1_heldByJust_52 : decode cX1_heldByJust 52 = .ok (.iconst 2, 1) := by decide +kernel
theorem dX1_heldByJust_53 : decode cX1_heldByJust 53 = .ok (.if_icmp .ne 9, 3) := by decide +kernel
theorem dX1_heldByJust_56 : decode cX1_heldByJust 56 = .ok (.iload_n 3, 1) := by decide +kernel
theorem dX1_heldByJust_57 : decode cX1_heldByJust 57 = .ok (.iconst 3, 1) := by decide +kernel
theorem dX1_heldByJust_58 : decode cX1_heldByJust 58 = .ok (.iload_n 2, 1) := by decide +kernel
theorem dX1_heldByJust_59 : decode cX1_heldByJust 59 = .ok (.imul, 1) := by decide +kernel
theorem dX1_heldByJust_60 : decode cX1_heldByJust 60 = .ok (.isub, 1) := by decide +kernel
theorem dX1_heldByJust_61 : decode cX1_heldByJust 61 = .ok (.ireturn, 1) := by decide +kernel
theorem dX1_heldByJust_62 : decode cX1_heldByJust 62 = .ok (.aload_n 0, 1) := by decide +kernel
theorem dX1_heldByJust_63 : decode cX1_heldByJust 63 = .ok (.getfield 16, 3) := by decide +kernel
theorem dX1_heldByJust_66 : decode cX1_heldByJust 66 = .ok (.iconst 0, 1) := by decide +kernel
theorem dX1_heldByJust_67 : decode cX1_heldByJust 67 = .ok (.iaload, 1) := by decide +kernel
theorem dX1_heldByJust_68 : decode cX1_heldByJust 68 = .ok (.aload_n 0, 1) := by decide +kernel
theorem dX1_heldByJust_69 : decode cX1_heldByJust 69 = .ok (.getfield 16, 3) := by decide +kernel
theorem dX1_heldByJust_72 : decode cX1_heldByJust 72 = .ok (.iconst 1, 1) := by decide +kernel
theorem dX1_heldByJust_73 : decode cX1_heldByJust 73 = .ok (.iaload, 1) := by decide +kernel
theorem dX1_heldByJust_74 : decode cX1_heldByJust 74 = .ok (.iadd, 1) := by decide +kernel
theorem dX1_heldByJust_75 : decode cX1_heldByJust 75 = .ok (.aload_n 0, 1) := by decide +kernel
theorem dX1_heldByJust_76 : decode cX1_heldByJust 76 = .ok (.getfield 16, 3) := by decide +kernel
theorem dX1_heldByJust_79 : decode cX1_heldByJust 79 = .ok (.iconst 2, 1) := by decide +kernel
theorem dX1_heldByJust_80 : decode cX1_heldByJust 80 = .ok (.iaload, 1) := by decide +kernel
theorem dX1_heldByJust_81 : decode cX1_heldByJust 81 = .ok (.iadd, 1) := by decide +kernel
theorem dX1_heldByJust_82 : decode cX1_heldByJust 82 = .ok (.iconst 2, 1) := by decide +kernel
theorem dX1_heldByJust_83 : decode cX1_heldByJust 83 = .ok (.iload_n 3, 1) := by decide +kernel
theorem dX1_heldByJust_84 : decode cX1_heldByJust 84 = .ok (.imul, 1) := by decide +kernel
theorem dX1_heldByJust_85 : decode cX1_heldByJust 85 = .ok (.isub, 1) := by decide +kernel
theorem dX1_heldByJust_86 : decode cX1_heldByJust 86 = .ok (.iconst 3, 1) := by decide +kernel
theorem dX1_heldByJust_87 : decode cX1_heldByJust 87 = .ok (.iload_n 2, 1) := by decide +kernel
theorem dX1_heldByJust_88 : decode cX1_heldByJust 88 = .ok (.imul, 1) := by decide +kernel
theorem dX1_heldByJust_89 : decode cX1_heldByJust 89 = .ok (.iadd, 1) := by decide +kernel
theorem dX1_heldByJust_90 : decode cX1_heldByJust 90 = .ok (.ireturn, 1) := by decide +kernel
abbrev cX1_pairCount : ByteArray := prog_1_method_30_code
def yX1_pairCount : MethodName := ⟨RX1, "pairCount", "(II)I"⟩
theorem dX1_pairCount_0 : decode cX1_pairCount 0 = .ok (.aload_n 0, 1) := by decide +kernel
theorem dX1_pairCount_1 : decode cX1_pairCount 1 = .ok (.getfield 74, 3) := by decide +kernel
theorem dX1_pairCount_4 : decode cX1_pairCount 4 = .ok (.istore_n 3, 1) := by decide +kernel
theorem dX1_pairCount_5 : decode cX1_pairCount 5 = .ok (.aload_n 0, 1) := by decide +kernel
theorem dX1_pairCount_6 : decode cX1_pairCount 6 = .ok (.iload_n 1, 1) := by decide +kernel
theorem dX1_pairCount_7 : decode cX1_pairCount 7 = .ok (.iload_n 2, 1) := by decide +kernel
theorem dX1_pairCount_8 : decode cX1_pairCount 8 = .ok (.invokevirtual 53, 3) := by decide +kernel
theorem dX1_pairCount_11 : decode cX1_pairCount 11 = .ok (.aload_n 0, 1) := by decide +kernel
theorem dX1_pairCount_12 : decode cX1_pairCount 12 = .ok (.iload_n 3, 1) := by decide +kernel
theorem dX1_pairCount_13 : decode cX1_pairCount 13 = .ok (.putfield 74, 3) := by decide +kernel
theorem dX1_pairCount_16 : decode cX1_pairCount 16 = .ok (.aload_n 0, 1) := by decide +kernel
theorem dX1_pairCount_17 : decode cX1_pairCount 17 = .ok (.iload_n 1, 1) := by decide +kernel
theorem dX1_pairCount_18 : decode cX1_pairCount 18 = .ok (.invokevirtual 57, 3) := by decide +kernel
theorem dX1_pairCount_21 : decode cX1_pairCount 21 = .ok (.ireturn, 1) := by decide +kernel
abbrev cX1_alone : ByteArray := prog_1_method_16_code
def yX1_alone : MethodName := ⟨RX1, "alone", "(I)I"⟩
theorem dX1_alone_0 : decode cX1_alone 0 = .ok (.iload_n 1, 1) := by decide +kernel
theorem dX1_alone_1 : decode cX1_alone 1 = .ok (.invokestatic 36, 3) := by decide +kernel
theorem dX1_alone_4 : decode cX1_alone 4 = .ok (.ifCond .ne 5, 3) := by decide +kernel
theorem dX1_alone_7 : decode cX1_alone 7 = .ok (.iconst (-1), 1) := by decide +kernel
theorem dX1_alone_8 : decode cX1_alone 8 = .ok (.ireturn, 1) := by decide +kernel
theorem dX1_alone_9 : decode cX1_alone 9 = .ok (.iload_n 1, 1) := by decide +kernel
theorem dX1_alone_10 : decode cX1_alone 10 = .ok (.ifCond .ne 7, 3) := by decide +kernel
theorem dX1_alone_13 : decode cX1_alone 13 = .ok (.iconst 1, 1) := by decide +kernel
theorem dX1_alone_14 : decode cX1_alone 14 = .ok (.goto 4, 3) := by decide +kernel
theorem dX1_alone_17 : decode cX1_alone 17 = .ok (.iconst 0, 1) := by decide +kernel
theorem dX1_alone_18 : decode cX1_alone 18 = .ok (.istore_n 2, 1) := by decide +kernel
theorem dX1_alone_19 : decode cX1_alone 19 = .ok (.iconst 3, 1) := by decide +kernel
theorem dX1_alone_20 : decode cX1_alone 20 = .ok (.iload_n 1, 1) := by decide +kernel
theorem dX1_alone_21 : decode cX1_alone 21 = .ok (.isub, 1) := by decide +kernel
theorem dX1_alone_22 : decode cX1_alone 22 = .ok (.iload_n 2, 1) := by decide +kernel
theorem dX1_alone_23 : decode cX1_alone 23 = .ok (.isub, 1) := by decide +kernel
theorem dX1_alone_24 : decode cX1_alone 24 = .ok (.istore_n 3, 1) := by decide +kernel
theorem dX1_alone_25 : decode cX1_alone 25 = .ok (.aload_n 0, 1) := by decide +kernel
theorem dX1_alone_26 : decode cX1_alone 26 = .ok (.iload_n 1, 1) := by decide +kernel
theorem dX1_alone_27 : decode cX1_alone 27 = .ok (.invokevirtual 64, 3) := by decide +kernel
theorem dX1_alone_30 : decode cX1_alone 30 = .ok (.aload_n 0, 1) := by decide +kernel
theorem dX1_alone_31 : decode cX1_alone 31 = .ok (.iload_n 1, 1) := by decide +kernel
theorem dX1_alone_32 : decode cX1_alone 32 = .ok (.invokevirtual 57, 3) := by decide +kernel
theorem dX1_alone_35 : decode cX1_alone 35 = .ok (.istore 4, 2) := by decide +kernel
theorem dX1_alone_37 : decode cX1_alone 37 = .ok (.aload_n 0, 1) := by decide +kernel
theorem dX1_alone_38 : decode cX1_alone 38 = .ok (.getfield 16, 3) := by decide +kernel
theorem dX1_alone_41 : decode cX1_alone 41 = .ok (.iload_n 1, 1) := by decide +kernel
theorem dX1_alone_42 : decode cX1_alone 42 = .ok (.iaload, 1) := by decide +kernel
theorem dX1_alone_43 : decode cX1_alone 43 = .ok (.aload_n 0, 1) := by decide +kernel
theorem dX1_alone_44 : decode cX1_alone 44 = .ok (.iload_n 1, 1) := by decide +kernel
theorem dX1_alone_45 : decode cX1_alone 45 = .ok (.iload_n 2, 1) := by decide +kernel
theorem dX1_alone_46 : decode cX1_alone 46 = .ok (.invokevirtual 71, 3) := by decide +kernel
theorem dX1_alone_49 : decode cX1_alone 49 = .ok (.isub, 1) := by decide +kernel
theorem dX1_alone_50 : decode cX1_alone 50 = .ok (.aload_n 0, 1) := by decide +kernel
theorem dX1_alone_51 : decode cX1_alone 51 = .ok (.iload_n 1, 1) := by decide +kernel
theorem dX1_alone_52 : decode cX1_alone 52 = .ok (.iload_n 3, 1) := by decide +kernel
theorem dX1_alone_53 : decode cX1_alone 53 = .ok (.invokevirtual 71, 3) := by decide +kernel
theorem dX1_alone_56 : decode cX1_alone 56 = .ok (.isub, 1) := by decide +kernel
theorem dX1_alone_57 : decode cX1_alone 57 = .ok (.iload 4, 2) := by decide +kernel
theorem dX1_alone_59 : decode cX1_alone 59 = .ok (.iadd, 1) := by decide +kernel
theorem dX1_alone_60 : decode cX1_alone 60 = .ok (.ireturn, 1) := by decide +kernel
abbrev cX1_within : ByteArray := prog_1_method_17_code
def yX1_within : MethodName := ⟨RX1, "within", "(II)I"⟩
theorem dX1_within_0 : decode cX1_within 0 = .ok (.iload_n 1, 1) := by decide +kernel
theorem dX1_within_1 : decode cX1_within 1 = .ok (.invokestatic 36, 3) := by decide +kernel
theorem dX1_within_4 : decode cX1_within 4 = .ok (.ifCond .eq 10, 3) := by decide +kernel
theorem dX1_within_7 : decode cX1_within 7 = .ok (.iload_n 2, 1) := by decide +kernel
theorem dX1_within_8 : decode cX1_within 8 = .ok (.invokestatic 36, 3) := by decide +kernel
theorem dX1_within_11 : decode cX1_within 11 = .ok (.ifCond .ne 5, 3) := by decide +kernel
theorem dX1_within_14 : decode cX1_within 14 = .ok (.iconst (-1), 1) := by decide +kernel
theorem dX1_within_15 : decode cX1_within 15 = .ok (.ireturn, 1) := by decide +kernel
theorem dX1_within_16 : decode cX1_within 16 = .ok (.aload_n 0, 1) := by decide +kernel
theorem dX1_within_17 : decode cX1_within 17 = .ok (.iload_n 1, 1) := by decide +kernel
theorem dX1_within_18 : decode cX1_within 18 = .ok (.iload_n 2, 1) := by decide +kernel
theorem dX1_within_19 : decode cX1_within 19 = .ok (.invokevirtual 53, 3) := by decide +kernel
theorem dX1_within_22 : decode cX1_within 22 = .ok (.aload_n 0, 1) := by decide +kernel
theorem dX1_within_23 : decode cX1_within 23 = .ok (.iload_n 1, 1) := by decide +kernel
theorem dX1_within_24 : decode cX1_within 24 = .ok (.invokevirtual 57, 3) := by decide +kernel
theorem dX1_within_27 : decode cX1_within 27 = .ok (.aload_n 0, 1) := by decide +kernel
theorem dX1_within_28 : decode cX1_within 28 = .ok (.getfield 16, 3) := by decide +kernel
theorem dX1_within_31 : decode cX1_within 31 = .ok (.iload_n 1, 1) := by decide +kernel
theorem dX1_within_32 : decode cX1_within 32 = .ok (.iaload, 1) := by decide +kernel
theorem dX1_within_33 : decode cX1_within 33 = .ok (.if_icmp .ne 7, 3) := by decide +kernel
theorem dX1_within_36 : decode cX1_within 36 = .ok (.iconst 1, 1) := by decide +kernel
theorem dX1_within_37 : decode cX1_within 37 = .ok (.goto 4, 3) := by decide +kernel
theorem dX1_within_40 : decode cX1_within 40 = .ok (.iconst 0, 1) := by decide +kernel
theorem dX1_within_41 : decode cX1_within 41 = .ok (.ireturn, 1) := by decide +kernel
abbrev cX1_traffic : ByteArray := prog_1_method_18_code
def yX1_traffic : MethodName := ⟨RX1, "traffic", "()I"⟩
theorem dX1_traffic_0 : decode cX1_traffic 0 = .ok (.aload_n 0, 1) := by decide +kernel
theorem dX1_traffic_1 : decode cX1_traffic 1 = .ok (.getfield 74, 3) := by decide +kernel
theorem dX1_traffic_4 : decode cX1_traffic 4 = .ok (.ireturn, 1) := by decide +kernel
end
section
set_option maxRecDepth 100000
theorem q20 : (Jvm.Cond.initialized "PrivateIntersect") ∈ lw_all := lw_g (lw_at lw_m1 1 rfl) rfl
theorem q23 : (Jvm.Cond.instantiable "PrivateIntersect" (9 : Nat)) ∈ lw_all := lw_g (lw_at lw_m1 4 rfl) rfl
theorem q25 : (Jvm.Cond.instanceMethod ({ cls := "PrivateIntersect", name := "<init>", desc := "(III)V" } : Jvm.MethodName)) ∈ lw_all := lw_g (lw_at lw_m1 6 rfl) rfl
theorem q26 : (Jvm.Cond.code ({ cls := "PrivateIntersect", name := "<init>", desc := "(III)V" } : Jvm.MethodName) prog_1_method_1_code (4 : Nat) (Option.none : Option Jvm.ClassFile.FieldType)) ∈ lw_all := lw_g (lw_at lw_m1 7 rfl) rfl
theorem q27 : (Jvm.Cond.methodLink "PrivateIntersect" (1 : Nat) ({ cls := "java/lang/Object", name := "<init>", desc := "()V" } : Jvm.MethodName)) ∈ lw_all := lw_g (lw_at lw_m1 8 rfl) rfl
theorem q30 : (Jvm.Cond.methodLink "PrivateIntersect" (32 : Nat) ({ cls := "PrivateIntersect", name := "secret", desc := "(II)I" } : Jvm.MethodName)) ∈ lw_all := lw_g (lw_at lw_m1 11 rfl) rfl
theorem q31 : (Jvm.Cond.instanceMethod ({ cls := "PrivateIntersect", name := "secret", desc := "(II)I" } : Jvm.MethodName)) ∈ lw_all := lw_g (lw_at lw_m1 12 rfl) rfl
theorem q32 : (Jvm.Cond.selects "PrivateIntersect" ({ cls := "PrivateIntersect", name := "secret", desc := "(II)I" } : Jvm.MethodName) ({ cls := "PrivateIntersect", name := "secret", desc := "(II)I" } : Jvm.MethodName)) ∈ lw_all := lw_g (lw_at lw_m1 13 rfl) rfl
theorem q33 : (Jvm.Cond.code ({ cls := "PrivateIntersect", name := "secret", desc := "(II)I" } : Jvm.MethodName) prog_1_method_2_code (4 : Nat) (Option.some Jvm.ClassFile.FieldType.int)) ∈ lw_all := lw_g (lw_at lw_m1 14 rfl) rfl
theorem q34 : (Jvm.Cond.methodLink "PrivateIntersect" (36 : Nat) ({ cls := "PrivateIntersect", name := "isParty", desc := "(I)Z" } : Jvm.MethodName)) ∈ lw_all := lw_g (lw_at lw_m1 15 rfl) rfl
theorem q35 : (Jvm.Cond.static ({ cls := "PrivateIntersect", name := "isParty", desc := "(I)Z" } : Jvm.MethodName)) ∈ lw_all := lw_g (lw_at lw_m1 16 rfl) rfl
theorem q36 : (Jvm.Cond.code ({ cls := "PrivateIntersect", name := "isParty", desc := "(I)Z" } : Jvm.MethodName) prog_1_method_19_code (1 : Nat) (Option.some Jvm.ClassFile.FieldType.boolean)) ∈ lw_all := lw_g (lw_at lw_m1 17 rfl) rfl
theorem q37 : (Jvm.Cond.fieldLink "PrivateIntersect" (7 : Nat) "PrivateIntersect" "items" "[I") ∈ lw_all := lw_g (lw_at lw_m1 18 rfl) rfl
theorem q38 : (Jvm.Cond.fieldLink "PrivateIntersect" (13 : Nat) "PrivateIntersect" "weights" "[I") ∈ lw_all := lw_g (lw_at lw_m1 19 rfl) rfl
theorem q39 : (Jvm.Cond.fieldLink "PrivateIntersect" (16 : Nat) "PrivateIntersect" "sizes" "[I") ∈ lw_all := lw_g (lw_at lw_m1 20 rfl) rfl
theorem q40 : (Jvm.Cond.fieldLink "PrivateIntersect" (19 : Nat) "PrivateIntersect" "exponents" "[I") ∈ lw_all := lw_g (lw_at lw_m1 21 rfl) rfl
theorem q41 : (Jvm.Cond.fieldLink "PrivateIntersect" (22 : Nat) "PrivateIntersect" "sent" "[I") ∈ lw_all := lw_g (lw_at lw_m1 22 rfl) rfl
theorem q42 : (Jvm.Cond.fieldLink "PrivateIntersect" (25 : Nat) "PrivateIntersect" "origin" "[I") ∈ lw_all := lw_g (lw_at lw_m1 23 rfl) rfl
theorem q43 : (Jvm.Cond.fieldLink "PrivateIntersect" (28 : Nat) "PrivateIntersect" "hit" "[Z") ∈ lw_all := lw_g (lw_at lw_m1 24 rfl) rfl
theorem q44 : (Jvm.Cond.fieldLink "PrivateIntersect" (40 : Nat) "PrivateIntersect" "random" "I") ∈ lw_all := lw_g (lw_at lw_m1 25 rfl) rfl
theorem q45 : (Jvm.Cond.fieldLink "PrivateIntersect" (74 : Nat) "PrivateIntersect" "lastTraffic" "I") ∈ lw_all := lw_g (lw_at lw_m1 26 rfl) rfl
theorem q46 : (Jvm.Cond.laysFinal "PrivateIntersect" "PrivateIntersect" "items" "[I") ∈ lw_all := lw_g (lw_at lw_m1 27 rfl) rfl
theorem q47 : (Jvm.Cond.soleField "PrivateIntersect" "items") ∈ lw_all := lw_g (lw_at lw_m1 28 rfl) rfl
theorem q48 : (Jvm.Cond.laysFinal "PrivateIntersect" "PrivateIntersect" "weights" "[I") ∈ lw_all := lw_g (lw_at lw_m1 29 rfl) rfl
theorem q49 : (Jvm.Cond.soleField "PrivateIntersect" "weights") ∈ lw_all := lw_g (lw_at lw_m1 30 rfl) rfl
theorem q50 : (Jvm.Cond.laysFinal "PrivateIntersect" "PrivateIntersect" "sizes" "[I") ∈ lw_all := lw_g (lw_at lw_m1 31 rfl) rfl
theorem q51 : (Jvm.Cond.soleField "PrivateIntersect" "sizes") ∈ lw_all := lw_g (lw_at lw_m1 32 rfl) rfl
theorem q52 : (Jvm.Cond.laysFinal "PrivateIntersect" "PrivateIntersect" "exponents" "[I") ∈ lw_all := lw_g (lw_at lw_m1 33 rfl) rfl
theorem q53 : (Jvm.Cond.soleField "PrivateIntersect" "exponents") ∈ lw_all := lw_g (lw_at lw_m1 34 rfl) rfl
theorem q54 : (Jvm.Cond.laysFinal "PrivateIntersect" "PrivateIntersect" "sent" "[I") ∈ lw_all := lw_g (lw_at lw_m1 35 rfl) rfl
theorem q55 : (Jvm.Cond.soleField "PrivateIntersect" "sent") ∈ lw_all := lw_g (lw_at lw_m1 36 rfl) rfl
theorem q56 : (Jvm.Cond.laysFinal "PrivateIntersect" "PrivateIntersect" "origin" "[I") ∈ lw_all := lw_g (lw_at lw_m1 37 rfl) rfl
theorem q57 : (Jvm.Cond.soleField "PrivateIntersect" "origin") ∈ lw_all := lw_g (lw_at lw_m1 38 rfl) rfl
theorem q58 : (Jvm.Cond.laysFinal "PrivateIntersect" "PrivateIntersect" "hit" "[Z") ∈ lw_all := lw_g (lw_at lw_m1 39 rfl) rfl
theorem q59 : (Jvm.Cond.soleField "PrivateIntersect" "hit") ∈ lw_all := lw_g (lw_at lw_m1 40 rfl) rfl
theorem q60 : (Jvm.Cond.lays "PrivateIntersect" "PrivateIntersect" "random" "I") ∈ lw_all := lw_g (lw_at lw_m1 41 rfl) rfl
theorem q61 : (Jvm.Cond.soleField "PrivateIntersect" "random") ∈ lw_all := lw_g (lw_at lw_m1 42 rfl) rfl
theorem q62 : (Jvm.Cond.lays "PrivateIntersect" "PrivateIntersect" "lastTraffic" "I") ∈ lw_all := lw_g (lw_at lw_m1 43 rfl) rfl
theorem q63 : (Jvm.Cond.soleField "PrivateIntersect" "lastTraffic") ∈ lw_all := lw_g (lw_at lw_m1 44 rfl) rfl
theorem q64 : (Jvm.Cond.superclass "PrivateIntersect" "java/lang/Object") ∈ lw_all := lw_g (lw_at lw_m1 45 rfl) rfl
theorem q69 : (Jvm.Cond.instanceMethod ({ cls := "PrivateIntersect", name := "give", desc := "(III)I" } : Jvm.MethodName)) ∈ lw_all := lw_g (lw_at lw_m1 50 rfl) rfl
theorem q70 : (Jvm.Cond.selects "PrivateIntersect" ({ cls := "PrivateIntersect", name := "give", desc := "(III)I" } : Jvm.MethodName) ({ cls := "PrivateIntersect", name := "give", desc := "(III)I" } : Jvm.MethodName)) ∈ lw_all := lw_g (lw_at lw_m1 51 rfl) rfl
theorem q71 : (Jvm.Cond.code ({ cls := "PrivateIntersect", name := "give", desc := "(III)I" } : Jvm.MethodName) prog_1_method_3_code (5 : Nat) (Option.some Jvm.ClassFile.FieldType.int)) ∈ lw_all := lw_g (lw_at lw_m1 52 rfl) rfl
theorem q72 : (Jvm.Cond.methodLink "PrivateIntersect" (44 : Nat) ({ cls := "PrivateIntersect", name := "isItem", desc := "(I)Z" } : Jvm.MethodName)) ∈ lw_all := lw_g (lw_at lw_m1 53 rfl) rfl
theorem q73 : (Jvm.Cond.static ({ cls := "PrivateIntersect", name := "isItem", desc := "(I)Z" } : Jvm.MethodName)) ∈ lw_all := lw_g (lw_at lw_m1 54 rfl) rfl
theorem q74 : (Jvm.Cond.code ({ cls := "PrivateIntersect", name := "isItem", desc := "(I)Z" } : Jvm.MethodName) prog_1_method_20_code (1 : Nat) (Option.some Jvm.ClassFile.FieldType.boolean)) ∈ lw_all := lw_g (lw_at lw_m1 55 rfl) rfl
theorem q75 : (Jvm.Cond.methodLink "PrivateIntersect" (47 : Nat) ({ cls := "PrivateIntersect", name := "find", desc := "(II)I" } : Jvm.MethodName)) ∈ lw_all := lw_g (lw_at lw_m1 56 rfl) rfl
theorem q76 : (Jvm.Cond.privateMethod ({ cls := "PrivateIntersect", name := "find", desc := "(II)I" } : Jvm.MethodName)) ∈ lw_tbl := lw_at lw_m1 57 rfl
theorem q77 : (Jvm.Cond.instanceMethod ({ cls := "PrivateIntersect", name := "find", desc := "(II)I" } : Jvm.MethodName)) ∈ lw_all := lw_g (lw_at lw_m1 58 rfl) rfl
theorem q78 : (Jvm.Cond.code ({ cls := "PrivateIntersect", name := "find", desc := "(II)I" } : Jvm.MethodName) prog_1_method_21_code (4 : Nat) (Option.some Jvm.ClassFile.FieldType.int)) ∈ lw_all := lw_g (lw_at lw_m1 59 rfl) rfl
theorem q79 : (Jvm.Cond.methodLink "PrivateIntersect" (50 : Nat) ({ cls := "PrivateIntersect", name := "insert", desc := "(II)I" } : Jvm.MethodName)) ∈ lw_all := lw_g (lw_at lw_m1 60 rfl) rfl
theorem q80 : (Jvm.Cond.privateMethod ({ cls := "PrivateIntersect", name := "insert", desc := "(II)I" } : Jvm.MethodName)) ∈ lw_tbl := lw_at lw_m1 61 rfl
theorem q81 : (Jvm.Cond.instanceMethod ({ cls := "PrivateIntersect", name := "insert", desc := "(II)I" } : Jvm.MethodName)) ∈ lw_all := lw_g (lw_at lw_m1 62 rfl) rfl
theorem q82 : (Jvm.Cond.code ({ cls := "PrivateIntersect", name := "insert", desc := "(II)I" } : Jvm.MethodName) prog_1_method_22_code (4 : Nat) (Option.some Jvm.ClassFile.FieldType.int)) ∈ lw_all := lw_g (lw_at lw_m1 63 rfl) rfl
theorem q84 : (Jvm.Cond.instanceMethod ({ cls := "PrivateIntersect", name := "giveMany", desc := "(III)I" } : Jvm.MethodName)) ∈ lw_all := lw_g (lw_at lw_m1 65 rfl) rfl
theorem q85 : (Jvm.Cond.selects "PrivateIntersect" ({ cls := "PrivateIntersect", name := "giveMany", desc := "(III)I" } : Jvm.MethodName) ({ cls := "PrivateIntersect", name := "giveMany", desc := "(III)I" } : Jvm.MethodName)) ∈ lw_all := lw_g (lw_at lw_m1 66 rfl) rfl
theorem q86 : (Jvm.Cond.code ({ cls := "PrivateIntersect", name := "giveMany", desc := "(III)I" } : Jvm.MethodName) prog_1_method_4_code (9 : Nat) (Option.some Jvm.ClassFile.FieldType.int)) ∈ lw_all := lw_g (lw_at lw_m1 67 rfl) rfl
theorem q88 : (Jvm.Cond.instanceMethod ({ cls := "PrivateIntersect", name := "take", desc := "(II)I" } : Jvm.MethodName)) ∈ lw_all := lw_g (lw_at lw_m1 69 rfl) rfl
theorem q89 : (Jvm.Cond.selects "PrivateIntersect" ({ cls := "PrivateIntersect", name := "take", desc := "(II)I" } : Jvm.MethodName) ({ cls := "PrivateIntersect", name := "take", desc := "(II)I" } : Jvm.MethodName)) ∈ lw_all := lw_g (lw_at lw_m1 70 rfl) rfl
theorem q90 : (Jvm.Cond.code ({ cls := "PrivateIntersect", name := "take", desc := "(II)I" } : Jvm.MethodName) prog_1_method_5_code (6 : Nat) (Option.some Jvm.ClassFile.FieldType.int)) ∈ lw_all := lw_g (lw_at lw_m1 71 rfl) rfl
theorem q92 : (Jvm.Cond.instanceMethod ({ cls := "PrivateIntersect", name := "clear", desc := "(I)I" } : Jvm.MethodName)) ∈ lw_all := lw_g (lw_at lw_m1 73 rfl) rfl
theorem q93 : (Jvm.Cond.selects "PrivateIntersect" ({ cls := "PrivateIntersect", name := "clear", desc := "(I)I" } : Jvm.MethodName) ({ cls := "PrivateIntersect", name := "clear", desc := "(I)I" } : Jvm.MethodName)) ∈ lw_all := lw_g (lw_at lw_m1 74 rfl) rfl
theorem q94 : (Jvm.Cond.code ({ cls := "PrivateIntersect", name := "clear", desc := "(I)I" } : Jvm.MethodName) prog_1_method_6_code (3 : Nat) (Option.some Jvm.ClassFile.FieldType.int)) ∈ lw_all := lw_g (lw_at lw_m1 75 rfl) rfl
theorem q96 : (Jvm.Cond.instanceMethod ({ cls := "PrivateIntersect", name := "held", desc := "(I)I" } : Jvm.MethodName)) ∈ lw_all := lw_g (lw_at lw_m1 77 rfl) rfl
theorem q97 : (Jvm.Cond.selects "PrivateIntersect" ({ cls := "PrivateIntersect", name := "held", desc := "(I)I" } : Jvm.MethodName) ({ cls := "PrivateIntersect", name := "held", desc := "(I)I" } : Jvm.MethodName)) ∈ lw_all := lw_g (lw_at lw_m1 78 rfl) rfl
theorem q98 : (Jvm.Cond.code ({ cls := "PrivateIntersect", name := "held", desc := "(I)I" } : Jvm.MethodName) prog_1_method_7_code (2 : Nat) (Option.some Jvm.ClassFile.FieldType.int)) ∈ lw_all := lw_g (lw_at lw_m1 79 rfl) rfl
theorem q100 : (Jvm.Cond.instanceMethod ({ cls := "PrivateIntersect", name := "holds", desc := "(II)I" } : Jvm.MethodName)) ∈ lw_all := lw_g (lw_at lw_m1 81 rfl) rfl
theorem q101 : (Jvm.Cond.selects "PrivateIntersect" ({ cls := "PrivateIntersect", name := "holds", desc := "(II)I" } : Jvm.MethodName) ({ cls := "PrivateIntersect", name := "holds", desc := "(II)I" } : Jvm.MethodName)) ∈ lw_all := lw_g (lw_at lw_m1 82 rfl) rfl
theorem q102 : (Jvm.Cond.code ({ cls := "PrivateIntersect", name := "holds", desc := "(II)I" } : Jvm.MethodName) prog_1_method_8_code (3 : Nat) (Option.some Jvm.ClassFile.FieldType.int)) ∈ lw_all := lw_g (lw_at lw_m1 83 rfl) rfl
theorem q104 : (Jvm.Cond.instanceMethod ({ cls := "PrivateIntersect", name := "common", desc := "(II)I" } : Jvm.MethodName)) ∈ lw_all := lw_g (lw_at lw_m1 85 rfl) rfl
theorem q105 : (Jvm.Cond.selects "PrivateIntersect" ({ cls := "PrivateIntersect", name := "common", desc := "(II)I" } : Jvm.MethodName) ({ cls := "PrivateIntersect", name := "common", desc := "(II)I" } : Jvm.MethodName)) ∈ lw_all := lw_g (lw_at lw_m1 86 rfl) rfl
theorem q106 : (Jvm.Cond.code ({ cls := "PrivateIntersect", name := "common", desc := "(II)I" } : Jvm.MethodName) prog_1_method_9_code (3 : Nat) (Option.some Jvm.ClassFile.FieldType.int)) ∈ lw_all := lw_g (lw_at lw_m1 87 rfl) rfl
theorem q107 : (Jvm.Cond.methodLink "PrivateIntersect" (53 : Nat) ({ cls := "PrivateIntersect", name := "compareTwo", desc := "(II)V" } : Jvm.MethodName)) ∈ lw_all := lw_g (lw_at lw_m1 88 rfl) rfl
theorem q108 : (Jvm.Cond.privateMethod ({ cls := "PrivateIntersect", name := "compareTwo", desc := "(II)V" } : Jvm.MethodName)) ∈ lw_tbl := lw_at lw_m1 89 rfl
theorem q109 : (Jvm.Cond.instanceMethod ({ cls := "PrivateIntersect", name := "compareTwo", desc := "(II)V" } : Jvm.MethodName)) ∈ lw_all := lw_g (lw_at lw_m1 90 rfl) rfl
theorem q110 : (Jvm.Cond.code ({ cls := "PrivateIntersect", name := "compareTwo", desc := "(II)V" } : Jvm.MethodName) prog_1_method_28_code (5 : Nat) (Option.none : Option Jvm.ClassFile.FieldType)) ∈ lw_all := lw_g (lw_at lw_m1 91 rfl) rfl
theorem q111 : (Jvm.Cond.methodLink "PrivateIntersect" (84 : Nat) ({ cls := "PrivateIntersect", name := "send", desc := "(I)V" } : Jvm.MethodName)) ∈ lw_all := lw_g (lw_at lw_m1 92 rfl) rfl
theorem q112 : (Jvm.Cond.privateMethod ({ cls := "PrivateIntersect", name := "send", desc := "(I)V" } : Jvm.MethodName)) ∈ lw_tbl := lw_at lw_m1 93 rfl
theorem q113 : (Jvm.Cond.instanceMethod ({ cls := "PrivateIntersect", name := "send", desc := "(I)V" } : Jvm.MethodName)) ∈ lw_all := lw_g (lw_at lw_m1 94 rfl) rfl
theorem q114 : (Jvm.Cond.code ({ cls := "PrivateIntersect", name := "send", desc := "(I)V" } : Jvm.MethodName) prog_1_method_25_code (7 : Nat) (Option.none : Option Jvm.ClassFile.FieldType)) ∈ lw_all := lw_g (lw_at lw_m1 95 rfl) rfl
theorem q115 : (Jvm.Cond.methodLink "PrivateIntersect" (78 : Nat) ({ cls := "PrivateIntersect", name := "power", desc := "(II)I" } : Jvm.MethodName)) ∈ lw_all := lw_g (lw_at lw_m1 96 rfl) rfl
theorem q116 : (Jvm.Cond.static ({ cls := "PrivateIntersect", name := "power", desc := "(II)I" } : Jvm.MethodName)) ∈ lw_all := lw_g (lw_at lw_m1 97 rfl) rfl
theorem q117 : (Jvm.Cond.code ({ cls := "PrivateIntersect", name := "power", desc := "(II)I" } : Jvm.MethodName) prog_1_method_23_code (5 : Nat) (Option.some Jvm.ClassFile.FieldType.int)) ∈ lw_all := lw_g (lw_at lw_m1 98 rfl) rfl
theorem q118 : (Jvm.Cond.methodLink "PrivateIntersect" (81 : Nat) ({ cls := "PrivateIntersect", name := "next", desc := "(I)I" } : Jvm.MethodName)) ∈ lw_all := lw_g (lw_at lw_m1 99 rfl) rfl
theorem q119 : (Jvm.Cond.privateMethod ({ cls := "PrivateIntersect", name := "next", desc := "(I)I" } : Jvm.MethodName)) ∈ lw_tbl := lw_at lw_m1 100 rfl
theorem q120 : (Jvm.Cond.instanceMethod ({ cls := "PrivateIntersect", name := "next", desc := "(I)I" } : Jvm.MethodName)) ∈ lw_all := lw_g (lw_at lw_m1 101 rfl) rfl
theorem q121 : (Jvm.Cond.code ({ cls := "PrivateIntersect", name := "next", desc := "(I)I" } : Jvm.MethodName) prog_1_method_24_code (3 : Nat) (Option.some Jvm.ClassFile.FieldType.int)) ∈ lw_all := lw_g (lw_at lw_m1 102 rfl) rfl
theorem q122 : (Jvm.Cond.constant "PrivateIntersect" (77 : Nat) (1103515245 : Int32)) ∈ lw_all := lw_g (lw_at lw_m1 103 rfl) rfl
theorem q123 : (Jvm.Cond.methodLink "PrivateIntersect" (87 : Nat) ({ cls := "PrivateIntersect", name := "raise", desc := "(II)V" } : Jvm.MethodName)) ∈ lw_all := lw_g (lw_at lw_m1 104 rfl) rfl
theorem q124 : (Jvm.Cond.privateMethod ({ cls := "PrivateIntersect", name := "raise", desc := "(II)V" } : Jvm.MethodName)) ∈ lw_tbl := lw_at lw_m1 105 rfl
theorem q125 : (Jvm.Cond.instanceMethod ({ cls := "PrivateIntersect", name := "raise", desc := "(II)V" } : Jvm.MethodName)) ∈ lw_all := lw_g (lw_at lw_m1 106 rfl) rfl
theorem q126 : (Jvm.Cond.code ({ cls := "PrivateIntersect", name := "raise", desc := "(II)V" } : Jvm.MethodName) prog_1_method_26_code (4 : Nat) (Option.none : Option Jvm.ClassFile.FieldType)) ∈ lw_all := lw_g (lw_at lw_m1 107 rfl) rfl
theorem q127 : (Jvm.Cond.methodLink "PrivateIntersect" (90 : Nat) ({ cls := "PrivateIntersect", name := "isSent", desc := "(II)Z" } : Jvm.MethodName)) ∈ lw_all := lw_g (lw_at lw_m1 108 rfl) rfl
theorem q128 : (Jvm.Cond.privateMethod ({ cls := "PrivateIntersect", name := "isSent", desc := "(II)Z" } : Jvm.MethodName)) ∈ lw_tbl := lw_at lw_m1 109 rfl
theorem q129 : (Jvm.Cond.instanceMethod ({ cls := "PrivateIntersect", name := "isSent", desc := "(II)Z" } : Jvm.MethodName)) ∈ lw_all := lw_g (lw_at lw_m1 110 rfl) rfl
theorem q130 : (Jvm.Cond.code ({ cls := "PrivateIntersect", name := "isSent", desc := "(II)Z" } : Jvm.MethodName) prog_1_method_27_code (4 : Nat) (Option.some Jvm.ClassFile.FieldType.boolean)) ∈ lw_all := lw_g (lw_at lw_m1 111 rfl) rfl
theorem q131 : (Jvm.Cond.methodLink "PrivateIntersect" (57 : Nat) ({ cls := "PrivateIntersect", name := "hits", desc := "(I)I" } : Jvm.MethodName)) ∈ lw_all := lw_g (lw_at lw_m1 112 rfl) rfl
theorem q132 : (Jvm.Cond.privateMethod ({ cls := "PrivateIntersect", name := "hits", desc := "(I)I" } : Jvm.MethodName)) ∈ lw_tbl := lw_at lw_m1 113 rfl
theorem q133 : (Jvm.Cond.instanceMethod ({ cls := "PrivateIntersect", name := "hits", desc := "(I)I" } : Jvm.MethodName)) ∈ lw_all := lw_g (lw_at lw_m1 114 rfl) rfl
theorem q134 : (Jvm.Cond.code ({ cls := "PrivateIntersect", name := "hits", desc := "(I)I" } : Jvm.MethodName) prog_1_method_31_code (4 : Nat) (Option.some Jvm.ClassFile.FieldType.int)) ∈ lw_all := lw_g (lw_at lw_m1 115 rfl) rfl
theorem q136 : (Jvm.Cond.instanceMethod ({ cls := "PrivateIntersect", name := "commonItem", desc := "(III)I" } : Jvm.MethodName)) ∈ lw_all := lw_g (lw_at lw_m1 117 rfl) rfl
theorem q137 : (Jvm.Cond.selects "PrivateIntersect" ({ cls := "PrivateIntersect", name := "commonItem", desc := "(III)I" } : Jvm.MethodName) ({ cls := "PrivateIntersect", name := "commonItem", desc := "(III)I" } : Jvm.MethodName)) ∈ lw_all := lw_g (lw_at lw_m1 118 rfl) rfl
theorem q138 : (Jvm.Cond.code ({ cls := "PrivateIntersect", name := "commonItem", desc := "(III)I" } : Jvm.MethodName) prog_1_method_10_code (4 : Nat) (Option.some Jvm.ClassFile.FieldType.int)) ∈ lw_all := lw_g (lw_at lw_m1 119 rfl) rfl
theorem q139 : (Jvm.Cond.methodLink "PrivateIntersect" (61 : Nat) ({ cls := "PrivateIntersect", name := "hitNumber", desc := "(II)I" } : Jvm.MethodName)) ∈ lw_all := lw_g (lw_at lw_m1 120 rfl) rfl
theorem q140 : (Jvm.Cond.privateMethod ({ cls := "PrivateIntersect", name := "hitNumber", desc := "(II)I" } : Jvm.MethodName)) ∈ lw_tbl := lw_at lw_m1 121 rfl
theorem q141 : (Jvm.Cond.instanceMethod ({ cls := "PrivateIntersect", name := "hitNumber", desc := "(II)I" } : Jvm.MethodName)) ∈ lw_all := lw_g (lw_at lw_m1 122 rfl) rfl
theorem q142 : (Jvm.Cond.code ({ cls := "PrivateIntersect", name := "hitNumber", desc := "(II)I" } : Jvm.MethodName) prog_1_method_32_code (5 : Nat) (Option.some Jvm.ClassFile.FieldType.int)) ∈ lw_all := lw_g (lw_at lw_m1 123 rfl) rfl
theorem q144 : (Jvm.Cond.instanceMethod ({ cls := "PrivateIntersect", name := "commonWeight", desc := "(II)I" } : Jvm.MethodName)) ∈ lw_all := lw_g (lw_at lw_m1 125 rfl) rfl
theorem q145 : (Jvm.Cond.selects "PrivateIntersect" ({ cls := "PrivateIntersect", name := "commonWeight", desc := "(II)I" } : Jvm.MethodName) ({ cls := "PrivateIntersect", name := "commonWeight", desc := "(II)I" } : Jvm.MethodName)) ∈ lw_all := lw_g (lw_at lw_m1 126 rfl) rfl
theorem q146 : (Jvm.Cond.code ({ cls := "PrivateIntersect", name := "commonWeight", desc := "(II)I" } : Jvm.MethodName) prog_1_method_11_code (5 : Nat) (Option.some Jvm.ClassFile.FieldType.int)) ∈ lw_all := lw_g (lw_at lw_m1 127 rfl) rfl
theorem q148 : (Jvm.Cond.instanceMethod ({ cls := "PrivateIntersect", name := "commonToAll", desc := "()I" } : Jvm.MethodName)) ∈ lw_all := lw_g (lw_at lw_m1 129 rfl) rfl
theorem q149 : (Jvm.Cond.selects "PrivateIntersect" ({ cls := "PrivateIntersect", name := "commonToAll", desc := "()I" } : Jvm.MethodName) ({ cls := "PrivateIntersect", name := "commonToAll", desc := "()I" } : Jvm.MethodName)) ∈ lw_all := lw_g (lw_at lw_m1 130 rfl) rfl
theorem q150 : (Jvm.Cond.code ({ cls := "PrivateIntersect", name := "commonToAll", desc := "()I" } : Jvm.MethodName) prog_1_method_12_code (1 : Nat) (Option.some Jvm.ClassFile.FieldType.int)) ∈ lw_all := lw_g (lw_at lw_m1 131 rfl) rfl
theorem q151 : (Jvm.Cond.methodLink "PrivateIntersect" (64 : Nat) ({ cls := "PrivateIntersect", name := "compareThree", desc := "(I)V" } : Jvm.MethodName)) ∈ lw_all := lw_g (lw_at lw_m1 132 rfl) rfl
theorem q152 : (Jvm.Cond.privateMethod ({ cls := "PrivateIntersect", name := "compareThree", desc := "(I)V" } : Jvm.MethodName)) ∈ lw_tbl := lw_at lw_m1 133 rfl
theorem q153 : (Jvm.Cond.instanceMethod ({ cls := "PrivateIntersect", name := "compareThree", desc := "(I)V" } : Jvm.MethodName)) ∈ lw_all := lw_g (lw_at lw_m1 134 rfl) rfl
theorem q154 : (Jvm.Cond.code ({ cls := "PrivateIntersect", name := "compareThree", desc := "(I)V" } : Jvm.MethodName) prog_1_method_29_code (7 : Nat) (Option.none : Option Jvm.ClassFile.FieldType)) ∈ lw_all := lw_g (lw_at lw_m1 135 rfl) rfl
theorem q156 : (Jvm.Cond.instanceMethod ({ cls := "PrivateIntersect", name := "itemOfAll", desc := "(I)I" } : Jvm.MethodName)) ∈ lw_all := lw_g (lw_at lw_m1 137 rfl) rfl
theorem q157 : (Jvm.Cond.selects "PrivateIntersect" ({ cls := "PrivateIntersect", name := "itemOfAll", desc := "(I)I" } : Jvm.MethodName) ({ cls := "PrivateIntersect", name := "itemOfAll", desc := "(I)I" } : Jvm.MethodName)) ∈ lw_all := lw_g (lw_at lw_m1 138 rfl) rfl
theorem q158 : (Jvm.Cond.code ({ cls := "PrivateIntersect", name := "itemOfAll", desc := "(I)I" } : Jvm.MethodName) prog_1_method_13_code (3 : Nat) (Option.some Jvm.ClassFile.FieldType.int)) ∈ lw_all := lw_g (lw_at lw_m1 139 rfl) rfl
theorem q160 : (Jvm.Cond.instanceMethod ({ cls := "PrivateIntersect", name := "any", desc := "()I" } : Jvm.MethodName)) ∈ lw_all := lw_g (lw_at lw_m1 141 rfl) rfl
theorem q161 : (Jvm.Cond.selects "PrivateIntersect" ({ cls := "PrivateIntersect", name := "any", desc := "()I" } : Jvm.MethodName) ({ cls := "PrivateIntersect", name := "any", desc := "()I" } : Jvm.MethodName)) ∈ lw_all := lw_g (lw_at lw_m1 142 rfl) rfl
theorem q162 : (Jvm.Cond.code ({ cls := "PrivateIntersect", name := "any", desc := "()I" } : Jvm.MethodName) prog_1_method_14_code (1 : Nat) (Option.some Jvm.ClassFile.FieldType.int)) ∈ lw_all := lw_g (lw_at lw_m1 143 rfl) rfl
theorem q163 : (Jvm.Cond.methodLink "PrivateIntersect" (68 : Nat) ({ cls := "PrivateIntersect", name := "heldByJust", desc := "(I)I" } : Jvm.MethodName)) ∈ lw_all := lw_g (lw_at lw_m1 144 rfl) rfl
theorem q164 : (Jvm.Cond.instanceMethod ({ cls := "PrivateIntersect", name := "heldByJust", desc := "(I)I" } : Jvm.MethodName)) ∈ lw_all := lw_g (lw_at lw_m1 145 rfl) rfl
theorem q165 : (Jvm.Cond.selects "PrivateIntersect" ({ cls := "PrivateIntersect", name := "heldByJust", desc := "(I)I" } : Jvm.MethodName) ({ cls := "PrivateIntersect", name := "heldByJust", desc := "(I)I" } : Jvm.MethodName)) ∈ lw_all := lw_g (lw_at lw_m1 146 rfl) rfl
theorem q166 : (Jvm.Cond.code ({ cls := "PrivateIntersect", name := "heldByJust", desc := "(I)I" } : Jvm.MethodName) prog_1_method_15_code (4 : Nat) (Option.some Jvm.ClassFile.FieldType.int)) ∈ lw_all := lw_g (lw_at lw_m1 147 rfl) rfl
theorem q167 : (Jvm.Cond.methodLink "PrivateIntersect" (71 : Nat) ({ cls := "PrivateIntersect", name := "pairCount", desc := "(II)I" } : Jvm.MethodName)) ∈ lw_all := lw_g (lw_at lw_m1 148 rfl) rfl
theorem q168 : (Jvm.Cond.privateMethod ({ cls := "PrivateIntersect", name := "pairCount", desc := "(II)I" } : Jvm.MethodName)) ∈ lw_tbl := lw_at lw_m1 149 rfl
theorem q169 : (Jvm.Cond.instanceMethod ({ cls := "PrivateIntersect", name := "pairCount", desc := "(II)I" } : Jvm.MethodName)) ∈ lw_all := lw_g (lw_at lw_m1 150 rfl) rfl
theorem q170 : (Jvm.Cond.code ({ cls := "PrivateIntersect", name := "pairCount", desc := "(II)I" } : Jvm.MethodName) prog_1_method_30_code (4 : Nat) (Option.some Jvm.ClassFile.FieldType.int)) ∈ lw_all := lw_g (lw_at lw_m1 151 rfl) rfl
theorem q173 : (Jvm.Cond.instanceMethod ({ cls := "PrivateIntersect", name := "alone", desc := "(I)I" } : Jvm.MethodName)) ∈ lw_all := lw_g (lw_at lw_m1 154 rfl) rfl
theorem q174 : (Jvm.Cond.selects "PrivateIntersect" ({ cls := "PrivateIntersect", name := "alone", desc := "(I)I" } : Jvm.MethodName) ({ cls := "PrivateIntersect", name := "alone", desc := "(I)I" } : Jvm.MethodName)) ∈ lw_all := lw_g (lw_at lw_m1 155 rfl) rfl
theorem q175 : (Jvm.Cond.code ({ cls := "PrivateIntersect", name := "alone", desc := "(I)I" } : Jvm.MethodName) prog_1_method_16_code (5 : Nat) (Option.some Jvm.ClassFile.FieldType.int)) ∈ lw_all := lw_g (lw_at lw_m1 156 rfl) rfl
theorem q177 : (Jvm.Cond.instanceMethod ({ cls := "PrivateIntersect", name := "within", desc := "(II)I" } : Jvm.MethodName)) ∈ lw_all := lw_g (lw_at lw_m1 158 rfl) rfl
theorem q178 : (Jvm.Cond.selects "PrivateIntersect" ({ cls := "PrivateIntersect", name := "within", desc := "(II)I" } : Jvm.MethodName) ({ cls := "PrivateIntersect", name := "within", desc := "(II)I" } : Jvm.MethodName)) ∈ lw_all := lw_g (lw_at lw_m1 159 rfl) rfl
theorem q179 : (Jvm.Cond.code ({ cls := "PrivateIntersect", name := "within", desc := "(II)I" } : Jvm.MethodName) prog_1_method_17_code (3 : Nat) (Option.some Jvm.ClassFile.FieldType.int)) ∈ lw_all := lw_g (lw_at lw_m1 160 rfl) rfl
theorem q181 : (Jvm.Cond.instanceMethod ({ cls := "PrivateIntersect", name := "traffic", desc := "()I" } : Jvm.MethodName)) ∈ lw_all := lw_g (lw_at lw_m1 162 rfl) rfl
theorem q182 : (Jvm.Cond.selects "PrivateIntersect" ({ cls := "PrivateIntersect", name := "traffic", desc := "()I" } : Jvm.MethodName) ({ cls := "PrivateIntersect", name := "traffic", desc := "()I" } : Jvm.MethodName)) ∈ lw_all := lw_g (lw_at lw_m1 163 rfl) rfl
theorem q183 : (Jvm.Cond.code ({ cls := "PrivateIntersect", name := "traffic", desc := "()I" } : Jvm.MethodName) prog_1_method_18_code (1 : Nat) (Option.some Jvm.ClassFile.FieldType.int)) ∈ lw_all := lw_g (lw_at lw_m1 164 rfl) rfl
theorem in_X1 : ∀ w ∈ wsX10, w ∈ lw_all := lw_in wsX10 [46, 48, 50, 52, 54, 56, 58, 60, 62] (by decide +kernel) (by decide +kernel)
end
section
/-! PrivateIntersectModel -/
set_option maxRecDepth 100000
def RX2 : String := "PrivateIntersectModel"
def TX2 : u_T := fun k => match k with
  | 0 => ("PrivateIntersectModel", "has", "[Z", false)
  | 1 => ("PrivateIntersectModel", "weight", "[I", false)
  | _ => ("PrivateIntersectModel", "sent", "I", false)
def tyX2 : Nat → FieldType := fun k => match k with
  | 0 => .array .boolean
  | 1 => .array .int
  | _ => .int
abbrev wsX20 : List Cond := u_ws RX2 TX2 3
theorem nmX2 : ∀ a, a < 3 → ∀ b, b < 3 → a ≠ b → (TX2 a).2.1 ≠ (TX2 b).2.1 := by decide +kernel
theorem tyX2_ok : ∀ k, k < 3 → parseFieldDescriptor (TX2 k).2.2.1 = some (tyX2 k) := by decide +kernel
abbrev cX2_init : ByteArray := prog_3_method_1_code
def yX2_init : MethodName := ⟨RX2, "<init>", "(III)V"⟩
theorem dX2_init_0 : decode cX2_init 0 = .ok (.aload_n 0, 1) := by decide +kernel
theorem dX2_init_1 : decode cX2_init 1 = .ok (.invokespecial 1, 3) := by decide +kernel
theorem dX2_init_4 : decode cX2_init 4 = .ok (.aload_n 0, 1) := by decide +kernel
theorem dX2_init_5 : decode cX2_init 5 = .ok (.sipush 192, 3) := by decide +kernel
theorem dX2_init_8 : decode cX2_init 8 = .ok (.newarray .boolean, 2) := by decide +kernel
theorem dX2_init_10 : decode cX2_init 10 = .ok (.putfield 7, 3) := by decide +kernel
theorem dX2_init_13 : decode cX2_init 13 = .ok (.aload_n 0, 1) := by decide +kernel
theorem dX2_init_14 : decode cX2_init 14 = .ok (.sipush 192, 3) := by decide +kernel
theorem dX2_init_17 : decode cX2_init 17 = .ok (.newarray .int, 2) := by decide +kernel
theorem dX2_init_19 : decode cX2_init 19 = .ok (.putfield 13, 3) := by decide +kernel
theorem dX2_init_22 : decode cX2_init 22 = .ok (.return_, 1) := by decide +kernel
abbrev cX2_secret : ByteArray := prog_3_method_5_code
def yX2_secret : MethodName := ⟨RX2, "secret", "(II)I"⟩
theorem dX2_secret_0 : decode cX2_secret 0 = .ok (.aload_n 0, 1) := by decide +kernel
theorem dX2_secret_1 : decode cX2_secret 1 = .ok (.iload_n 1, 1) := by decide +kernel
theorem dX2_secret_2 : decode cX2_secret 2 = .ok (.invokevirtual 17, 3) := by decide +kernel
theorem dX2_secret_5 : decode cX2_secret 5 = .ok (.ifCond .eq 7, 3) := by decide +kernel
theorem dX2_secret_8 : decode cX2_secret 8 = .ok (.iconst (-1), 1) := by decide +kernel
theorem dX2_secret_9 : decode cX2_secret 9 = .ok (.goto 4, 3) := by decide +kernel
theorem dX2_secret_12 : decode cX2_secret 12 = .ok (.iconst 0, 1) := by decide +kernel
theorem dX2_secret_13 : decode cX2_secret 13 = .ok (.ireturn, 1) := by decide +kernel
abbrev cX2_bad : ByteArray := prog_3_method_2_code
def yX2_bad : MethodName := ⟨RX2, "bad", "(I)Z"⟩
theorem dX2_bad_0 : decode cX2_bad 0 = .ok (.iload_n 1, 1) := by decide +kernel
theorem dX2_bad_1 : decode cX2_bad 1 = .ok (.ifCond .lt 8, 3) := by decide +kernel
theorem dX2_bad_4 : decode cX2_bad 4 = .ok (.iload_n 1, 1) := by decide +kernel
theorem dX2_bad_5 : decode cX2_bad 5 = .ok (.iconst 2, 1) := by decide +kernel
theorem dX2_bad_6 : decode cX2_bad 6 = .ok (.if_icmp .le 7, 3) := by decide +kernel
theorem dX2_bad_9 : decode cX2_bad 9 = .ok (.iconst 1, 1) := by decide +kernel
theorem dX2_bad_10 : decode cX2_bad 10 = .ok (.goto 4, 3) := by decide +kernel
theorem dX2_bad_13 : decode cX2_bad 13 = .ok (.iconst 0, 1) := by decide +kernel
theorem dX2_bad_14 : decode cX2_bad 14 = .ok (.ireturn, 1) := by decide +kernel
abbrev cX2_give : ByteArray := prog_3_method_6_code
def yX2_give : MethodName := ⟨RX2, "give", "(III)I"⟩
theorem dX2_give_0 : decode cX2_give 0 = .ok (.aload_n 0, 1) := by decide +kernel
theorem dX2_give_1 : decode cX2_give 1 = .ok (.iload_n 1, 1) := by decide +kernel
theorem dX2_give_2 : decode cX2_give 2 = .ok (.invokevirtual 17, 3) := by decide +kernel
theorem dX2_give_5 : decode cX2_give 5 = .ok (.ifCond .eq 5, 3) := by decide +kernel
theorem dX2_give_8 : decode cX2_give 8 = .ok (.iconst (-1), 1) := by decide +kernel
theorem dX2_give_9 : decode cX2_give 9 = .ok (.ireturn, 1) := by decide +kernel
theorem dX2_give_10 : decode cX2_give 10 = .ok (.aload_n 0, 1) := by decide +kernel
theorem dX2_give_11 : decode cX2_give 11 = .ok (.iload_n 2, 1) := by decide +kernel
theorem dX2_give_12 : decode cX2_give 12 = .ok (.invokevirtual 21, 3) := by decide +kernel
theorem dX2_give_15 : decode cX2_give 15 = .ok (.ifCond .eq 6, 3) := by decide +kernel
theorem dX2_give_18 : decode cX2_give 18 = .ok (.bipush (-2), 2) := by decide +kernel
theorem dX2_give_20 : decode cX2_give 20 = .ok (.ireturn, 1) := by decide +kernel
theorem dX2_give_21 : decode cX2_give 21 = .ok (.aload_n 0, 1) := by decide +kernel
theorem dX2_give_22 : decode cX2_give 22 = .ok (.iload_n 1, 1) := by decide +kernel
theorem dX2_give_23 : decode cX2_give 23 = .ok (.invokevirtual 24, 3) := by decide +kernel
theorem dX2_give_26 : decode cX2_give 26 = .ok (.bipush 16, 2) := by decide +kernel
theorem dX2_give_28 : decode cX2_give 28 = .ok (.if_icmp .ne 20, 3) := by decide +kernel
theorem dX2_give_31 : decode cX2_give 31 = .ok (.aload_n 0, 1) := by decide +kernel
theorem dX2_give_32 : decode cX2_give 32 = .ok (.getfield 7, 3) := by decide +kernel
theorem dX2_give_35 : decode cX2_give 35 = .ok (.bipush 64, 2) := by decide +kernel
theorem dX2_give_37 : decode cX2_give 37 = .ok (.iload_n 1, 1) := by decide +kernel
theorem dX2_give_38 : decode cX2_give 38 = .ok (.imul, 1) := by decide +kernel
theorem dX2_give_39 : decode cX2_give 39 = .ok (.iload_n 2, 1) := by decide +kernel
theorem dX2_give_40 : decode cX2_give 40 = .ok (.iadd, 1) := by decide +kernel
theorem dX2_give_41 : decode cX2_give 41 = .ok (.baload, 1) := by decide +kernel
theorem dX2_give_42 : decode cX2_give 42 = .ok (.ifCond .ne 6, 3) := by decide +kernel
theorem dX2_give_45 : decode cX2_give 45 = .ok (.bipush (-3), 2) := by decide +kernel
theorem dX2_give_47 : decode cX2_give 47 = .ok (.ireturn, 1) := by decide +kernel
theorem dX2_give_48 : decode cX2_give 48 = .ok (.aload_n 0, 1) := by decide +kernel
theorem dX2_give_49 : decode cX2_give 49 = .ok (.getfield 7, 3) := by decide +kernel
theorem dX2_give_52 : decode cX2_give 52 = .ok (.bipush 64, 2) := by decide +kernel
theorem dX2_give_54 : decode cX2_give 54 = .ok (.iload_n 1, 1) := by decide +kernel
theorem dX2_give_55 : decode cX2_give 55 = .ok (.imul, 1) := by decide +kernel
theorem dX2_give_56 : decode cX2_give 56 = .ok (.iload_n 2, 1) := by decide +kernel
theorem dX2_give_57 : decode cX2_give 57 = .ok (.iadd, 1) := by decide +kernel
theorem dX2_give_58 : decode cX2_give 58 = .ok (.iconst 1, 1) := by decide +kernel
theorem dX2_give_59 : decode cX2_give 59 = .ok (.bastore, 1) := by decide +kernel
theorem dX2_give_60 : decode cX2_give 60 = .ok (.aload_n 0, 1) := by decide +kernel
theorem dX2_give_61 : decode cX2_give 61 = .ok (.getfield 13, 3) := by decide +kernel
theorem dX2_give_64 : decode cX2_give 64 = .ok (.bipush 64, 2) := by decide +kernel
theorem dX2_give_66 : decode cX2_give 66 = .ok (.iload_n 1, 1) := by decide +kernel
theorem dX2_give_67 : decode cX2_give 67 = .ok (.imul, 1) := by decide +kernel
theorem dX2_give_68 : decode cX2_give 68 = .ok (.iload_n 2, 1) := by decide +kernel
theorem dX2_give_69 : decode cX2_give 69 = .ok (.iadd, 1) := by decide +kernel
theorem dX2_give_70 : decode cX2_give 70 = .ok (.iload_n 3, 1) := by decide +kernel
theorem dX2_give_71 : decode cX2_give 71 = .ok (.iastore, 1) := by decide +kernel
theorem dX2_give_72 : decode cX2_give 72 = .ok (.aload_n 0, 1) := by decide +kernel
theorem dX2_give_73 : decode cX2_give 73 = .ok (.iload_n 1, 1) := by decide +kernel
theorem dX2_give_74 : decode cX2_give 74 = .ok (.invokevirtual 24, 3) := by decide +kernel
theorem dX2_give_77 : decode cX2_give 77 = .ok (.ireturn, 1) := by decide +kernel
abbrev cX2_badItem : ByteArray := prog_3_method_3_code
def yX2_badItem : MethodName := ⟨RX2, "badItem", "(I)Z"⟩
theorem dX2_badItem_0 : decode cX2_badItem 0 = .ok (.iload_n 1, 1) := by decide +kernel
theorem dX2_badItem_1 : decode cX2_badItem 1 = .ok (.ifCond .lt 9, 3) := by decide +kernel
theorem dX2_badItem_4 : decode cX2_badItem 4 = .ok (.iload_n 1, 1) := by decide +kernel
theorem dX2_badItem_5 : decode cX2_badItem 5 = .ok (.bipush 63, 2) := by decide +kernel
theorem dX2_badItem_7 : decode cX2_badItem 7 = .ok (.if_icmp .le 7, 3) := by decide +kernel
theorem dX2_badItem_10 : decode cX2_badItem 10 = .ok (.iconst 1, 1) := by decide +kernel
theorem dX2_badItem_11 : decode cX2_badItem 11 = .ok (.goto 4, 3) := by decide +kernel
theorem dX2_badItem_14 : decode cX2_badItem 14 = .ok (.iconst 0, 1) := by decide +kernel
theorem dX2_badItem_15 : decode cX2_badItem 15 = .ok (.ireturn, 1) := by decide +kernel
abbrev cX2_size : ByteArray := prog_3_method_4_code
def yX2_size : MethodName := ⟨RX2, "size", "(I)I"⟩
theorem dX2_size_0 : decode cX2_size 0 = .ok (.iconst 0, 1) := by decide +kernel
theorem dX2_size_1 : decode cX2_size 1 = .ok (.istore_n 2, 1) := by decide +kernel
theorem dX2_size_2 : decode cX2_size 2 = .ok (.iconst 0, 1) := by decide +kernel
theorem dX2_size_3 : decode cX2_size 3 = .ok (.istore_n 3, 1) := by decide +kernel
theorem dX2_size_4 : decode cX2_size 4 = .ok (.iload_n 3, 1) := by decide +kernel
theorem dX2_size_5 : decode cX2_size 5 = .ok (.bipush 64, 2) := by decide +kernel
theorem dX2_size_7 : decode cX2_size 7 = .ok (.if_icmp .ge 26, 3) := by decide +kernel
theorem dX2_size_10 : decode cX2_size 10 = .ok (.aload_n 0, 1) := by decide +kernel
theorem dX2_size_11 : decode cX2_size 11 = .ok (.getfield 7, 3) := by decide +kernel
theorem dX2_size_14 : decode cX2_size 14 = .ok (.bipush 64, 2) := by decide +kernel
theorem dX2_size_16 : decode cX2_size 16 = .ok (.iload_n 1, 1) := by decide +kernel
theorem dX2_size_17 : decode cX2_size 17 = .ok (.imul, 1) := by decide +kernel
theorem dX2_size_18 : decode cX2_size 18 = .ok (.iload_n 3, 1) := by decide +kernel
theorem dX2_size_19 : decode cX2_size 19 = .ok (.iadd, 1) := by decide +kernel
theorem dX2_size_20 : decode cX2_size 20 = .ok (.baload, 1) := by decide +kernel
theorem dX2_size_21 : decode cX2_size 21 = .ok (.ifCond .eq 6, 3) := by decide +kernel
theorem dX2_size_24 : decode cX2_size 24 = .ok (.iinc 2 1, 3) := by decide +kernel
theorem dX2_size_27 : decode cX2_size 27 = .ok (.iinc 3 1, 3) := by decide +kernel
theorem dX2_size_30 : decode cX2_size 30 = .ok (.goto (-26), 3) := by decide +kernel
theorem dX2_size_33 : decode cX2_size 33 = .ok (.iload_n 2, 1) := by decide +kernel
theorem dX2_size_34 : decode cX2_size 34 = .ok (.ireturn, 1) := by decide +kernel
abbrev cX2_giveMany : ByteArray := prog_3_method_8_code
def yX2_giveMany : MethodName := ⟨RX2, "giveMany", "(III)I"⟩
theorem dX2_giveMany_0 : decode cX2_giveMany 0 = .ok (.aload_n 0, 1) := by decide +kernel
theorem dX2_giveMany_1 : decode cX2_giveMany 1 = .ok (.iload_n 1, 1) := by decide +kernel
theorem dX2_giveMany_2 : decode cX2_giveMany 2 = .ok (.invokevirtual 17, 3) := by decide +kernel
theorem dX2_giveMany_5 : decode cX2_giveMany 5 = .ok (.ifCond .eq 5, 3) := by decide +kernel
theorem dX2_giveMany_8 : decode cX2_giveMany 8 = .ok (.iconst (-1), 1) := by decide +kernel
theorem dX2_giveMany_9 : decode cX2_giveMany 9 = .ok (.ireturn, 1) := by decide +kernel
theorem dX2_giveMany_10 : decode cX2_giveMany 10 = .ok (.iload_n 2, 1) := by decide +kernel
theorem dX2_giveMany_11 : decode cX2_giveMany 11 = .ok (.bipush 64, 2) := by decide +kernel
theorem dX2_giveMany_13 : decode cX2_giveMany 13 = .ok (.if_icmp .lt 10, 3) := by decide +kernel
theorem dX2_giveMany_16 : decode cX2_giveMany 16 = .ok (.iload_n 2, 1) := by decide +kernel
theorem dX2_giveMany_17 : decode cX2_giveMany 17 = .ok (.sipush 1087, 3) := by decide +kernel
theorem dX2_giveMany_20 : decode cX2_giveMany 20 = .ok (.if_icmp .le 6, 3) := by decide +kernel
theorem dX2_giveMany_23 : decode cX2_giveMany 23 = .ok (.bipush (-2), 2) := by decide +kernel
theorem dX2_giveMany_25 : decode cX2_giveMany 25 = .ok (.ireturn, 1) := by decide +kernel
theorem dX2_giveMany_26 : decode cX2_giveMany 26 = .ok (.iload_n 3, 1) := by decide +kernel
theorem dX2_giveMany_27 : decode cX2_giveMany 27 = .ok (.iconst 1, 1) := by decide +kernel
theorem dX2_giveMany_28 : decode cX2_giveMany 28 = .ok (.if_icmp .lt 9, 3) := by decide +kernel
theorem dX2_giveMany_31 : decode cX2_giveMany 31 = .ok (.iload_n 3, 1) := by decide +kernel
theorem dX2_giveMany_32 : decode cX2_giveMany 32 = .ok (.bipush 63, 2) := by decide +kernel
theorem dX2_giveMany_34 : decode cX2_giveMany 34 = .ok (.if_icmp .le 6, 3) := by decide +kernel
theorem dX2_giveMany_37 : decode cX2_giveMany 37 = .ok (.bipush (-3), 2) := by decide +kernel
theorem dX2_giveMany_39 : decode cX2_giveMany 39 = .ok (.ireturn, 1) := by decide +kernel
theorem dX2_giveMany_40 : decode cX2_giveMany 40 = .ok (.iload_n 2, 1) := by decide +kernel
theorem dX2_giveMany_41 : decode cX2_giveMany 41 = .ok (.bipush 64, 2) := by decide +kernel
theorem dX2_giveMany_43 : decode cX2_giveMany 43 = .ok (.idiv, 1) := by decide +kernel
theorem dX2_giveMany_44 : decode cX2_giveMany 44 = .ok (.istore 4, 2) := by decide +kernel
theorem dX2_giveMany_46 : decode cX2_giveMany 46 = .ok (.iload_n 2, 1) := by decide +kernel
theorem dX2_giveMany_47 : decode cX2_giveMany 47 = .ok (.bipush 64, 2) := by decide +kernel
theorem dX2_giveMany_49 : decode cX2_giveMany 49 = .ok (.irem, 1) := by decide +kernel
theorem dX2_giveMany_50 : decode cX2_giveMany 50 = .ok (.istore 5, 2) := by decide +kernel
theorem dX2_giveMany_52 : decode cX2_giveMany 52 = .ok (.iconst 0, 1) := by decide +kernel
theorem dX2_giveMany_53 : decode cX2_giveMany 53 = .ok (.istore 6, 2) := by decide +kernel
theorem dX2_giveMany_55 : decode cX2_giveMany 55 = .ok (.iconst 0, 1) := by decide +kernel
theorem dX2_giveMany_56 : decode cX2_giveMany 56 = .ok (.istore 7, 2) := by decide +kernel
theorem dX2_giveMany_58 : decode cX2_giveMany 58 = .ok (.iload 7, 2) := by decide +kernel
theorem dX2_giveMany_60 : decode cX2_giveMany 60 = .ok (.bipush 64, 2) := by decide +kernel
theorem dX2_giveMany_62 : decode cX2_giveMany 62 = .ok (.if_icmp .ge 41, 3) := by decide +kernel
theorem dX2_giveMany_65 : decode cX2_giveMany 65 = .ok (.aload_n 0, 1) := by decide +kernel
theorem dX2_giveMany_66 : decode cX2_giveMany 66 = .ok (.iload 5, 2) := by decide +kernel
theorem dX2_giveMany_68 : decode cX2_giveMany 68 = .ok (.iload 4, 2) := by decide +kernel
theorem dX2_giveMany_70 : decode cX2_giveMany 70 = .ok (.iload_n 3, 1) := by decide +kernel
theorem dX2_giveMany_71 : decode cX2_giveMany 71 = .ok (.iload 7, 2) := by decide +kernel
theorem dX2_giveMany_73 : decode cX2_giveMany 73 = .ok (.invokevirtual 28, 3) := by decide +kernel
theorem dX2_giveMany_76 : decode cX2_giveMany 76 = .ok (.ifCond .eq 21, 3) := by decide +kernel
theorem dX2_giveMany_79 : decode cX2_giveMany 79 = .ok (.aload_n 0, 1) := by decide +kernel
theorem dX2_giveMany_80 : decode cX2_giveMany 80 = .ok (.getfield 7, 3) := by decide +kernel
theorem dX2_giveMany_83 : decode cX2_giveMany 83 = .ok (.bipush 64, 2) := by decide +kernel
theorem dX2_giveMany_85 : decode cX2_giveMany 85 = .ok (.iload_n 1, 1) := by decide +kernel
theorem dX2_giveMany_86 : decode cX2_giveMany 86 = .ok (.imul, 1) := by decide +kernel
theorem dX2_giveMany_87 : decode cX2_giveMany 87 = .ok (.iload 7, 2) := by decide +kernel
theorem dX2_giveMany_89 : decode cX2_giveMany 89 = .ok (.iadd, 1) := by decide +kernel
theorem dX2_giveMany_90 : decode cX2_giveMany 90 = .ok (.baload, 1) := by decide +kernel
theorem dX2_giveMany_91 : decode cX2_giveMany 91 = .ok (.ifCond .ne 6, 3) := by decide +kernel
theorem dX2_giveMany_94 : decode cX2_giveMany 94 = .ok (.iinc 6 1, 3) := by decide +kernel
theorem dX2_giveMany_97 : decode cX2_giveMany 97 = .ok (.iinc 7 1, 3) := by decide +kernel
theorem dX2_giveMany_100 : decode cX2_giveMany 100 = .ok (.goto (-42), 3) := by decide +kernel
theorem dX2_giveMany_103 : decode cX2_giveMany 103 = .ok (.aload_n 0, 1) := by decide +kernel
theorem dX2_giveMany_104 : decode cX2_giveMany 104 = .ok (.iload_n 1, 1) := by decide +kernel
theorem dX2_giveMany_105 : decode cX2_giveMany 105 = .ok (.invokevirtual 24, 3) := by decide +kernel
theorem dX2_giveMany_108 : decode cX2_giveMany 108 = .ok (.iload 6, 2) := by decide +kernel
theorem dX2_giveMany_110 : decode cX2_giveMany 110 = .ok (.iadd, 1) := by decide +kernel
theorem dX2_giveMany_111 : decode cX2_giveMany 111 = .ok (.bipush 16, 2) := by decide +kernel
theorem dX2_giveMany_113 : decode cX2_giveMany 113 = .ok (.if_icmp .le 6, 3) := by decide +kernel
theorem dX2_giveMany_116 : decode cX2_giveMany 116 = .ok (.bipush (-4), 2) := by decide +kernel
theorem dX2_giveMany_118 : decode cX2_giveMany 118 = .ok (.ireturn, 1) := by decide +kernel
theorem dX2_giveMany_119 : decode cX2_giveMany 119 = .ok (.iconst 0, 1) := by decide +kernel
theorem dX2_giveMany_120 : decode cX2_giveMany 120 = .ok (.istore 7, 2) := by decide +kernel
theorem dX2_giveMany_122 : decode cX2_giveMany 122 = .ok (.iload 7, 2) := by decide +kernel
theorem dX2_giveMany_124 : decode cX2_giveMany 124 = .ok (.bipush 64, 2) := by decide +kernel
theorem dX2_giveMany_126 : decode cX2_giveMany 126 = .ok (.if_icmp .ge 64, 3) := by decide +kernel
theorem dX2_giveMany_129 : decode cX2_giveMany 129 = .ok (.aload_n 0, 1) := by decide +kernel
theorem dX2_giveMany_130 : decode cX2_giveMany 130 = .ok (.iload 5, 2) := by decide +kernel
theorem dX2_giveMany_132 : decode cX2_giveMany 132 = .ok (.iload 4, 2) := by decide +kernel
theorem dX2_giveMany_134 : decode cX2_giveMany 134 = .ok (.iload_n 3, 1) := by decide +kernel
theorem dX2_giveMany_135 : decode cX2_giveMany 135 = .ok (.iload 7, 2) := by decide +kernel
theorem dX2_giveMany_137 : decode cX2_giveMany 137 = .ok (.invokevirtual 28, 3) := by decide +kernel
theorem dX2_giveMany_140 : decode cX2_giveMany 140 = .ok (.ifCond .eq 44, 3) := by decide +kernel
theorem dX2_giveMany_143 : decode cX2_giveMany 143 = .ok (.aload_n 0, 1) := by decide +kernel
theorem dX2_giveMany_144 : decode cX2_giveMany 144 = .ok (.getfield 7, 3) := by decide +kernel
theorem dX2_giveMany_147 : decode cX2_giveMany 147 = .ok (.bipush 64, 2) := by decide +kernel
theorem dX2_giveMany_149 : decode cX2_giveMany 149 = .ok (.iload_n 1, 1) := by decide +kernel
theorem dX2_giveMany_150 : decode cX2_giveMany 150 = .ok (.imul, 1) := by decide +kernel
theorem dX2_giveMany_151 : decode cX2_giveMany 151 = .ok (.iload 7, 2) := by decide +kernel
theorem dX2_giveMany_153 : decode cX2_giveMany 153 = .ok (.iadd, 1) := by decide +kernel
theorem dX2_giveMany_154 : decode cX2_giveMany 154 = .ok (.baload, 1) := by decide +kernel
theorem dX2_giveMany_155 : decode cX2_giveMany 155 = .ok (.ifCond .ne 29, 3) := by decide +kernel
theorem dX2_giveMany_158 : decode cX2_giveMany 158 = .ok (.aload_n 0, 1) := by decide +kernel
theorem dX2_giveMany_159 : decode cX2_giveMany 159 = .ok (.getfield 7, 3) := by decide +kernel
theorem dX2_giveMany_162 : decode cX2_giveMany 162 = .ok (.bipush 64, 2) := by decide +kernel
theorem dX2_giveMany_164 : decode cX2_giveMany 164 = .ok (.iload_n 1, 1) := by decide +kernel
theorem dX2_giveMany_165 : decode cX2_giveMany 165 = .ok (.imul, 1) := by decide +kernel
theorem dX2_giveMany_166 : decode cX2_giveMany 166 = .ok (.iload 7, 2) := by decide +kernel
theorem dX2_giveMany_168 : decode cX2_giveMany 168 = .ok (.iadd, 1) := by decide +kernel
theorem dX2_giveMany_169 : decode cX2_giveMany 169 = .ok (.iconst 1, 1) := by decide +kernel
theorem dX2_giveMany_170 : decode cX2_giveMany 170 = .ok (.bastore, 1) := by decide +kernel
theorem dX2_giveMany_171 : decode cX2_giveMany 171 = .ok (.aload_n 0, 1) := by decide +kernel
theorem dX2_giveMany_172 : decode cX2_giveMany 172 = .ok (.getfield 13, 3) := by decide +kernel
theorem dX2_giveMany_175 : decode cX2_giveMany 175 = .ok (.bipush 64, 2) := by decide +kernel
theorem dX2_giveMany_177 : decode cX2_giveMany 177 = .ok (.iload_n 1, 1) := by decide +kernel
theorem dX2_giveMany_178 : decode cX2_giveMany 178 = .ok (.imul, 1) := by decide +kernel
theorem dX2_giveMany_179 : decode cX2_giveMany 179 = .ok (.iload 7, 2) := by decide +kernel
theorem dX2_giveMany_181 : decode cX2_giveMany 181 = .ok (.iadd, 1) := by decide +kernel
theorem dX2_giveMany_182 : decode cX2_giveMany 182 = .ok (.iconst 1, 1) := by decide +kernel
theorem dX2_giveMany_183 : decode cX2_giveMany 183 = .ok (.iastore, 1) := by decide +kernel
theorem dX2_giveMany_184 : decode cX2_giveMany 184 = .ok (.iinc 7 1, 3) := by decide +kernel
theorem dX2_giveMany_187 : decode cX2_giveMany 187 = .ok (.goto (-65), 3) := by decide +kernel
theorem dX2_giveMany_190 : decode cX2_giveMany 190 = .ok (.aload_n 0, 1) := by decide +kernel
theorem dX2_giveMany_191 : decode cX2_giveMany 191 = .ok (.iload_n 1, 1) := by decide +kernel
theorem dX2_giveMany_192 : decode cX2_giveMany 192 = .ok (.invokevirtual 24, 3) := by decide +kernel
theorem dX2_giveMany_195 : decode cX2_giveMany 195 = .ok (.ireturn, 1) := by decide +kernel
abbrev cX2_among : ByteArray := prog_3_method_7_code
def yX2_among : MethodName := ⟨RX2, "among", "(IIII)Z"⟩
theorem dX2_among_0 : decode cX2_among 0 = .ok (.iconst 0, 1) := by decide +kernel
theorem dX2_among_1 : decode cX2_among 1 = .ok (.istore 5, 2) := by decide +kernel
theorem dX2_among_3 : decode cX2_among 3 = .ok (.iload 5, 2) := by decide +kernel
theorem dX2_among_5 : decode cX2_among 5 = .ok (.iload_n 2, 1) := by decide +kernel
theorem dX2_among_6 : decode cX2_among 6 = .ok (.if_icmp .ge 25, 3) := by decide +kernel
theorem dX2_among_9 : decode cX2_among 9 = .ok (.iload_n 1, 1) := by decide +kernel
theorem dX2_among_10 : decode cX2_among 10 = .ok (.iload 5, 2) := by decide +kernel
theorem dX2_among_12 : decode cX2_among 12 = .ok (.iload_n 3, 1) := by decide +kernel
theorem dX2_among_13 : decode cX2_among 13 = .ok (.imul, 1) := by decide +kernel
theorem dX2_among_14 : decode cX2_among 14 = .ok (.iadd, 1) := by decide +kernel
theorem dX2_among_15 : decode cX2_among 15 = .ok (.bipush 64, 2) := by decide +kernel
theorem dX2_among_17 : decode cX2_among 17 = .ok (.irem, 1) := by decide +kernel
theorem dX2_among_18 : decode cX2_among 18 = .ok (.iload 4, 2) := by decide +kernel
theorem dX2_among_20 : decode cX2_among 20 = .ok (.if_icmp .ne 5, 3) := by decide +kernel
theorem dX2_among_23 : decode cX2_among 23 = .ok (.iconst 1, 1) := by decide +kernel
theorem dX2_among_24 : decode cX2_among 24 = .ok (.ireturn, 1) := by decide +kernel
theorem dX2_among_25 : decode cX2_among 25 = .ok (.iinc 5 1, 3) := by decide +kernel
theorem dX2_among_28 : decode cX2_among 28 = .ok (.goto (-25), 3) := by decide +kernel
theorem dX2_among_31 : decode cX2_among 31 = .ok (.iconst 0, 1) := by decide +kernel
theorem dX2_among_32 : decode cX2_among 32 = .ok (.ireturn, 1) := by decide +kernel
abbrev cX2_take : ByteArray := prog_3_method_9_code
def yX2_take : MethodName := ⟨RX2, "take", "(II)I"⟩
theorem dX2_take_0 : decode cX2_take 0 = .ok (.aload_n 0, 1) := by decide +kernel
theorem dX2_take_1 : decode cX2_take 1 = .ok (.iload_n 1, 1) := by decide +kernel
theorem dX2_take_2 : decode cX2_take 2 = .ok (.invokevirtual 17, 3) := by decide +kernel
theorem dX2_take_5 : decode cX2_take 5 = .ok (.ifCond .eq 5, 3) := by decide +kernel
theorem dX2_take_8 : decode cX2_take 8 = .ok (.iconst (-1), 1) := by decide +kernel
theorem dX2_take_9 : decode cX2_take 9 = .ok (.ireturn, 1) := by decide +kernel
theorem dX2_take_10 : decode cX2_take 10 = .ok (.aload_n 0, 1) := by decide +kernel
theorem dX2_take_11 : decode cX2_take 11 = .ok (.iload_n 2, 1) := by decide +kernel
theorem dX2_take_12 : decode cX2_take 12 = .ok (.invokevirtual 21, 3) := by decide +kernel
theorem dX2_take_15 : decode cX2_take 15 = .ok (.ifCond .eq 6, 3) := by decide +kernel
theorem dX2_take_18 : decode cX2_take 18 = .ok (.bipush (-2), 2) := by decide +kernel
theorem dX2_take_20 : decode cX2_take 20 = .ok (.ireturn, 1) := by decide +kernel
theorem dX2_take_21 : decode cX2_take 21 = .ok (.aload_n 0, 1) := by decide +kernel
theorem dX2_take_22 : decode cX2_take 22 = .ok (.getfield 7, 3) := by decide +kernel
theorem dX2_take_25 : decode cX2_take 25 = .ok (.bipush 64, 2) := by decide +kernel
theorem dX2_take_27 : decode cX2_take 27 = .ok (.iload_n 1, 1) := by decide +kernel
theorem dX2_take_28 : decode cX2_take 28 = .ok (.imul, 1) := by decide +kernel
theorem dX2_take_29 : decode cX2_take 29 = .ok (.iload_n 2, 1) := by decide +kernel
theorem dX2_take_30 : decode cX2_take 30 = .ok (.iadd, 1) := by decide +kernel
theorem dX2_take_31 : decode cX2_take 31 = .ok (.baload, 1) := by decide +kernel
theorem dX2_take_32 : decode cX2_take 32 = .ok (.ifCond .ne 6, 3) := by decide +kernel
theorem dX2_take_35 : decode cX2_take 35 = .ok (.bipush (-3), 2) := by decide +kernel
theorem dX2_take_37 : decode cX2_take 37 = .ok (.ireturn, 1) := by decide +kernel
theorem dX2_take_38 : decode cX2_take 38 = .ok (.aload_n 0, 1) := by decide +kernel
theorem dX2_take_39 : decode cX2_take 39 = .ok (.getfield 7, 3) := by decide +kernel
theorem dX2_take_42 : decode cX2_take 42 = .ok (.bipush 64, 2) := by decide +kernel
theorem dX2_take_44 : decode cX2_take 44 = .ok (.iload_n 1, 1) := by decide +kernel
theorem dX2_take_45 : decode cX2_take 45 = .ok (.imul, 1) := by decide +kernel
theorem dX2_take_46 : decode cX2_take 46 = .ok (.iload_n 2, 1) := by decide +kernel
theorem dX2_take_47 : decode cX2_take 47 = .ok (.iadd, 1) := by decide +kernel
theorem dX2_take_48 : decode cX2_take 48 = .ok (.iconst 0, 1) := by decide +kernel
theorem dX2_take_49 : decode cX2_take 49 = .ok (.bastore, 1) := by decide +kernel
theorem dX2_take_50 : decode cX2_take 50 = .ok (.aload_n 0, 1) := by decide +kernel
theorem dX2_take_51 : decode cX2_take 51 = .ok (.iload_n 1, 1) := by decide +kernel
theorem dX2_take_52 : decode cX2_take 52 = .ok (.invokevirtual 24, 3) := by decide +kernel
theorem dX2_take_55 : decode cX2_take 55 = .ok (.ireturn, 1) := by decide +kernel
abbrev cX2_clear : ByteArray := prog_3_method_10_code
def yX2_clear : MethodName := ⟨RX2, "clear", "(I)I"⟩
theorem dX2_clear_0 : decode cX2_clear 0 = .ok (.aload_n 0, 1) := by decide +kernel
theorem dX2_clear_1 : decode cX2_clear 1 = .ok (.iload_n 1, 1) := by decide +kernel
theorem dX2_clear_2 : decode cX2_clear 2 = .ok (.invokevirtual 17, 3) := by decide +kernel
theorem dX2_clear_5 : decode cX2_clear 5 = .ok (.ifCond .eq 5, 3) := by decide +kernel
theorem dX2_clear_8 : decode cX2_clear 8 = .ok (.iconst (-1), 1) := by decide +kernel
theorem dX2_clear_9 : decode cX2_clear 9 = .ok (.ireturn, 1) := by decide +kernel
theorem dX2_clear_10 : decode cX2_clear 10 = .ok (.aload_n 0, 1) := by decide +kernel
theorem dX2_clear_11 : decode cX2_clear 11 = .ok (.iload_n 1, 1) := by decide +kernel
theorem dX2_clear_12 : decode cX2_clear 12 = .ok (.invokevirtual 24, 3) := by decide +kernel
theorem dX2_clear_15 : decode cX2_clear 15 = .ok (.istore_n 2, 1) := by decide +kernel
theorem dX2_clear_16 : decode cX2_clear 16 = .ok (.iconst 0, 1) := by decide +kernel
theorem dX2_clear_17 : decode cX2_clear 17 = .ok (.istore_n 3, 1) := by decide +kernel
theorem dX2_clear_18 : decode cX2_clear 18 = .ok (.iload_n 3, 1) := by decide +kernel
theorem dX2_clear_19 : decode cX2_clear 19 = .ok (.bipush 64, 2) := by decide +kernel
theorem dX2_clear_21 : decode cX2_clear 21 = .ok (.if_icmp .ge 21, 3) := by decide +kernel
theorem dX2_clear_24 : decode cX2_clear 24 = .ok (.aload_n 0, 1) := by decide +kernel
theorem dX2_clear_25 : decode cX2_clear 25 = .ok (.getfield 7, 3) := by decide +kernel
theorem dX2_clear_28 : decode cX2_clear 28 = .ok (.bipush 64, 2) := by decide +kernel
theorem dX2_clear_30 : decode cX2_clear 30 = .ok (.iload_n 1, 1) := by decide +kernel
theorem dX2_clear_31 : decode cX2_clear 31 = .ok (.imul, 1) := by decide +kernel
theorem dX2_clear_32 : decode cX2_clear 32 = .ok (.iload_n 3, 1) := by decide +kernel
theorem dX2_clear_33 : decode cX2_clear 33 = .ok (.iadd, 1) := by decide +kernel
theorem dX2_clear_34 : decode cX2_clear 34 = .ok (.iconst 0, 1) := by decide +kernel
theorem dX2_clear_35 : decode cX2_clear 35 = .ok (.bastore, 1) := by decide +kernel
theorem dX2_clear_36 : decode cX2_clear 36 = .ok (.iinc 3 1, 3) := by decide +kernel
theorem dX2_clear_39 : decode cX2_clear 39 = .ok (.goto (-21), 3) := by decide +kernel
theorem dX2_clear_42 : decode cX2_clear 42 = .ok (.iload_n 2, 1) := by decide +kernel
theorem dX2_clear_43 : decode cX2_clear 43 = .ok (.ireturn, 1) := by decide +kernel
abbrev cX2_held : ByteArray := prog_3_method_11_code
def yX2_held : MethodName := ⟨RX2, "held", "(I)I"⟩
theorem dX2_held_0 : decode cX2_held 0 = .ok (.aload_n 0, 1) := by decide +kernel
theorem dX2_held_1 : decode cX2_held 1 = .ok (.iload_n 1, 1) := by decide +kernel
theorem dX2_held_2 : decode cX2_held 2 = .ok (.invokevirtual 17, 3) := by decide +kernel
theorem dX2_held_5 : decode cX2_held 5 = .ok (.ifCond .eq 7, 3) := by decide +kernel
theorem dX2_held_8 : decode cX2_held 8 = .ok (.iconst (-1), 1) := by decide +kernel
theorem dX2_held_9 : decode cX2_held 9 = .ok (.goto 8, 3) := by decide +kernel
theorem dX2_held_12 : decode cX2_held 12 = .ok (.aload_n 0, 1) := by decide +kernel
theorem dX2_held_13 : decode cX2_held 13 = .ok (.iload_n 1, 1) := by decide +kernel
theorem dX2_held_14 : decode cX2_held 14 = .ok (.invokevirtual 24, 3) := by decide +kernel
theorem dX2_held_17 : decode cX2_held 17 = .ok (.ireturn, 1) := by decide +kernel
abbrev cX2_holds : ByteArray := prog_3_method_12_code
def yX2_holds : MethodName := ⟨RX2, "holds", "(II)I"⟩
theorem dX2_holds_0 : decode cX2_holds 0 = .ok (.aload_n 0, 1) := by decide +kernel
theorem dX2_holds_1 : decode cX2_holds 1 = .ok (.iload_n 1, 1) := by decide +kernel
theorem dX2_holds_2 : decode cX2_holds 2 = .ok (.invokevirtual 17, 3) := by decide +kernel
theorem dX2_holds_5 : decode cX2_holds 5 = .ok (.ifCond .eq 5, 3) := by decide +kernel
theorem dX2_holds_8 : decode cX2_holds 8 = .ok (.iconst (-1), 1) := by decide +kernel
theorem dX2_holds_9 : decode cX2_holds 9 = .ok (.ireturn, 1) := by decide +kernel
theorem dX2_holds_10 : decode cX2_holds 10 = .ok (.aload_n 0, 1) := by decide +kernel
theorem dX2_holds_11 : decode cX2_holds 11 = .ok (.iload_n 2, 1) := by decide +kernel
theorem dX2_holds_12 : decode cX2_holds 12 = .ok (.invokevirtual 21, 3) := by decide +kernel
theorem dX2_holds_15 : decode cX2_holds 15 = .ok (.ifCond .eq 6, 3) := by decide +kernel
theorem dX2_holds_18 : decode cX2_holds 18 = .ok (.bipush (-2), 2) := by decide +kernel
theorem dX2_holds_20 : decode cX2_holds 20 = .ok (.ireturn, 1) := by decide +kernel
theorem dX2_holds_21 : decode cX2_holds 21 = .ok (.aload_n 0, 1) := by decide +kernel
theorem dX2_holds_22 : decode cX2_holds 22 = .ok (.getfield 7, 3) := by decide +kernel
theorem dX2_holds_25 : decode cX2_holds 25 = .ok (.bipush 64, 2) := by decide +kernel
theorem dX2_holds_27 : decode cX2_holds 27 = .ok (.iload_n 1, 1) := by decide +kernel
theorem dX2_holds_28 : decode cX2_holds 28 = .ok (.imul, 1) := by decide +kernel
theorem dX2_holds_29 : decode cX2_holds 29 = .ok (.iload_n 2, 1) := by decide +kernel
theorem dX2_holds_30 : decode cX2_holds 30 = .ok (.iadd, 1) := by decide +kernel
theorem dX2_holds_31 : decode cX2_holds 31 = .ok (.baload, 1) := by decide +kernel
theorem dX2_holds_32 : decode cX2_holds 32 = .ok (.ifCond .eq 7, 3) := by decide +kernel
theorem dX2_holds_35 : decode cX2_holds 35 = .ok (.iconst 1, 1) := by decide +kernel
theorem dX2_holds_36 : decode cX2_holds 36 = .ok (.goto 4, 3) := by decide +kernel
theorem dX2_holds_39 : decode cX2_holds 39 = .ok (.iconst 0, 1) := by decide +kernel
theorem dX2_holds_40 : decode cX2_holds 40 = .ok (.ireturn, 1) := by decide +kernel
abbrev cX2_common : ByteArray := prog_3_method_15_code
def yX2_common : MethodName := ⟨RX2, "common", "(II)I"⟩
theorem dX2_common_0 : decode cX2_common 0 = .ok (.aload_n 0, 1) := by decide +kernel
theorem dX2_common_1 : decode cX2_common 1 = .ok (.iload_n 1, 1) := by decide +kernel
theorem dX2_common_2 : decode cX2_common 2 = .ok (.invokevirtual 17, 3) := by decide +kernel
theorem dX2_common_5 : decode cX2_common 5 = .ok (.ifCond .ne 11, 3) := by decide +kernel
theorem dX2_common_8 : decode cX2_common 8 = .ok (.aload_n 0, 1) := by decide +kernel
theorem dX2_common_9 : decode cX2_common 9 = .ok (.iload_n 2, 1) := by decide +kernel
theorem dX2_common_10 : decode cX2_common 10 = .ok (.invokevirtual 17, 3) := by decide +kernel
theorem dX2_common_13 : decode cX2_common 13 = .ok (.ifCond .eq 5, 3) := by decide +kernel
theorem dX2_common_16 : decode cX2_common 16 = .ok (.iconst (-1), 1) := by decide +kernel
theorem dX2_common_17 : decode cX2_common 17 = .ok (.ireturn, 1) := by decide +kernel
theorem dX2_common_18 : decode cX2_common 18 = .ok (.aload_n 0, 1) := by decide +kernel
theorem dX2_common_19 : decode cX2_common 19 = .ok (.iload_n 1, 1) := by decide +kernel
theorem dX2_common_20 : decode cX2_common 20 = .ok (.iload_n 2, 1) := by decide +kernel
theorem dX2_common_21 : decode cX2_common 21 = .ok (.invokevirtual 40, 3) := by decide +kernel
theorem dX2_common_24 : decode cX2_common 24 = .ok (.aload_n 0, 1) := by decide +kernel
theorem dX2_common_25 : decode cX2_common 25 = .ok (.iload_n 1, 1) := by decide +kernel
theorem dX2_common_26 : decode cX2_common 26 = .ok (.iload_n 2, 1) := by decide +kernel
theorem dX2_common_27 : decode cX2_common 27 = .ok (.invokevirtual 32, 3) := by decide +kernel
theorem dX2_common_30 : decode cX2_common 30 = .ok (.ireturn, 1) := by decide +kernel
abbrev cX2_note : ByteArray := prog_3_method_14_code
def yX2_note : MethodName := ⟨RX2, "note", "(II)V"⟩
theorem dX2_note_0 : decode cX2_note 0 = .ok (.iload_n 1, 1) := by decide +kernel
theorem dX2_note_1 : decode cX2_note 1 = .ok (.iload_n 2, 1) := by decide +kernel
theorem dX2_note_2 : decode cX2_note 2 = .ok (.if_icmp .eq 25, 3) := by decide +kernel
theorem dX2_note_5 : decode cX2_note 5 = .ok (.aload_n 0, 1) := by decide +kernel
theorem dX2_note_6 : decode cX2_note 6 = .ok (.aload_n 0, 1) := by decide +kernel
theorem dX2_note_7 : decode cX2_note 7 = .ok (.iload_n 1, 1) := by decide +kernel
theorem dX2_note_8 : decode cX2_note 8 = .ok (.invokevirtual 24, 3) := by decide +kernel
theorem dX2_note_11 : decode cX2_note 11 = .ok (.aload_n 0, 1) := by decide +kernel
theorem dX2_note_12 : decode cX2_note 12 = .ok (.iload_n 2, 1) := by decide +kernel
theorem dX2_note_13 : decode cX2_note 13 = .ok (.invokevirtual 24, 3) := by decide +kernel
theorem dX2_note_16 : decode cX2_note 16 = .ok (.iadd, 1) := by decide +kernel
theorem dX2_note_17 : decode cX2_note 17 = .ok (.aload_n 0, 1) := by decide +kernel
theorem dX2_note_18 : decode cX2_note 18 = .ok (.iload_n 1, 1) := by decide +kernel
theorem dX2_note_19 : decode cX2_note 19 = .ok (.iload_n 2, 1) := by decide +kernel
theorem dX2_note_20 : decode cX2_note 20 = .ok (.invokevirtual 32, 3) := by decide +kernel
theorem dX2_note_23 : decode cX2_note 23 = .ok (.isub, 1) := by decide +kernel
theorem dX2_note_24 : decode cX2_note 24 = .ok (.putfield 36, 3) := by decide +kernel
theorem dX2_note_27 : decode cX2_note 27 = .ok (.return_, 1) := by decide +kernel
end
section
set_option maxRecDepth 100000
abbrev cX2_shared : ByteArray := prog_3_method_13_code
def yX2_shared : MethodName := ⟨RX2, "shared", "(II)I"⟩
theorem dX2_shared_0 : decode cX2_shared 0 = .ok (.iconst 0, 1) := by decide +kernel
theorem dX2_shared_1 : decode cX2_shared 1 = .ok (.istore_n 3, 1) := by decide +kernel
theorem dX2_shared_2 : decode cX2_shared 2 = .ok (.iconst 0, 1) := by decide +kernel
theorem dX2_shared_3 : decode cX2_shared 3 = .ok (.istore 4, 2) := by decide +kernel
theorem dX2_shared_5 : decode cX2_shared 5 = .ok (.iload 4, 2) := by decide +kernel
theorem dX2_shared_7 : decode cX2_shared 7 = .ok (.bipush 64, 2) := by decide +kernel
theorem dX2_shared_9 : decode cX2_shared 9 = .ok (.if_icmp .ge 42, 3) := by decide +kernel
theorem dX2_shared_12 : decode cX2_shared 12 = .ok (.aload_n 0, 1) := by decide +kernel
theorem dX2_shared_13 : decode cX2_shared 13 = .ok (.getfield 7, 3) := by decide +kernel
theorem dX2_shared_16 : decode cX2_shared 16 = .ok (.bipush 64, 2) := by decide +kernel
theorem dX2_shared_18 : decode cX2_shared 18 = .ok (.iload_n 1, 1) := by decide +kernel
theorem dX2_shared_19 : decode cX2_shared 19 = .ok (.imul, 1) := by decide +kernel
theorem dX2_shared_20 : decode cX2_shared 20 = .ok (.iload 4, 2) := by decide +kernel
theorem dX2_shared_22 : decode cX2_shared 22 = .ok (.iadd, 1) := by decide +kernel
theorem dX2_shared_23 : decode cX2_shared 23 = .ok (.baload, 1) := by decide +kernel
theorem dX2_shared_24 : decode cX2_shared 24 = .ok (.ifCond .eq 21, 3) := by decide +kernel
theorem dX2_shared_27 : decode cX2_shared 27 = .ok (.aload_n 0, 1) := by decide +kernel
theorem dX2_shared_28 : decode cX2_shared 28 = .ok (.getfield 7, 3) := by decide +kernel
theorem dX2_shared_31 : decode cX2_shared 31 = .ok (.bipush 64, 2) := by decide +kernel
theorem dX2_shared_33 : decode cX2_shared 33 = .ok (.iload_n 2, 1) := by decide +kernel
theorem dX2_shared_34 : decode cX2_shared 34 = .ok (.imul, 1) := by decide +kernel
theorem dX2_shared_35 : decode cX2_shared 35 = .ok (.iload 4, 2) := by decide +kernel
theorem dX2_shared_37 : decode cX2_shared 37 = .ok (.iadd, 1) := by decide +kernel
theorem dX2_shared_38 : decode cX2_shared 38 = .ok (.baload, 1) := by decide +kernel
theorem dX2_shared_39 : decode cX2_shared 39 = .ok (.ifCond .eq 6, 3) := by decide +kernel
theorem dX2_shared_42 : decode cX2_shared 42 = .ok (.iinc 3 1, 3) := by decide +kernel
theorem dX2_shared_45 : decode cX2_shared 45 = .ok (.iinc 4 1, 3) := by decide +kernel
theorem dX2_shared_48 : decode cX2_shared 48 = .ok (.goto (-43), 3) := by decide +kernel
theorem dX2_shared_51 : decode cX2_shared 51 = .ok (.iload_n 3, 1) := by decide +kernel
theorem dX2_shared_52 : decode cX2_shared 52 = .ok (.ireturn, 1) := by decide +kernel
abbrev cX2_commonItem : ByteArray := prog_3_method_16_code
def yX2_commonItem : MethodName := ⟨RX2, "commonItem", "(III)I"⟩
theorem dX2_commonItem_0 : decode cX2_commonItem 0 = .ok (.aload_n 0, 1) := by decide +kernel
theorem dX2_commonItem_1 : decode cX2_commonItem 1 = .ok (.iload_n 1, 1) := by decide +kernel
theorem dX2_commonItem_2 : decode cX2_commonItem 2 = .ok (.invokevirtual 17, 3) := by decide +kernel
theorem dX2_commonItem_5 : decode cX2_commonItem 5 = .ok (.ifCond .ne 11, 3) := by decide +kernel
theorem dX2_commonItem_8 : decode cX2_commonItem 8 = .ok (.aload_n 0, 1) := by decide +kernel
theorem dX2_commonItem_9 : decode cX2_commonItem 9 = .ok (.iload_n 2, 1) := by decide +kernel
theorem dX2_commonItem_10 : decode cX2_commonItem 10 = .ok (.invokevirtual 17, 3) := by decide +kernel
theorem dX2_commonItem_13 : decode cX2_commonItem 13 = .ok (.ifCond .eq 5, 3) := by decide +kernel
theorem dX2_commonItem_16 : decode cX2_commonItem 16 = .ok (.iconst (-1), 1) := by decide +kernel
theorem dX2_commonItem_17 : decode cX2_commonItem 17 = .ok (.ireturn, 1) := by decide +kernel
theorem dX2_commonItem_18 : decode cX2_commonItem 18 = .ok (.aload_n 0, 1) := by decide +kernel
theorem dX2_commonItem_19 : decode cX2_commonItem 19 = .ok (.iload_n 1, 1) := by decide +kernel
theorem dX2_commonItem_20 : decode cX2_commonItem 20 = .ok (.iload_n 2, 1) := by decide +kernel
theorem dX2_commonItem_21 : decode cX2_commonItem 21 = .ok (.invokevirtual 40, 3) := by decide +kernel
theorem dX2_commonItem_24 : decode cX2_commonItem 24 = .ok (.iconst 0, 1) := by decide +kernel
theorem dX2_commonItem_25 : decode cX2_commonItem 25 = .ok (.istore 4, 2) := by decide +kernel
theorem dX2_commonItem_27 : decode cX2_commonItem 27 = .ok (.iconst 0, 1) := by decide +kernel
theorem dX2_commonItem_28 : decode cX2_commonItem 28 = .ok (.istore 5, 2) := by decide +kernel
theorem dX2_commonItem_30 : decode cX2_commonItem 30 = .ok (.iload 5, 2) := by decide +kernel
theorem dX2_commonItem_32 : decode cX2_commonItem 32 = .ok (.bipush 64, 2) := by decide +kernel
theorem dX2_commonItem_34 : decode cX2_commonItem 34 = .ok (.if_icmp .ge 51, 3) := by decide +kernel
theorem dX2_commonItem_37 : decode cX2_commonItem 37 = .ok (.aload_n 0, 1) := by decide +kernel
theorem dX2_commonItem_38 : decode cX2_commonItem 38 = .ok (.getfield 7, 3) := by decide +kernel
theorem dX2_commonItem_41 : decode cX2_commonItem 41 = .ok (.bipush 64, 2) := by decide +kernel
theorem dX2_commonItem_43 : decode cX2_commonItem 43 = .ok (.iload_n 1, 1) := by decide +kernel
theorem dX2_commonItem_44 : decode cX2_commonItem 44 = .ok (.imul, 1) := by decide +kernel
theorem dX2_commonItem_45 : decode cX2_commonItem 45 = .ok (.iload 5, 2) := by decide +kernel
theorem dX2_commonItem_47 : decode cX2_commonItem 47 = .ok (.iadd, 1) := by decide +kernel
theorem dX2_commonItem_48 : decode cX2_commonItem 48 = .ok (.baload, 1) := by decide +kernel
theorem dX2_commonItem_49 : decode cX2_commonItem 49 = .ok (.ifCond .eq 30, 3) := by decide +kernel
theorem dX2_commonItem_52 : decode cX2_commonItem 52 = .ok (.aload_n 0, 1) := by decide +kernel
theorem dX2_commonItem_53 : decode cX2_commonItem 53 = .ok (.getfield 7, 3) := by decide +kernel
theorem dX2_commonItem_56 : decode cX2_commonItem 56 = .ok (.bipush 64, 2) := by decide +kernel
theorem dX2_commonItem_58 : decode cX2_commonItem 58 = .ok (.iload_n 2, 1) := by decide +kernel
theorem dX2_commonItem_59 : decode cX2_commonItem 59 = .ok (.imul, 1) := by decide +kernel
theorem dX2_commonItem_60 : decode cX2_commonItem 60 = .ok (.iload 5, 2) := by decide +kernel
theorem dX2_commonItem_62 : decode cX2_commonItem 62 = .ok (.iadd, 1) := by decide +kernel
theorem dX2_commonItem_63 : decode cX2_commonItem 63 = .ok (.baload, 1) := by decide +kernel
theorem dX2_commonItem_64 : decode cX2_commonItem 64 = .ok (.ifCond .eq 15, 3) := by decide +kernel
theorem dX2_commonItem_67 : decode cX2_commonItem 67 = .ok (.iload 4, 2) := by decide +kernel
theorem dX2_commonItem_69 : decode cX2_commonItem 69 = .ok (.iload_n 3, 1) := by decide +kernel
theorem dX2_commonItem_70 : decode cX2_commonItem 70 = .ok (.if_icmp .ne 6, 3) := by decide +kernel
theorem dX2_commonItem_73 : decode cX2_commonItem 73 = .ok (.iload 5, 2) := by decide +kernel
theorem dX2_commonItem_75 : decode cX2_commonItem 75 = .ok (.ireturn, 1) := by decide +kernel
theorem dX2_commonItem_76 : decode cX2_commonItem 76 = .ok (.iinc 4 1, 3) := by decide +kernel
theorem dX2_commonItem_79 : decode cX2_commonItem 79 = .ok (.iinc 5 1, 3) := by decide +kernel
theorem dX2_commonItem_82 : decode cX2_commonItem 82 = .ok (.goto (-52), 3) := by decide +kernel
theorem dX2_commonItem_85 : decode cX2_commonItem 85 = .ok (.bipush (-2), 2) := by decide +kernel
theorem dX2_commonItem_87 : decode cX2_commonItem 87 = .ok (.ireturn, 1) := by decide +kernel
abbrev cX2_commonWeight : ByteArray := prog_3_method_17_code
def yX2_commonWeight : MethodName := ⟨RX2, "commonWeight", "(II)I"⟩
theorem dX2_commonWeight_0 : decode cX2_commonWeight 0 = .ok (.aload_n 0, 1) := by decide +kernel
theorem dX2_commonWeight_1 : decode cX2_commonWeight 1 = .ok (.iload_n 1, 1) := by decide +kernel
theorem dX2_commonWeight_2 : decode cX2_commonWeight 2 = .ok (.invokevirtual 17, 3) := by decide +kernel
theorem dX2_commonWeight_5 : decode cX2_commonWeight 5 = .ok (.ifCond .ne 11, 3) := by decide +kernel
theorem dX2_commonWeight_8 : decode cX2_commonWeight 8 = .ok (.aload_n 0, 1) := by decide +kernel
theorem dX2_commonWeight_9 : decode cX2_commonWeight 9 = .ok (.iload_n 2, 1) := by decide +kernel
theorem dX2_commonWeight_10 : decode cX2_commonWeight 10 = .ok (.invokevirtual 17, 3) := by decide +kernel
theorem dX2_commonWeight_13 : decode cX2_commonWeight 13 = .ok (.ifCond .eq 5, 3) := by decide +kernel
theorem dX2_commonWeight_16 : decode cX2_commonWeight 16 = .ok (.iconst 0, 1) := by decide +kernel
theorem dX2_commonWeight_17 : decode cX2_commonWeight 17 = .ok (.ireturn, 1) := by decide +kernel
theorem dX2_commonWeight_18 : decode cX2_commonWeight 18 = .ok (.aload_n 0, 1) := by decide +kernel
theorem dX2_commonWeight_19 : decode cX2_commonWeight 19 = .ok (.iload_n 1, 1) := by decide +kernel
theorem dX2_commonWeight_20 : decode cX2_commonWeight 20 = .ok (.iload_n 2, 1) := by decide +kernel
theorem dX2_commonWeight_21 : decode cX2_commonWeight 21 = .ok (.invokevirtual 40, 3) := by decide +kernel
theorem dX2_commonWeight_24 : decode cX2_commonWeight 24 = .ok (.iconst 0, 1) := by decide +kernel
theorem dX2_commonWeight_25 : decode cX2_commonWeight 25 = .ok (.istore_n 3, 1) := by decide +kernel
theorem dX2_commonWeight_26 : decode cX2_commonWeight 26 = .ok (.iconst 0, 1) := by decide +kernel
theorem dX2_commonWeight_27 : decode cX2_commonWeight 27 = .ok (.istore 4, 2) := by decide +kernel
theorem dX2_commonWeight_29 : decode cX2_commonWeight 29 = .ok (.iload 4, 2) := by decide +kernel
theorem dX2_commonWeight_31 : decode cX2_commonWeight 31 = .ok (.bipush 64, 2) := by decide +kernel
theorem dX2_commonWeight_33 : decode cX2_commonWeight 33 = .ok (.if_icmp .ge 54, 3) := by decide +kernel
theorem dX2_commonWeight_36 : decode cX2_commonWeight 36 = .ok (.aload_n 0, 1) := by decide +kernel
theorem dX2_commonWeight_37 : decode cX2_commonWeight 37 = .ok (.getfield 7, 3) := by decide +kernel
theorem dX2_commonWeight_40 : decode cX2_commonWeight 40 = .ok (.bipush 64, 2) := by decide +kernel
theorem dX2_commonWeight_42 : decode cX2_commonWeight 42 = .ok (.iload_n 1, 1) := by decide +kernel
theorem dX2_commonWeight_43 : decode cX2_commonWeight 43 = .ok (.imul, 1) := by decide +kernel
theorem dX2_commonWeight_44 : decode cX2_commonWeight 44 = .ok (.iload 4, 2) := by decide +kernel
theorem dX2_commonWeight_46 : decode cX2_commonWeight 46 = .ok (.iadd, 1) := by decide +kernel
theorem dX2_commonWeight_47 : decode cX2_commonWeight 47 = .ok (.baload, 1) := by decide +kernel
theorem dX2_commonWeight_48 : decode cX2_commonWeight 48 = .ok (.ifCond .eq 33, 3) := by decide +kernel
theorem dX2_commonWeight_51 : decode cX2_commonWeight 51 = .ok (.aload_n 0, 1) := by decide +kernel
theorem dX2_commonWeight_52 : decode cX2_commonWeight 52 = .ok (.getfield 7, 3) := by decide +kernel
theorem dX2_commonWeight_55 : decode cX2_commonWeight 55 = .ok (.bipush 64, 2) := by decide +kernel
theorem dX2_commonWeight_57 : decode cX2_commonWeight 57 = .ok (.iload_n 2, 1) := by decide +kernel
theorem dX2_commonWeight_58 : decode cX2_commonWeight 58 = .ok (.imul, 1) := by decide +kernel
theorem dX2_commonWeight_59 : decode cX2_commonWeight 59 = .ok (.iload 4, 2) := by decide +kernel
theorem dX2_commonWeight_61 : decode cX2_commonWeight 61 = .ok (.iadd, 1) := by decide +kernel
theorem dX2_commonWeight_62 : decode cX2_commonWeight 62 = .ok (.baload, 1) := by decide +kernel
theorem dX2_commonWeight_63 : decode cX2_commonWeight 63 = .ok (.ifCond .eq 18, 3) := by decide +kernel
theorem dX2_commonWeight_66 : decode cX2_commonWeight 66 = .ok (.iload_n 3, 1) := by decide +kernel
theorem dX2_commonWeight_67 : decode cX2_commonWeight 67 = .ok (.aload_n 0, 1) := by decide +kernel
theorem dX2_commonWeight_68 : decode cX2_commonWeight 68 = .ok (.getfield 13, 3) := by decide +kernel
theorem dX2_commonWeight_71 : decode cX2_commonWeight 71 = .ok (.bipush 64, 2) := by decide +kernel
theorem dX2_commonWeight_73 : decode cX2_commonWeight 73 = .ok (.iload_n 1, 1) := by decide +kernel
theorem dX2_commonWeight_74 : decode cX2_commonWeight 74 = .ok (.imul, 1) := by decide +kernel
theorem dX2_commonWeight_75 : decode cX2_commonWeight 75 = .ok (.iload 4, 2) := by decide +kernel
theorem dX2_commonWeight_77 : decode cX2_commonWeight 77 = .ok (.iadd, 1) := by decide +kernel
theorem dX2_commonWeight_78 : decode cX2_commonWeight 78 = .ok (.iaload, 1) := by decide +kernel
theorem dX2_commonWeight_79 : decode cX2_commonWeight 79 = .ok (.iadd, 1) := by decide +kernel
theorem dX2_commonWeight_80 : decode cX2_commonWeight 80 = .ok (.istore_n 3, 1) := by decide +kernel
theorem dX2_commonWeight_81 : decode cX2_commonWeight 81 = .ok (.iinc 4 1, 3) := by decide +kernel
theorem dX2_commonWeight_84 : decode cX2_commonWeight 84 = .ok (.goto (-55), 3) := by decide +kernel
theorem dX2_commonWeight_87 : decode cX2_commonWeight 87 = .ok (.iload_n 3, 1) := by decide +kernel
theorem dX2_commonWeight_88 : decode cX2_commonWeight 88 = .ok (.ireturn, 1) := by decide +kernel
abbrev cX2_commonToAll : ByteArray := prog_3_method_20_code
def yX2_commonToAll : MethodName := ⟨RX2, "commonToAll", "()I"⟩
theorem dX2_commonToAll_0 : decode cX2_commonToAll 0 = .ok (.aload_n 0, 1) := by decide +kernel
theorem dX2_commonToAll_1 : decode cX2_commonToAll 1 = .ok (.iconst 3, 1) := by decide +kernel
theorem dX2_commonToAll_2 : decode cX2_commonToAll 2 = .ok (.invokevirtual 47, 3) := by decide +kernel
theorem dX2_commonToAll_5 : decode cX2_commonToAll 5 = .ok (.ireturn, 1) := by decide +kernel
abbrev cX2_heldBy : ByteArray := prog_3_method_19_code
def yX2_heldBy : MethodName := ⟨RX2, "heldBy", "(I)I"⟩
theorem dX2_heldBy_0 : decode cX2_heldBy 0 = .ok (.iconst 0, 1) := by decide +kernel
theorem dX2_heldBy_1 : decode cX2_heldBy 1 = .ok (.istore_n 2, 1) := by decide +kernel
theorem dX2_heldBy_2 : decode cX2_heldBy 2 = .ok (.iconst 0, 1) := by decide +kernel
theorem dX2_heldBy_3 : decode cX2_heldBy 3 = .ok (.istore_n 3, 1) := by decide +kernel
theorem dX2_heldBy_4 : decode cX2_heldBy 4 = .ok (.iload_n 3, 1) := by decide +kernel
theorem dX2_heldBy_5 : decode cX2_heldBy 5 = .ok (.bipush 64, 2) := by decide +kernel
theorem dX2_heldBy_7 : decode cX2_heldBy 7 = .ok (.if_icmp .ge 21, 3) := by decide +kernel
theorem dX2_heldBy_10 : decode cX2_heldBy 10 = .ok (.aload_n 0, 1) := by decide +kernel
theorem dX2_heldBy_11 : decode cX2_heldBy 11 = .ok (.iload_n 3, 1) := by decide +kernel
theorem dX2_heldBy_12 : decode cX2_heldBy 12 = .ok (.invokevirtual 44, 3) := by decide +kernel
theorem dX2_heldBy_15 : decode cX2_heldBy 15 = .ok (.iload_n 1, 1) := by decide +kernel
theorem dX2_heldBy_16 : decode cX2_heldBy 16 = .ok (.if_icmp .ne 6, 3) := by decide +kernel
theorem dX2_heldBy_19 : decode cX2_heldBy 19 = .ok (.iinc 2 1, 3) := by decide +kernel
theorem dX2_heldBy_22 : decode cX2_heldBy 22 = .ok (.iinc 3 1, 3) := by decide +kernel
theorem dX2_heldBy_25 : decode cX2_heldBy 25 = .ok (.goto (-21), 3) := by decide +kernel
theorem dX2_heldBy_28 : decode cX2_heldBy 28 = .ok (.iload_n 2, 1) := by decide +kernel
theorem dX2_heldBy_29 : decode cX2_heldBy 29 = .ok (.ireturn, 1) := by decide +kernel
abbrev cX2_holders : ByteArray := prog_3_method_18_code
def yX2_holders : MethodName := ⟨RX2, "holders", "(I)I"⟩
theorem dX2_holders_0 : decode cX2_holders 0 = .ok (.iconst 0, 1) := by decide +kernel
theorem dX2_holders_1 : decode cX2_holders 1 = .ok (.istore_n 2, 1) := by decide +kernel
theorem dX2_holders_2 : decode cX2_holders 2 = .ok (.iconst 0, 1) := by decide +kernel
theorem dX2_holders_3 : decode cX2_holders 3 = .ok (.istore_n 3, 1) := by decide +kernel
theorem dX2_holders_4 : decode cX2_holders 4 = .ok (.iload_n 3, 1) := by decide +kernel
theorem dX2_holders_5 : decode cX2_holders 5 = .ok (.iconst 3, 1) := by decide +kernel
theorem dX2_holders_6 : decode cX2_holders 6 = .ok (.if_icmp .ge 26, 3) := by decide +kernel
theorem dX2_holders_9 : decode cX2_holders 9 = .ok (.aload_n 0, 1) := by decide +kernel
theorem dX2_holders_10 : decode cX2_holders 10 = .ok (.getfield 7, 3) := by decide +kernel
theorem dX2_holders_13 : decode cX2_holders 13 = .ok (.bipush 64, 2) := by decide +kernel
theorem dX2_holders_15 : decode cX2_holders 15 = .ok (.iload_n 3, 1) := by decide +kernel
theorem dX2_holders_16 : decode cX2_holders 16 = .ok (.imul, 1) := by decide +kernel
theorem dX2_holders_17 : decode cX2_holders 17 = .ok (.iload_n 1, 1) := by decide +kernel
theorem dX2_holders_18 : decode cX2_holders 18 = .ok (.iadd, 1) := by decide +kernel
theorem dX2_holders_19 : decode cX2_holders 19 = .ok (.baload, 1) := by decide +kernel
theorem dX2_holders_20 : decode cX2_holders 20 = .ok (.ifCond .eq 6, 3) := by decide +kernel
theorem dX2_holders_23 : decode cX2_holders 23 = .ok (.iinc 2 1, 3) := by decide +kernel
theorem dX2_holders_26 : decode cX2_holders 26 = .ok (.iinc 3 1, 3) := by decide +kernel
theorem dX2_holders_29 : decode cX2_holders 29 = .ok (.goto (-25), 3) := by decide +kernel
theorem dX2_holders_32 : decode cX2_holders 32 = .ok (.iload_n 2, 1) := by decide +kernel
theorem dX2_holders_33 : decode cX2_holders 33 = .ok (.ireturn, 1) := by decide +kernel
abbrev cX2_itemOfAll : ByteArray := prog_3_method_21_code
def yX2_itemOfAll : MethodName := ⟨RX2, "itemOfAll", "(I)I"⟩
theorem dX2_itemOfAll_0 : decode cX2_itemOfAll 0 = .ok (.iconst 0, 1) := by decide +kernel
theorem dX2_itemOfAll_1 : decode cX2_itemOfAll 1 = .ok (.istore_n 2, 1) := by decide +kernel
theorem dX2_itemOfAll_2 : decode cX2_itemOfAll 2 = .ok (.iconst 0, 1) := by decide +kernel
theorem dX2_itemOfAll_3 : decode cX2_itemOfAll 3 = .ok (.istore_n 3, 1) := by decide +kernel
theorem dX2_itemOfAll_4 : decode cX2_itemOfAll 4 = .ok (.iload_n 3, 1) := by decide +kernel
theorem dX2_itemOfAll_5 : decode cX2_itemOfAll 5 = .ok (.bipush 64, 2) := by decide +kernel
theorem dX2_itemOfAll_7 : decode cX2_itemOfAll 7 = .ok (.if_icmp .ge 28, 3) := by decide +kernel
theorem dX2_itemOfAll_10 : decode cX2_itemOfAll 10 = .ok (.aload_n 0, 1) := by decide +kernel
theorem dX2_itemOfAll_11 : decode cX2_itemOfAll 11 = .ok (.iload_n 3, 1) := by decide +kernel
theorem dX2_itemOfAll_12 : decode cX2_itemOfAll 12 = .ok (.invokevirtual 44, 3) := by decide +kernel
theorem dX2_itemOfAll_15 : decode cX2_itemOfAll 15 = .ok (.iconst 3, 1) := by decide +kernel
theorem dX2_itemOfAll_16 : decode cX2_itemOfAll 16 = .ok (.if_icmp .ne 13, 3) := by decide +kernel
theorem dX2_itemOfAll_19 : decode cX2_itemOfAll 19 = .ok (.iload_n 2, 1) := by decide +kernel
theorem dX2_itemOfAll_20 : decode cX2_itemOfAll 20 = .ok (.iload_n 1, 1) := by decide +kernel
theorem dX2_itemOfAll_21 : decode cX2_itemOfAll 21 = .ok (.if_icmp .ne 5, 3) := by decide +kernel
theorem dX2_itemOfAll_24 : decode cX2_itemOfAll 24 = .ok (.iload_n 3, 1) := by decide +kernel
theorem dX2_itemOfAll_25 : decode cX2_itemOfAll 25 = .ok (.ireturn, 1) := by decide +kernel
theorem dX2_itemOfAll_26 : decode cX2_itemOfAll 26 = .ok (.iinc 2 1, 3) := by decide +kernel
theorem dX2_itemOfAll_29 : decode cX2_itemOfAll 29 = .ok (.iinc 3 1, 3) := by decide +kernel
theorem dX2_itemOfAll_32 : decode cX2_itemOfAll 32 = .ok (.goto (-28), 3) := by decide +kernel
theorem dX2_itemOfAll_35 : decode cX2_itemOfAll 35 = .ok (.iconst (-1), 1) := by decide +kernel
theorem dX2_itemOfAll_36 : decode cX2_itemOfAll 36 = .ok (.ireturn, 1) := by decide +kernel
abbrev cX2_any : ByteArray := prog_3_method_22_code
def yX2_any : MethodName := ⟨RX2, "any", "()I"⟩
theorem dX2_any_0 : decode cX2_any 0 = .ok (.bipush 64, 2) := by decide +kernel
theorem dX2_any_2 : decode cX2_any 2 = .ok (.aload_n 0, 1) := by decide +kernel
theorem dX2_any_3 : decode cX2_any 3 = .ok (.iconst 0, 1) := by decide +kernel
theorem dX2_any_4 : decode cX2_any 4 = .ok (.invokevirtual 47, 3) := by decide +kernel
theorem dX2_any_7 : decode cX2_any 7 = .ok (.isub, 1) := by decide +kernel
theorem dX2_any_8 : decode cX2_any 8 = .ok (.ireturn, 1) := by decide +kernel
abbrev cX2_heldByJust : ByteArray := prog_3_method_23_code
def yX2_heldByJust : MethodName := ⟨RX2, "heldByJust", "(I)I"⟩
theorem dX2_heldByJust_0 : decode cX2_heldByJust 0 = .ok (.iload_n 1, 1) := by decide +kernel
theorem dX2_heldByJust_1 : decode cX2_heldByJust 1 = .ok (.iconst 1, 1) := by decide +kernel
theorem dX2_heldByJust_2 : decode cX2_heldByJust 2 = .ok (.if_icmp .lt 8, 3) := by decide +kernel
theorem dX2_heldByJust_5 : decode cX2_heldByJust 5 = .ok (.iload_n 1, 1) := by decide +kernel
theorem dX2_heldByJust_6 : decode cX2_heldByJust 6 = .ok (.iconst 3, 1) := by decide +kernel
theorem dX2_heldByJust_7 : decode cX2_heldByJust 7 = .ok (.if_icmp .le 7, 3) := by decide +kernel
theorem dX2_heldByJust_10 : decode cX2_heldByJust 10 = .ok (.iconst (-1), 1) := by decide +kernel
theorem dX2_heldByJust_11 : decode cX2_heldByJust 11 = .ok (.goto 8, 3) := by decide +kernel
theorem dX2_heldByJust_14 : decode cX2_heldByJust 14 = .ok (.aload_n 0, 1) := by decide +kernel
theorem dX2_heldByJust_15 : decode cX2_heldByJust 15 = .ok (.iload_n 1, 1) := by decide +kernel
theorem dX2_heldByJust_16 : decode cX2_heldByJust 16 = .ok (.invokevirtual 47, 3) := by decide +kernel
theorem dX2_heldByJust_19 : decode cX2_heldByJust 19 = .ok (.ireturn, 1) := by decide +kernel
abbrev cX2_alone : ByteArray := prog_3_method_24_code
def yX2_alone : MethodName := ⟨RX2, "alone", "(I)I"⟩
theorem dX2_alone_0 : decode cX2_alone 0 = .ok (.aload_n 0, 1) := by decide +kernel
theorem dX2_alone_1 : decode cX2_alone 1 = .ok (.iload_n 1, 1) := by decide +kernel
theorem dX2_alone_2 : decode cX2_alone 2 = .ok (.invokevirtual 17, 3) := by decide +kernel
theorem dX2_alone_5 : decode cX2_alone 5 = .ok (.ifCond .eq 5, 3) := by decide +kernel
theorem dX2_alone_8 : decode cX2_alone 8 = .ok (.iconst (-1), 1) := by decide +kernel
theorem dX2_alone_9 : decode cX2_alone 9 = .ok (.ireturn, 1) := by decide +kernel
theorem dX2_alone_10 : decode cX2_alone 10 = .ok (.iconst 0, 1) := by decide +kernel
theorem dX2_alone_11 : decode cX2_alone 11 = .ok (.istore_n 2, 1) := by decide +kernel
theorem dX2_alone_12 : decode cX2_alone 12 = .ok (.iconst 0, 1) := by decide +kernel
theorem dX2_alone_13 : decode cX2_alone 13 = .ok (.istore_n 3, 1) := by decide +kernel
theorem dX2_alone_14 : decode cX2_alone 14 = .ok (.iload_n 3, 1) := by decide +kernel
theorem dX2_alone_15 : decode cX2_alone 15 = .ok (.bipush 64, 2) := by decide +kernel
theorem dX2_alone_17 : decode cX2_alone 17 = .ok (.if_icmp .ge 35, 3) := by decide +kernel
theorem dX2_alone_20 : decode cX2_alone 20 = .ok (.aload_n 0, 1) := by decide +kernel
theorem dX2_alone_21 : decode cX2_alone 21 = .ok (.getfield 7, 3) := by decide +kernel
theorem dX2_alone_24 : decode cX2_alone 24 = .ok (.bipush 64, 2) := by decide +kernel
theorem dX2_alone_26 : decode cX2_alone 26 = .ok (.iload_n 1, 1) := by decide +kernel
theorem dX2_alone_27 : decode cX2_alone 27 = .ok (.imul, 1) := by decide +kernel
theorem dX2_alone_28 : decode cX2_alone 28 = .ok (.iload_n 3, 1) := by decide +kernel
theorem dX2_alone_29 : decode cX2_alone 29 = .ok (.iadd, 1) := by decide +kernel
theorem dX2_alone_30 : decode cX2_alone 30 = .ok (.baload, 1) := by decide +kernel
theorem dX2_alone_31 : decode cX2_alone 31 = .ok (.ifCond .eq 15, 3) := by decide +kernel
theorem dX2_alone_34 : decode cX2_alone 34 = .ok (.aload_n 0, 1) := by decide +kernel
theorem dX2_alone_35 : decode cX2_alone 35 = .ok (.iload_n 3, 1) := by decide +kernel
theorem dX2_alone_36 : decode cX2_alone 36 = .ok (.invokevirtual 44, 3) := by decide +kernel
theorem dX2_alone_39 : decode cX2_alone 39 = .ok (.iconst 1, 1) := by decide +kernel
theorem dX2_alone_40 : decode cX2_alone 40 = .ok (.if_icmp .ne 6, 3) := by decide +kernel
theorem dX2_alone_43 : decode cX2_alone 43 = .ok (.iinc 2 1, 3) := by decide +kernel
theorem dX2_alone_46 : decode cX2_alone 46 = .ok (.iinc 3 1, 3) := by decide +kernel
theorem dX2_alone_49 : decode cX2_alone 49 = .ok (.goto (-35), 3) := by decide +kernel
theorem dX2_alone_52 : decode cX2_alone 52 = .ok (.iload_n 2, 1) := by decide +kernel
theorem dX2_alone_53 : decode cX2_alone 53 = .ok (.ireturn, 1) := by decide +kernel
abbrev cX2_within : ByteArray := prog_3_method_25_code
def yX2_within : MethodName := ⟨RX2, "within", "(II)I"⟩
theorem dX2_within_0 : decode cX2_within 0 = .ok (.aload_n 0, 1) := by decide +kernel
theorem dX2_within_1 : decode cX2_within 1 = .ok (.iload_n 1, 1) := by decide +kernel
theorem dX2_within_2 : decode cX2_within 2 = .ok (.invokevirtual 17, 3) := by decide +kernel
theorem dX2_within_5 : decode cX2_within 5 = .ok (.ifCond .ne 11, 3) := by decide +kernel
theorem dX2_within_8 : decode cX2_within 8 = .ok (.aload_n 0, 1) := by decide +kernel
theorem dX2_within_9 : decode cX2_within 9 = .ok (.iload_n 2, 1) := by decide +kernel
theorem dX2_within_10 : decode cX2_within 10 = .ok (.invokevirtual 17, 3) := by decide +kernel
theorem dX2_within_13 : decode cX2_within 13 = .ok (.ifCond .eq 5, 3) := by decide +kernel
theorem dX2_within_16 : decode cX2_within 16 = .ok (.iconst (-1), 1) := by decide +kernel
theorem dX2_within_17 : decode cX2_within 17 = .ok (.ireturn, 1) := by decide +kernel
theorem dX2_within_18 : decode cX2_within 18 = .ok (.aload_n 0, 1) := by decide +kernel
theorem dX2_within_19 : decode cX2_within 19 = .ok (.iload_n 1, 1) := by decide +kernel
theorem dX2_within_20 : decode cX2_within 20 = .ok (.iload_n 2, 1) := by decide +kernel
theorem dX2_within_21 : decode cX2_within 21 = .ok (.invokevirtual 40, 3) := by decide +kernel
theorem dX2_within_24 : decode cX2_within 24 = .ok (.aload_n 0, 1) := by decide +kernel
theorem dX2_within_25 : decode cX2_within 25 = .ok (.iload_n 1, 1) := by decide +kernel
theorem dX2_within_26 : decode cX2_within 26 = .ok (.iload_n 2, 1) := by decide +kernel
theorem dX2_within_27 : decode cX2_within 27 = .ok (.invokevirtual 32, 3) := by decide +kernel
theorem dX2_within_30 : decode cX2_within 30 = .ok (.aload_n 0, 1) := by decide +kernel
theorem dX2_within_31 : decode cX2_within 31 = .ok (.iload_n 1, 1) := by decide +kernel
theorem dX2_within_32 : decode cX2_within 32 = .ok (.invokevirtual 24, 3) := by decide +kernel
theorem dX2_within_35 : decode cX2_within 35 = .ok (.if_icmp .ne 7, 3) := by decide +kernel
theorem dX2_within_38 : decode cX2_within 38 = .ok (.iconst 1, 1) := by decide +kernel
theorem dX2_within_39 : decode cX2_within 39 = .ok (.goto 4, 3) := by decide +kernel
theorem dX2_within_42 : decode cX2_within 42 = .ok (.iconst 0, 1) := by decide +kernel
theorem dX2_within_43 : decode cX2_within 43 = .ok (.ireturn, 1) := by decide +kernel
abbrev cX2_traffic : ByteArray := prog_3_method_26_code
def yX2_traffic : MethodName := ⟨RX2, "traffic", "()I"⟩
theorem dX2_traffic_0 : decode cX2_traffic 0 = .ok (.aload_n 0, 1) := by decide +kernel
theorem dX2_traffic_1 : decode cX2_traffic 1 = .ok (.getfield 36, 3) := by decide +kernel
theorem dX2_traffic_4 : decode cX2_traffic 4 = .ok (.ireturn, 1) := by decide +kernel
end
section
set_option maxRecDepth 100000
theorem q21 : (Jvm.Cond.initialized "PrivateIntersectModel") ∈ lw_all := lw_g (lw_at lw_m1 2 rfl) rfl
theorem q188 : (Jvm.Cond.instantiable "PrivateIntersectModel" (3 : Nat)) ∈ lw_all := lw_g (lw_at lw_m1 169 rfl) rfl
theorem q190 : (Jvm.Cond.instanceMethod ({ cls := "PrivateIntersectModel", name := "<init>", desc := "(III)V" } : Jvm.MethodName)) ∈ lw_all := lw_g (lw_at lw_m1 171 rfl) rfl
theorem q191 : (Jvm.Cond.code ({ cls := "PrivateIntersectModel", name := "<init>", desc := "(III)V" } : Jvm.MethodName) prog_3_method_1_code (4 : Nat) (Option.none : Option Jvm.ClassFile.FieldType)) ∈ lw_all := lw_g (lw_at lw_m1 172 rfl) rfl
theorem q192 : (Jvm.Cond.methodLink "PrivateIntersectModel" (1 : Nat) ({ cls := "java/lang/Object", name := "<init>", desc := "()V" } : Jvm.MethodName)) ∈ lw_all := lw_g (lw_at lw_m1 173 rfl) rfl
theorem q193 : (Jvm.Cond.fieldLink "PrivateIntersectModel" (7 : Nat) "PrivateIntersectModel" "has" "[Z") ∈ lw_all := lw_g (lw_at lw_m1 174 rfl) rfl
theorem q194 : (Jvm.Cond.fieldLink "PrivateIntersectModel" (13 : Nat) "PrivateIntersectModel" "weight" "[I") ∈ lw_all := lw_g (lw_at lw_m1 175 rfl) rfl
theorem q195 : (Jvm.Cond.fieldLink "PrivateIntersectModel" (36 : Nat) "PrivateIntersectModel" "sent" "I") ∈ lw_all := lw_g (lw_at lw_m1 176 rfl) rfl
theorem q196 : (Jvm.Cond.lays "PrivateIntersectModel" "PrivateIntersectModel" "has" "[Z") ∈ lw_all := lw_g (lw_at lw_m1 177 rfl) rfl
theorem q197 : (Jvm.Cond.soleField "PrivateIntersectModel" "has") ∈ lw_all := lw_g (lw_at lw_m1 178 rfl) rfl
theorem q198 : (Jvm.Cond.lays "PrivateIntersectModel" "PrivateIntersectModel" "weight" "[I") ∈ lw_all := lw_g (lw_at lw_m1 179 rfl) rfl
theorem q199 : (Jvm.Cond.soleField "PrivateIntersectModel" "weight") ∈ lw_all := lw_g (lw_at lw_m1 180 rfl) rfl
theorem q200 : (Jvm.Cond.lays "PrivateIntersectModel" "PrivateIntersectModel" "sent" "I") ∈ lw_all := lw_g (lw_at lw_m1 181 rfl) rfl
theorem q201 : (Jvm.Cond.soleField "PrivateIntersectModel" "sent") ∈ lw_all := lw_g (lw_at lw_m1 182 rfl) rfl
theorem q202 : (Jvm.Cond.superclass "PrivateIntersectModel" "java/lang/Object") ∈ lw_all := lw_g (lw_at lw_m1 183 rfl) rfl
theorem q204 : (Jvm.Cond.instanceMethod ({ cls := "PrivateIntersectModel", name := "secret", desc := "(II)I" } : Jvm.MethodName)) ∈ lw_all := lw_g (lw_at lw_m1 185 rfl) rfl
theorem q205 : (Jvm.Cond.selects "PrivateIntersectModel" ({ cls := "PrivateIntersectModel", name := "secret", desc := "(II)I" } : Jvm.MethodName) ({ cls := "PrivateIntersectModel", name := "secret", desc := "(II)I" } : Jvm.MethodName)) ∈ lw_all := lw_g (lw_at lw_m1 186 rfl) rfl
theorem q206 : (Jvm.Cond.code ({ cls := "PrivateIntersectModel", name := "secret", desc := "(II)I" } : Jvm.MethodName) prog_3_method_5_code (3 : Nat) (Option.some Jvm.ClassFile.FieldType.int)) ∈ lw_all := lw_g (lw_at lw_m1 187 rfl) rfl
theorem q207 : (Jvm.Cond.methodLink "PrivateIntersectModel" (17 : Nat) ({ cls := "PrivateIntersectModel", name := "bad", desc := "(I)Z" } : Jvm.MethodName)) ∈ lw_all := lw_g (lw_at lw_m1 188 rfl) rfl
theorem q208 : (Jvm.Cond.privateMethod ({ cls := "PrivateIntersectModel", name := "bad", desc := "(I)Z" } : Jvm.MethodName)) ∈ lw_tbl := lw_at lw_m1 189 rfl
theorem q209 : (Jvm.Cond.instanceMethod ({ cls := "PrivateIntersectModel", name := "bad", desc := "(I)Z" } : Jvm.MethodName)) ∈ lw_all := lw_g (lw_at lw_m1 190 rfl) rfl
theorem q210 : (Jvm.Cond.code ({ cls := "PrivateIntersectModel", name := "bad", desc := "(I)Z" } : Jvm.MethodName) prog_3_method_2_code (2 : Nat) (Option.some Jvm.ClassFile.FieldType.boolean)) ∈ lw_all := lw_g (lw_at lw_m1 191 rfl) rfl
theorem q212 : (Jvm.Cond.instanceMethod ({ cls := "PrivateIntersectModel", name := "give", desc := "(III)I" } : Jvm.MethodName)) ∈ lw_all := lw_g (lw_at lw_m1 193 rfl) rfl
theorem q213 : (Jvm.Cond.selects "PrivateIntersectModel" ({ cls := "PrivateIntersectModel", name := "give", desc := "(III)I" } : Jvm.MethodName) ({ cls := "PrivateIntersectModel", name := "give", desc := "(III)I" } : Jvm.MethodName)) ∈ lw_all := lw_g (lw_at lw_m1 194 rfl) rfl
theorem q214 : (Jvm.Cond.code ({ cls := "PrivateIntersectModel", name := "give", desc := "(III)I" } : Jvm.MethodName) prog_3_method_6_code (4 : Nat) (Option.some Jvm.ClassFile.FieldType.int)) ∈ lw_all := lw_g (lw_at lw_m1 195 rfl) rfl
theorem q215 : (Jvm.Cond.methodLink "PrivateIntersectModel" (21 : Nat) ({ cls := "PrivateIntersectModel", name := "badItem", desc := "(I)Z" } : Jvm.MethodName)) ∈ lw_all := lw_g (lw_at lw_m1 196 rfl) rfl
theorem q216 : (Jvm.Cond.privateMethod ({ cls := "PrivateIntersectModel", name := "badItem", desc := "(I)Z" } : Jvm.MethodName)) ∈ lw_tbl := lw_at lw_m1 197 rfl
theorem q217 : (Jvm.Cond.instanceMethod ({ cls := "PrivateIntersectModel", name := "badItem", desc := "(I)Z" } : Jvm.MethodName)) ∈ lw_all := lw_g (lw_at lw_m1 198 rfl) rfl
theorem q218 : (Jvm.Cond.code ({ cls := "PrivateIntersectModel", name := "badItem", desc := "(I)Z" } : Jvm.MethodName) prog_3_method_3_code (2 : Nat) (Option.some Jvm.ClassFile.FieldType.boolean)) ∈ lw_all := lw_g (lw_at lw_m1 199 rfl) rfl
theorem q219 : (Jvm.Cond.methodLink "PrivateIntersectModel" (24 : Nat) ({ cls := "PrivateIntersectModel", name := "size", desc := "(I)I" } : Jvm.MethodName)) ∈ lw_all := lw_g (lw_at lw_m1 200 rfl) rfl
theorem q220 : (Jvm.Cond.privateMethod ({ cls := "PrivateIntersectModel", name := "size", desc := "(I)I" } : Jvm.MethodName)) ∈ lw_tbl := lw_at lw_m1 201 rfl
theorem q221 : (Jvm.Cond.instanceMethod ({ cls := "PrivateIntersectModel", name := "size", desc := "(I)I" } : Jvm.MethodName)) ∈ lw_all := lw_g (lw_at lw_m1 202 rfl) rfl
theorem q222 : (Jvm.Cond.code ({ cls := "PrivateIntersectModel", name := "size", desc := "(I)I" } : Jvm.MethodName) prog_3_method_4_code (4 : Nat) (Option.some Jvm.ClassFile.FieldType.int)) ∈ lw_all := lw_g (lw_at lw_m1 203 rfl) rfl
theorem q224 : (Jvm.Cond.instanceMethod ({ cls := "PrivateIntersectModel", name := "giveMany", desc := "(III)I" } : Jvm.MethodName)) ∈ lw_all := lw_g (lw_at lw_m1 205 rfl) rfl
theorem q225 : (Jvm.Cond.selects "PrivateIntersectModel" ({ cls := "PrivateIntersectModel", name := "giveMany", desc := "(III)I" } : Jvm.MethodName) ({ cls := "PrivateIntersectModel", name := "giveMany", desc := "(III)I" } : Jvm.MethodName)) ∈ lw_all := lw_g (lw_at lw_m1 206 rfl) rfl
theorem q226 : (Jvm.Cond.code ({ cls := "PrivateIntersectModel", name := "giveMany", desc := "(III)I" } : Jvm.MethodName) prog_3_method_8_code (8 : Nat) (Option.some Jvm.ClassFile.FieldType.int)) ∈ lw_all := lw_g (lw_at lw_m1 207 rfl) rfl
theorem q227 : (Jvm.Cond.methodLink "PrivateIntersectModel" (28 : Nat) ({ cls := "PrivateIntersectModel", name := "among", desc := "(IIII)Z" } : Jvm.MethodName)) ∈ lw_all := lw_g (lw_at lw_m1 208 rfl) rfl
theorem q228 : (Jvm.Cond.privateMethod ({ cls := "PrivateIntersectModel", name := "among", desc := "(IIII)Z" } : Jvm.MethodName)) ∈ lw_tbl := lw_at lw_m1 209 rfl
theorem q229 : (Jvm.Cond.instanceMethod ({ cls := "PrivateIntersectModel", name := "among", desc := "(IIII)Z" } : Jvm.MethodName)) ∈ lw_all := lw_g (lw_at lw_m1 210 rfl) rfl
theorem q230 : (Jvm.Cond.code ({ cls := "PrivateIntersectModel", name := "among", desc := "(IIII)Z" } : Jvm.MethodName) prog_3_method_7_code (6 : Nat) (Option.some Jvm.ClassFile.FieldType.boolean)) ∈ lw_all := lw_g (lw_at lw_m1 211 rfl) rfl
theorem q232 : (Jvm.Cond.instanceMethod ({ cls := "PrivateIntersectModel", name := "take", desc := "(II)I" } : Jvm.MethodName)) ∈ lw_all := lw_g (lw_at lw_m1 213 rfl) rfl
theorem q233 : (Jvm.Cond.selects "PrivateIntersectModel" ({ cls := "PrivateIntersectModel", name := "take", desc := "(II)I" } : Jvm.MethodName) ({ cls := "PrivateIntersectModel", name := "take", desc := "(II)I" } : Jvm.MethodName)) ∈ lw_all := lw_g (lw_at lw_m1 214 rfl) rfl
theorem q234 : (Jvm.Cond.code ({ cls := "PrivateIntersectModel", name := "take", desc := "(II)I" } : Jvm.MethodName) prog_3_method_9_code (3 : Nat) (Option.some Jvm.ClassFile.FieldType.int)) ∈ lw_all := lw_g (lw_at lw_m1 215 rfl) rfl
theorem q236 : (Jvm.Cond.instanceMethod ({ cls := "PrivateIntersectModel", name := "clear", desc := "(I)I" } : Jvm.MethodName)) ∈ lw_all := lw_g (lw_at lw_m1 217 rfl) rfl
theorem q237 : (Jvm.Cond.selects "PrivateIntersectModel" ({ cls := "PrivateIntersectModel", name := "clear", desc := "(I)I" } : Jvm.MethodName) ({ cls := "PrivateIntersectModel", name := "clear", desc := "(I)I" } : Jvm.MethodName)) ∈ lw_all := lw_g (lw_at lw_m1 218 rfl) rfl
theorem q238 : (Jvm.Cond.code ({ cls := "PrivateIntersectModel", name := "clear", desc := "(I)I" } : Jvm.MethodName) prog_3_method_10_code (4 : Nat) (Option.some Jvm.ClassFile.FieldType.int)) ∈ lw_all := lw_g (lw_at lw_m1 219 rfl) rfl
theorem q240 : (Jvm.Cond.instanceMethod ({ cls := "PrivateIntersectModel", name := "held", desc := "(I)I" } : Jvm.MethodName)) ∈ lw_all := lw_g (lw_at lw_m1 221 rfl) rfl
theorem q241 : (Jvm.Cond.selects "PrivateIntersectModel" ({ cls := "PrivateIntersectModel", name := "held", desc := "(I)I" } : Jvm.MethodName) ({ cls := "PrivateIntersectModel", name := "held", desc := "(I)I" } : Jvm.MethodName)) ∈ lw_all := lw_g (lw_at lw_m1 222 rfl) rfl
theorem q242 : (Jvm.Cond.code ({ cls := "PrivateIntersectModel", name := "held", desc := "(I)I" } : Jvm.MethodName) prog_3_method_11_code (2 : Nat) (Option.some Jvm.ClassFile.FieldType.int)) ∈ lw_all := lw_g (lw_at lw_m1 223 rfl) rfl
theorem q244 : (Jvm.Cond.instanceMethod ({ cls := "PrivateIntersectModel", name := "holds", desc := "(II)I" } : Jvm.MethodName)) ∈ lw_all := lw_g (lw_at lw_m1 225 rfl) rfl
theorem q245 : (Jvm.Cond.selects "PrivateIntersectModel" ({ cls := "PrivateIntersectModel", name := "holds", desc := "(II)I" } : Jvm.MethodName) ({ cls := "PrivateIntersectModel", name := "holds", desc := "(II)I" } : Jvm.MethodName)) ∈ lw_all := lw_g (lw_at lw_m1 226 rfl) rfl
theorem q246 : (Jvm.Cond.code ({ cls := "PrivateIntersectModel", name := "holds", desc := "(II)I" } : Jvm.MethodName) prog_3_method_12_code (3 : Nat) (Option.some Jvm.ClassFile.FieldType.int)) ∈ lw_all := lw_g (lw_at lw_m1 227 rfl) rfl
theorem q248 : (Jvm.Cond.instanceMethod ({ cls := "PrivateIntersectModel", name := "common", desc := "(II)I" } : Jvm.MethodName)) ∈ lw_all := lw_g (lw_at lw_m1 229 rfl) rfl
theorem q249 : (Jvm.Cond.selects "PrivateIntersectModel" ({ cls := "PrivateIntersectModel", name := "common", desc := "(II)I" } : Jvm.MethodName) ({ cls := "PrivateIntersectModel", name := "common", desc := "(II)I" } : Jvm.MethodName)) ∈ lw_all := lw_g (lw_at lw_m1 230 rfl) rfl
theorem q250 : (Jvm.Cond.code ({ cls := "PrivateIntersectModel", name := "common", desc := "(II)I" } : Jvm.MethodName) prog_3_method_15_code (3 : Nat) (Option.some Jvm.ClassFile.FieldType.int)) ∈ lw_all := lw_g (lw_at lw_m1 231 rfl) rfl
theorem q251 : (Jvm.Cond.methodLink "PrivateIntersectModel" (40 : Nat) ({ cls := "PrivateIntersectModel", name := "note", desc := "(II)V" } : Jvm.MethodName)) ∈ lw_all := lw_g (lw_at lw_m1 232 rfl) rfl
theorem q252 : (Jvm.Cond.privateMethod ({ cls := "PrivateIntersectModel", name := "note", desc := "(II)V" } : Jvm.MethodName)) ∈ lw_tbl := lw_at lw_m1 233 rfl
theorem q253 : (Jvm.Cond.instanceMethod ({ cls := "PrivateIntersectModel", name := "note", desc := "(II)V" } : Jvm.MethodName)) ∈ lw_all := lw_g (lw_at lw_m1 234 rfl) rfl
theorem q254 : (Jvm.Cond.code ({ cls := "PrivateIntersectModel", name := "note", desc := "(II)V" } : Jvm.MethodName) prog_3_method_14_code (3 : Nat) (Option.none : Option Jvm.ClassFile.FieldType)) ∈ lw_all := lw_g (lw_at lw_m1 235 rfl) rfl
theorem q255 : (Jvm.Cond.methodLink "PrivateIntersectModel" (32 : Nat) ({ cls := "PrivateIntersectModel", name := "shared", desc := "(II)I" } : Jvm.MethodName)) ∈ lw_all := lw_g (lw_at lw_m1 236 rfl) rfl
theorem q256 : (Jvm.Cond.privateMethod ({ cls := "PrivateIntersectModel", name := "shared", desc := "(II)I" } : Jvm.MethodName)) ∈ lw_tbl := lw_at lw_m1 237 rfl
theorem q257 : (Jvm.Cond.instanceMethod ({ cls := "PrivateIntersectModel", name := "shared", desc := "(II)I" } : Jvm.MethodName)) ∈ lw_all := lw_g (lw_at lw_m1 238 rfl) rfl
theorem q258 : (Jvm.Cond.code ({ cls := "PrivateIntersectModel", name := "shared", desc := "(II)I" } : Jvm.MethodName) prog_3_method_13_code (5 : Nat) (Option.some Jvm.ClassFile.FieldType.int)) ∈ lw_all := lw_g (lw_at lw_m1 239 rfl) rfl
theorem q260 : (Jvm.Cond.instanceMethod ({ cls := "PrivateIntersectModel", name := "commonItem", desc := "(III)I" } : Jvm.MethodName)) ∈ lw_all := lw_g (lw_at lw_m2 1 rfl) rfl
theorem q261 : (Jvm.Cond.selects "PrivateIntersectModel" ({ cls := "PrivateIntersectModel", name := "commonItem", desc := "(III)I" } : Jvm.MethodName) ({ cls := "PrivateIntersectModel", name := "commonItem", desc := "(III)I" } : Jvm.MethodName)) ∈ lw_all := lw_g (lw_at lw_m2 2 rfl) rfl
theorem q262 : (Jvm.Cond.code ({ cls := "PrivateIntersectModel", name := "commonItem", desc := "(III)I" } : Jvm.MethodName) prog_3_method_16_code (6 : Nat) (Option.some Jvm.ClassFile.FieldType.int)) ∈ lw_all := lw_g (lw_at lw_m2 3 rfl) rfl
theorem q264 : (Jvm.Cond.instanceMethod ({ cls := "PrivateIntersectModel", name := "commonWeight", desc := "(II)I" } : Jvm.MethodName)) ∈ lw_all := lw_g (lw_at lw_m2 5 rfl) rfl
theorem q265 : (Jvm.Cond.selects "PrivateIntersectModel" ({ cls := "PrivateIntersectModel", name := "commonWeight", desc := "(II)I" } : Jvm.MethodName) ({ cls := "PrivateIntersectModel", name := "commonWeight", desc := "(II)I" } : Jvm.MethodName)) ∈ lw_all := lw_g (lw_at lw_m2 6 rfl) rfl
theorem q266 : (Jvm.Cond.code ({ cls := "PrivateIntersectModel", name := "commonWeight", desc := "(II)I" } : Jvm.MethodName) prog_3_method_17_code (5 : Nat) (Option.some Jvm.ClassFile.FieldType.int)) ∈ lw_all := lw_g (lw_at lw_m2 7 rfl) rfl
theorem q268 : (Jvm.Cond.instanceMethod ({ cls := "PrivateIntersectModel", name := "commonToAll", desc := "()I" } : Jvm.MethodName)) ∈ lw_all := lw_g (lw_at lw_m2 9 rfl) rfl
theorem q269 : (Jvm.Cond.selects "PrivateIntersectModel" ({ cls := "PrivateIntersectModel", name := "commonToAll", desc := "()I" } : Jvm.MethodName) ({ cls := "PrivateIntersectModel", name := "commonToAll", desc := "()I" } : Jvm.MethodName)) ∈ lw_all := lw_g (lw_at lw_m2 10 rfl) rfl
theorem q270 : (Jvm.Cond.code ({ cls := "PrivateIntersectModel", name := "commonToAll", desc := "()I" } : Jvm.MethodName) prog_3_method_20_code (1 : Nat) (Option.some Jvm.ClassFile.FieldType.int)) ∈ lw_all := lw_g (lw_at lw_m2 11 rfl) rfl
theorem q271 : (Jvm.Cond.methodLink "PrivateIntersectModel" (47 : Nat) ({ cls := "PrivateIntersectModel", name := "heldBy", desc := "(I)I" } : Jvm.MethodName)) ∈ lw_all := lw_g (lw_at lw_m2 12 rfl) rfl
theorem q272 : (Jvm.Cond.privateMethod ({ cls := "PrivateIntersectModel", name := "heldBy", desc := "(I)I" } : Jvm.MethodName)) ∈ lw_tbl := lw_at lw_m2 13 rfl
theorem q273 : (Jvm.Cond.instanceMethod ({ cls := "PrivateIntersectModel", name := "heldBy", desc := "(I)I" } : Jvm.MethodName)) ∈ lw_all := lw_g (lw_at lw_m2 14 rfl) rfl
theorem q274 : (Jvm.Cond.code ({ cls := "PrivateIntersectModel", name := "heldBy", desc := "(I)I" } : Jvm.MethodName) prog_3_method_19_code (4 : Nat) (Option.some Jvm.ClassFile.FieldType.int)) ∈ lw_all := lw_g (lw_at lw_m2 15 rfl) rfl
theorem q275 : (Jvm.Cond.methodLink "PrivateIntersectModel" (44 : Nat) ({ cls := "PrivateIntersectModel", name := "holders", desc := "(I)I" } : Jvm.MethodName)) ∈ lw_all := lw_g (lw_at lw_m2 16 rfl) rfl
theorem q276 : (Jvm.Cond.privateMethod ({ cls := "PrivateIntersectModel", name := "holders", desc := "(I)I" } : Jvm.MethodName)) ∈ lw_tbl := lw_at lw_m2 17 rfl
theorem q277 : (Jvm.Cond.instanceMethod ({ cls := "PrivateIntersectModel", name := "holders", desc := "(I)I" } : Jvm.MethodName)) ∈ lw_all := lw_g (lw_at lw_m2 18 rfl) rfl
theorem q278 : (Jvm.Cond.code ({ cls := "PrivateIntersectModel", name := "holders", desc := "(I)I" } : Jvm.MethodName) prog_3_method_18_code (4 : Nat) (Option.some Jvm.ClassFile.FieldType.int)) ∈ lw_all := lw_g (lw_at lw_m2 19 rfl) rfl
theorem q280 : (Jvm.Cond.instanceMethod ({ cls := "PrivateIntersectModel", name := "itemOfAll", desc := "(I)I" } : Jvm.MethodName)) ∈ lw_all := lw_g (lw_at lw_m2 21 rfl) rfl
theorem q281 : (Jvm.Cond.selects "PrivateIntersectModel" ({ cls := "PrivateIntersectModel", name := "itemOfAll", desc := "(I)I" } : Jvm.MethodName) ({ cls := "PrivateIntersectModel", name := "itemOfAll", desc := "(I)I" } : Jvm.MethodName)) ∈ lw_all := lw_g (lw_at lw_m2 22 rfl) rfl
theorem q282 : (Jvm.Cond.code ({ cls := "PrivateIntersectModel", name := "itemOfAll", desc := "(I)I" } : Jvm.MethodName) prog_3_method_21_code (4 : Nat) (Option.some Jvm.ClassFile.FieldType.int)) ∈ lw_all := lw_g (lw_at lw_m2 23 rfl) rfl
theorem q284 : (Jvm.Cond.instanceMethod ({ cls := "PrivateIntersectModel", name := "any", desc := "()I" } : Jvm.MethodName)) ∈ lw_all := lw_g (lw_at lw_m2 25 rfl) rfl
theorem q285 : (Jvm.Cond.selects "PrivateIntersectModel" ({ cls := "PrivateIntersectModel", name := "any", desc := "()I" } : Jvm.MethodName) ({ cls := "PrivateIntersectModel", name := "any", desc := "()I" } : Jvm.MethodName)) ∈ lw_all := lw_g (lw_at lw_m2 26 rfl) rfl
theorem q286 : (Jvm.Cond.code ({ cls := "PrivateIntersectModel", name := "any", desc := "()I" } : Jvm.MethodName) prog_3_method_22_code (1 : Nat) (Option.some Jvm.ClassFile.FieldType.int)) ∈ lw_all := lw_g (lw_at lw_m2 27 rfl) rfl
theorem q288 : (Jvm.Cond.instanceMethod ({ cls := "PrivateIntersectModel", name := "heldByJust", desc := "(I)I" } : Jvm.MethodName)) ∈ lw_all := lw_g (lw_at lw_m2 29 rfl) rfl
theorem q289 : (Jvm.Cond.selects "PrivateIntersectModel" ({ cls := "PrivateIntersectModel", name := "heldByJust", desc := "(I)I" } : Jvm.MethodName) ({ cls := "PrivateIntersectModel", name := "heldByJust", desc := "(I)I" } : Jvm.MethodName)) ∈ lw_all := lw_g (lw_at lw_m2 30 rfl) rfl
theorem q290 : (Jvm.Cond.code ({ cls := "PrivateIntersectModel", name := "heldByJust", desc := "(I)I" } : Jvm.MethodName) prog_3_method_23_code (2 : Nat) (Option.some Jvm.ClassFile.FieldType.int)) ∈ lw_all := lw_g (lw_at lw_m2 31 rfl) rfl
theorem q292 : (Jvm.Cond.instanceMethod ({ cls := "PrivateIntersectModel", name := "alone", desc := "(I)I" } : Jvm.MethodName)) ∈ lw_all := lw_g (lw_at lw_m2 33 rfl) rfl
theorem q293 : (Jvm.Cond.selects "PrivateIntersectModel" ({ cls := "PrivateIntersectModel", name := "alone", desc := "(I)I" } : Jvm.MethodName) ({ cls := "PrivateIntersectModel", name := "alone", desc := "(I)I" } : Jvm.MethodName)) ∈ lw_all := lw_g (lw_at lw_m2 34 rfl) rfl
theorem q294 : (Jvm.Cond.code ({ cls := "PrivateIntersectModel", name := "alone", desc := "(I)I" } : Jvm.MethodName) prog_3_method_24_code (4 : Nat) (Option.some Jvm.ClassFile.FieldType.int)) ∈ lw_all := lw_g (lw_at lw_m2 35 rfl) rfl
theorem q296 : (Jvm.Cond.instanceMethod ({ cls := "PrivateIntersectModel", name := "within", desc := "(II)I" } : Jvm.MethodName)) ∈ lw_all := lw_g (lw_at lw_m2 37 rfl) rfl
theorem q297 : (Jvm.Cond.selects "PrivateIntersectModel" ({ cls := "PrivateIntersectModel", name := "within", desc := "(II)I" } : Jvm.MethodName) ({ cls := "PrivateIntersectModel", name := "within", desc := "(II)I" } : Jvm.MethodName)) ∈ lw_all := lw_g (lw_at lw_m2 38 rfl) rfl
theorem q298 : (Jvm.Cond.code ({ cls := "PrivateIntersectModel", name := "within", desc := "(II)I" } : Jvm.MethodName) prog_3_method_25_code (3 : Nat) (Option.some Jvm.ClassFile.FieldType.int)) ∈ lw_all := lw_g (lw_at lw_m2 39 rfl) rfl
theorem q300 : (Jvm.Cond.instanceMethod ({ cls := "PrivateIntersectModel", name := "traffic", desc := "()I" } : Jvm.MethodName)) ∈ lw_all := lw_g (lw_at lw_m2 41 rfl) rfl
theorem q301 : (Jvm.Cond.selects "PrivateIntersectModel" ({ cls := "PrivateIntersectModel", name := "traffic", desc := "()I" } : Jvm.MethodName) ({ cls := "PrivateIntersectModel", name := "traffic", desc := "()I" } : Jvm.MethodName)) ∈ lw_all := lw_g (lw_at lw_m2 42 rfl) rfl
theorem q302 : (Jvm.Cond.code ({ cls := "PrivateIntersectModel", name := "traffic", desc := "()I" } : Jvm.MethodName) prog_3_method_26_code (1 : Nat) (Option.some Jvm.ClassFile.FieldType.int)) ∈ lw_all := lw_g (lw_at lw_m2 43 rfl) rfl
theorem in_X2 : ∀ w ∈ wsX20, w ∈ lw_all := lw_in wsX20 [196, 198, 200] (by decide +kernel) (by decide +kernel)
end
section
set_option maxRecDepth 100000
abbrev cL_law : ByteArray := code
theorem dL_law_0 : decode cL_law 0 = .ok (.new 7, 3) := by decide +kernel
theorem dL_law_3 : decode cL_law 3 = .ok (.dup, 1) := by decide +kernel
theorem dL_law_4 : decode cL_law 4 = .ok (.aload_n 0, 1) := by decide +kernel
theorem dL_law_5 : decode cL_law 5 = .ok (.iconst 0, 1) := by decide +kernel
theorem dL_law_6 : decode cL_law 6 = .ok (.invokestatic 9, 3) := by decide +kernel
theorem dL_law_9 : decode cL_law 9 = .ok (.aload_n 0, 1) := by decide +kernel
theorem dL_law_10 : decode cL_law 10 = .ok (.iconst 1, 1) := by decide +kernel
theorem dL_law_11 : decode cL_law 11 = .ok (.invokestatic 9, 3) := by decide +kernel
theorem dL_law_14 : decode cL_law 14 = .ok (.aload_n 0, 1) := by decide +kernel
theorem dL_law_15 : decode cL_law 15 = .ok (.iconst 2, 1) := by decide +kernel
theorem dL_law_16 : decode cL_law 16 = .ok (.invokestatic 9, 3) := by decide +kernel
theorem dL_law_19 : decode cL_law 19 = .ok (.invokespecial 15, 3) := by decide +kernel
theorem dL_law_22 : decode cL_law 22 = .ok (.astore_n 1, 1) := by decide +kernel
theorem dL_law_23 : decode cL_law 23 = .ok (.new 18, 3) := by decide +kernel
theorem dL_law_26 : decode cL_law 26 = .ok (.dup, 1) := by decide +kernel
theorem dL_law_27 : decode cL_law 27 = .ok (.aload_n 0, 1) := by decide +kernel
theorem dL_law_28 : decode cL_law 28 = .ok (.iconst 0, 1) := by decide +kernel
theorem dL_law_29 : decode cL_law 29 = .ok (.invokestatic 9, 3) := by decide +kernel
theorem dL_law_32 : decode cL_law 32 = .ok (.aload_n 0, 1) := by decide +kernel
theorem dL_law_33 : decode cL_law 33 = .ok (.iconst 1, 1) := by decide +kernel
theorem dL_law_34 : decode cL_law 34 = .ok (.invokestatic 9, 3) := by decide +kernel
theorem dL_law_37 : decode cL_law 37 = .ok (.aload_n 0, 1) := by decide +kernel
theorem dL_law_38 : decode cL_law 38 = .ok (.iconst 2, 1) := by decide +kernel
theorem dL_law_39 : decode cL_law 39 = .ok (.invokestatic 9, 3) := by decide +kernel
theorem dL_law_42 : decode cL_law 42 = .ok (.invokespecial 20, 3) := by decide +kernel
theorem dL_law_45 : decode cL_law 45 = .ok (.astore_n 2, 1) := by decide +kernel
theorem dL_law_46 : decode cL_law 46 = .ok (.iconst 3, 1) := by decide +kernel
theorem dL_law_47 : decode cL_law 47 = .ok (.istore_n 3, 1) := by decide +kernel
theorem dL_law_48 : decode cL_law 48 = .ok (.iload_n 3, 1) := by decide +kernel
theorem dL_law_49 : decode cL_law 49 = .ok (.aload_n 0, 1) := by decide +kernel
theorem dL_law_50 : decode cL_law 50 = .ok (.arraylength, 1) := by decide +kernel
theorem dL_law_51 : decode cL_law 51 = .ok (.iconst 4, 1) := by decide +kernel
theorem dL_law_52 : decode cL_law 52 = .ok (.isub, 1) := by decide +kernel
theorem dL_law_53 : decode cL_law 53 = .ok (.if_icmp .gt 578, 3) := by decide +kernel
theorem dL_law_56 : decode cL_law 56 = .ok (.aload_n 0, 1) := by decide +kernel
theorem dL_law_57 : decode cL_law 57 = .ok (.iload_n 3, 1) := by decide +kernel
theorem dL_law_58 : decode cL_law 58 = .ok (.iaload, 1) := by decide +kernel
theorem dL_law_59 : decode cL_law 59 = .ok (.bipush 31, 2) := by decide +kernel
theorem dL_law_61 : decode cL_law 61 = .ok (.iand, 1) := by decide +kernel
theorem dL_law_62 : decode cL_law 62 = .ok (.tableswitch 563 0 16 #[82, 115, 158, 201, 234, 257, 280, 313, 346, 389, 422, 435, 458, 471, 494, 517, 550], 82) := by decide +kernel
theorem dL_law_144 : decode cL_law 144 = .ok (.aload_n 1, 1) := by decide +kernel
theorem dL_law_145 : decode cL_law 145 = .ok (.aload_n 0, 1) := by decide +kernel
theorem dL_law_146 : decode cL_law 146 = .ok (.iload_n 3, 1) := by decide +kernel
theorem dL_law_147 : decode cL_law 147 = .ok (.iconst 1, 1) := by decide +kernel
theorem dL_law_148 : decode cL_law 148 = .ok (.iadd, 1) := by decide +kernel
theorem dL_law_149 : decode cL_law 149 = .ok (.iaload, 1) := by decide +kernel
theorem dL_law_150 : decode cL_law 150 = .ok (.aload_n 0, 1) := by decide +kernel
theorem dL_law_151 : decode cL_law 151 = .ok (.iload_n 3, 1) := by decide +kernel
theorem dL_law_152 : decode cL_law 152 = .ok (.iconst 2, 1) := by decide +kernel
theorem dL_law_153 : decode cL_law 153 = .ok (.iadd, 1) := by decide +kernel
theorem dL_law_154 : decode cL_law 154 = .ok (.iaload, 1) := by decide +kernel
theorem dL_law_155 : decode cL_law 155 = .ok (.invokevirtual 21, 3) := by decide +kernel
theorem dL_law_158 : decode cL_law 158 = .ok (.aload_n 2, 1) := by decide +kernel
theorem dL_law_159 : decode cL_law 159 = .ok (.aload_n 0, 1) := by decide +kernel
theorem dL_law_160 : decode cL_law 160 = .ok (.iload_n 3, 1) := by decide +kernel
theorem dL_law_161 : decode cL_law 161 = .ok (.iconst 1, 1) := by decide +kernel
theorem dL_law_162 : decode cL_law 162 = .ok (.iadd, 1) := by decide +kernel
theorem dL_law_163 : decode cL_law 163 = .ok (.iaload, 1) := by decide +kernel
theorem dL_law_164 : decode cL_law 164 = .ok (.aload_n 0, 1) := by decide +kernel
theorem dL_law_165 : decode cL_law 165 = .ok (.iload_n 3, 1) := by decide +kernel
theorem dL_law_166 : decode cL_law 166 = .ok (.iconst 2, 1) := by decide +kernel
theorem dL_law_167 : decode cL_law 167 = .ok (.iadd, 1) := by decide +kernel
theorem dL_law_168 : decode cL_law 168 = .ok (.iaload, 1) := by decide +kernel
theorem dL_law_169 : decode cL_law 169 = .ok (.invokevirtual 25, 3) := by decide +kernel
theorem dL_law_172 : decode cL_law 172 = .ok (.if_icmp .eq 453, 3) := by decide +kernel
theorem dL_law_175 : decode cL_law 175 = .ok (.iconst 0, 1) := by decide +kernel
theorem dL_law_176 : decode cL_law 176 = .ok (.ireturn, 1) := by decide +kernel
theorem dL_law_177 : decode cL_law 177 = .ok (.aload_n 1, 1) := by decide +kernel
theorem dL_law_178 : decode cL_law 178 = .ok (.aload_n 0, 1) := by decide +kernel
theorem dL_law_179 : decode cL_law 179 = .ok (.iload_n 3, 1) := by decide +kernel
theorem dL_law_180 : decode cL_law 180 = .ok (.iconst 1, 1) := by decide +kernel
theorem dL_law_181 : decode cL_law 181 = .ok (.iadd, 1) := by decide +kernel
theorem dL_law_182 : decode cL_law 182 = .ok (.iaload, 1) := by decide +kernel
theorem dL_law_183 : decode cL_law 183 = .ok (.aload_n 0, 1) := by decide +kernel
theorem dL_law_184 : decode cL_law 184 = .ok (.iload_n 3, 1) := by decide +kernel
theorem dL_law_185 : decode cL_law 185 = .ok (.iconst 2, 1) := by decide +kernel
theorem dL_law_186 : decode cL_law 186 = .ok (.iadd, 1) := by decide +kernel
theorem dL_law_187 : decode cL_law 187 = .ok (.iaload, 1) := by decide +kernel
theorem dL_law_188 : decode cL_law 188 = .ok (.aload_n 0, 1) := by decide +kernel
theorem dL_law_189 : decode cL_law 189 = .ok (.iload_n 3, 1) := by decide +kernel
theorem dL_law_190 : decode cL_law 190 = .ok (.iconst 3, 1) := by decide +kernel
theorem dL_law_191 : decode cL_law 191 = .ok (.iadd, 1) := by decide +kernel
theorem dL_law_192 : decode cL_law 192 = .ok (.iaload, 1) := by decide +kernel
theorem dL_law_193 : decode cL_law 193 = .ok (.invokevirtual 26, 3) := by decide +kernel
theorem dL_law_196 : decode cL_law 196 = .ok (.aload_n 2, 1) := by decide +kernel
theorem dL_law_197 : decode cL_law 197 = .ok (.aload_n 0, 1) := by decide +kernel
theorem dL_law_198 : decode cL_law 198 = .ok (.iload_n 3, 1) := by decide +kernel
theorem dL_law_199 : decode cL_law 199 = .ok (.iconst 1, 1) := by decide +kernel
theorem dL_law_200 : decode cL_law 200 = .ok (.iadd, 1) := by decide +kernel
theorem dL_law_201 : decode cL_law 201 = .ok (.iaload, 1) := by decide +kernel
theorem dL_law_202 : decode cL_law 202 = .ok (.aload_n 0, 1) := by decide +kernel
theorem dL_law_203 : decode cL_law 203 = .ok (.iload_n 3, 1) := by decide +kernel
theorem dL_law_204 : decode cL_law 204 = .ok (.iconst 2, 1) := by decide +kernel
theorem dL_law_205 : decode cL_law 205 = .ok (.iadd, 1) := by decide +kernel
theorem dL_law_206 : decode cL_law 206 = .ok (.iaload, 1) := by decide +kernel
theorem dL_law_207 : decode cL_law 207 = .ok (.aload_n 0, 1) := by decide +kernel
theorem dL_law_208 : decode cL_law 208 = .ok (.iload_n 3, 1) := by decide +kernel
theorem dL_law_209 : decode cL_law 209 = .ok (.iconst 3, 1) := by decide +kernel
theorem dL_law_210 : decode cL_law 210 = .ok (.iadd, 1) := by decide +kernel
theorem dL_law_211 : decode cL_law 211 = .ok (.iaload, 1) := by decide +kernel
theorem dL_law_212 : decode cL_law 212 = .ok (.invokevirtual 30, 3) := by decide +kernel
theorem dL_law_215 : decode cL_law 215 = .ok (.if_icmp .eq 410, 3) := by decide +kernel
theorem dL_law_218 : decode cL_law 218 = .ok (.iconst 0, 1) := by decide +kernel
theorem dL_law_219 : decode cL_law 219 = .ok (.ireturn, 1) := by decide +kernel
theorem dL_law_220 : decode cL_law 220 = .ok (.aload_n 1, 1) := by decide +kernel
theorem dL_law_221 : decode cL_law 221 = .ok (.aload_n 0, 1) := by decide +kernel
theorem dL_law_222 : decode cL_law 222 = .ok (.iload_n 3, 1) := by decide +kernel
theorem dL_law_223 : decode cL_law 223 = .ok (.iconst 1, 1) := by decide +kernel
theorem dL_law_224 : decode cL_law 224 = .ok (.iadd, 1) := by decide +kernel
theorem dL_law_225 : decode cL_law 225 = .ok (.iaload, 1) := by decide +kernel
end
section
set_option maxRecDepth 100000
theorem dL_law_226 : decode cL_law 226 = .ok (.aload_n 0, 1) := by decide +kernel
theorem dL_law_227 : decode cL_law 227 = .ok (.iload_n 3, 1) := by decide +kernel
theorem dL_law_228 : decode cL_law 228 = .ok (.iconst 2, 1) := by decide +kernel
theorem dL_law_229 : decode cL_law 229 = .ok (.iadd, 1) := by decide +kernel
theorem dL_law_230 : decode cL_law 230 = .ok (.iaload, 1) := by decide +kernel
theorem dL_law_231 : decode cL_law 231 = .ok (.aload_n 0, 1) := by decide +kernel
theorem dL_law_232 : decode cL_law 232 = .ok (.iload_n 3, 1) := by decide +kernel
theorem dL_law_233 : decode cL_law 233 = .ok (.iconst 3, 1) := by decide +kernel
theorem dL_law_234 : decode cL_law 234 = .ok (.iadd, 1) := by decide +kernel
theorem dL_law_235 : decode cL_law 235 = .ok (.iaload, 1) := by decide +kernel
theorem dL_law_236 : decode cL_law 236 = .ok (.invokevirtual 31, 3) := by decide +kernel
theorem dL_law_239 : decode cL_law 239 = .ok (.aload_n 2, 1) := by decide +kernel
theorem dL_law_240 : decode cL_law 240 = .ok (.aload_n 0, 1) := by decide +kernel
theorem dL_law_241 : decode cL_law 241 = .ok (.iload_n 3, 1) := by decide +kernel
theorem dL_law_242 : decode cL_law 242 = .ok (.iconst 1, 1) := by decide +kernel
theorem dL_law_243 : decode cL_law 243 = .ok (.iadd, 1) := by decide +kernel
theorem dL_law_244 : decode cL_law 244 = .ok (.iaload, 1) := by decide +kernel
theorem dL_law_245 : decode cL_law 245 = .ok (.aload_n 0, 1) := by decide +kernel
theorem dL_law_246 : decode cL_law 246 = .ok (.iload_n 3, 1) := by decide +kernel
theorem dL_law_247 : decode cL_law 247 = .ok (.iconst 2, 1) := by decide +kernel
theorem dL_law_248 : decode cL_law 248 = .ok (.iadd, 1) := by decide +kernel
theorem dL_law_249 : decode cL_law 249 = .ok (.iaload, 1) := by decide +kernel
theorem dL_law_250 : decode cL_law 250 = .ok (.aload_n 0, 1) := by decide +kernel
theorem dL_law_251 : decode cL_law 251 = .ok (.iload_n 3, 1) := by decide +kernel
theorem dL_law_252 : decode cL_law 252 = .ok (.iconst 3, 1) := by decide +kernel
theorem dL_law_253 : decode cL_law 253 = .ok (.iadd, 1) := by decide +kernel
theorem dL_law_254 : decode cL_law 254 = .ok (.iaload, 1) := by decide +kernel
theorem dL_law_255 : decode cL_law 255 = .ok (.invokevirtual 34, 3) := by decide +kernel
theorem dL_law_258 : decode cL_law 258 = .ok (.if_icmp .eq 367, 3) := by decide +kernel
theorem dL_law_261 : decode cL_law 261 = .ok (.iconst 0, 1) := by decide +kernel
theorem dL_law_262 : decode cL_law 262 = .ok (.ireturn, 1) := by decide +kernel
theorem dL_law_263 : decode cL_law 263 = .ok (.aload_n 1, 1) := by decide +kernel
theorem dL_law_264 : decode cL_law 264 = .ok (.aload_n 0, 1) := by decide +kernel
theorem dL_law_265 : decode cL_law 265 = .ok (.iload_n 3, 1) := by decide +kernel
theorem dL_law_266 : decode cL_law 266 = .ok (.iconst 1, 1) := by decide +kernel
theorem dL_law_267 : decode cL_law 267 = .ok (.iadd, 1) := by decide +kernel
theorem dL_law_268 : decode cL_law 268 = .ok (.iaload, 1) := by decide +kernel
theorem dL_law_269 : decode cL_law 269 = .ok (.aload_n 0, 1) := by decide +kernel
theorem dL_law_270 : decode cL_law 270 = .ok (.iload_n 3, 1) := by decide +kernel
theorem dL_law_271 : decode cL_law 271 = .ok (.iconst 2, 1) := by decide +kernel
theorem dL_law_272 : decode cL_law 272 = .ok (.iadd, 1) := by decide +kernel
theorem dL_law_273 : decode cL_law 273 = .ok (.iaload, 1) := by decide +kernel
theorem dL_law_274 : decode cL_law 274 = .ok (.invokevirtual 35, 3) := by decide +kernel
theorem dL_law_277 : decode cL_law 277 = .ok (.aload_n 2, 1) := by decide +kernel
theorem dL_law_278 : decode cL_law 278 = .ok (.aload_n 0, 1) := by decide +kernel
theorem dL_law_279 : decode cL_law 279 = .ok (.iload_n 3, 1) := by decide +kernel
theorem dL_law_280 : decode cL_law 280 = .ok (.iconst 1, 1) := by decide +kernel
theorem dL_law_281 : decode cL_law 281 = .ok (.iadd, 1) := by decide +kernel
theorem dL_law_282 : decode cL_law 282 = .ok (.iaload, 1) := by decide +kernel
theorem dL_law_283 : decode cL_law 283 = .ok (.aload_n 0, 1) := by decide +kernel
theorem dL_law_284 : decode cL_law 284 = .ok (.iload_n 3, 1) := by decide +kernel
theorem dL_law_285 : decode cL_law 285 = .ok (.iconst 2, 1) := by decide +kernel
theorem dL_law_286 : decode cL_law 286 = .ok (.iadd, 1) := by decide +kernel
theorem dL_law_287 : decode cL_law 287 = .ok (.iaload, 1) := by decide +kernel
theorem dL_law_288 : decode cL_law 288 = .ok (.invokevirtual 38, 3) := by decide +kernel
theorem dL_law_291 : decode cL_law 291 = .ok (.if_icmp .eq 334, 3) := by decide +kernel
theorem dL_law_294 : decode cL_law 294 = .ok (.iconst 0, 1) := by decide +kernel
theorem dL_law_295 : decode cL_law 295 = .ok (.ireturn, 1) := by decide +kernel
theorem dL_law_296 : decode cL_law 296 = .ok (.aload_n 1, 1) := by decide +kernel
theorem dL_law_297 : decode cL_law 297 = .ok (.aload_n 0, 1) := by decide +kernel
theorem dL_law_298 : decode cL_law 298 = .ok (.iload_n 3, 1) := by decide +kernel
theorem dL_law_299 : decode cL_law 299 = .ok (.iconst 1, 1) := by decide +kernel
theorem dL_law_300 : decode cL_law 300 = .ok (.iadd, 1) := by decide +kernel
theorem dL_law_301 : decode cL_law 301 = .ok (.iaload, 1) := by decide +kernel
theorem dL_law_302 : decode cL_law 302 = .ok (.invokevirtual 39, 3) := by decide +kernel
theorem dL_law_305 : decode cL_law 305 = .ok (.aload_n 2, 1) := by decide +kernel
theorem dL_law_306 : decode cL_law 306 = .ok (.aload_n 0, 1) := by decide +kernel
theorem dL_law_307 : decode cL_law 307 = .ok (.iload_n 3, 1) := by decide +kernel
theorem dL_law_308 : decode cL_law 308 = .ok (.iconst 1, 1) := by decide +kernel
theorem dL_law_309 : decode cL_law 309 = .ok (.iadd, 1) := by decide +kernel
theorem dL_law_310 : decode cL_law 310 = .ok (.iaload, 1) := by decide +kernel
theorem dL_law_311 : decode cL_law 311 = .ok (.invokevirtual 43, 3) := by decide +kernel
theorem dL_law_314 : decode cL_law 314 = .ok (.if_icmp .eq 311, 3) := by decide +kernel
theorem dL_law_317 : decode cL_law 317 = .ok (.iconst 0, 1) := by decide +kernel
theorem dL_law_318 : decode cL_law 318 = .ok (.ireturn, 1) := by decide +kernel
theorem dL_law_319 : decode cL_law 319 = .ok (.aload_n 1, 1) := by decide +kernel
theorem dL_law_320 : decode cL_law 320 = .ok (.aload_n 0, 1) := by decide +kernel
theorem dL_law_321 : decode cL_law 321 = .ok (.iload_n 3, 1) := by decide +kernel
theorem dL_law_322 : decode cL_law 322 = .ok (.iconst 1, 1) := by decide +kernel
theorem dL_law_323 : decode cL_law 323 = .ok (.iadd, 1) := by decide +kernel
theorem dL_law_324 : decode cL_law 324 = .ok (.iaload, 1) := by decide +kernel
theorem dL_law_325 : decode cL_law 325 = .ok (.invokevirtual 44, 3) := by decide +kernel
theorem dL_law_328 : decode cL_law 328 = .ok (.aload_n 2, 1) := by decide +kernel
theorem dL_law_329 : decode cL_law 329 = .ok (.aload_n 0, 1) := by decide +kernel
theorem dL_law_330 : decode cL_law 330 = .ok (.iload_n 3, 1) := by decide +kernel
theorem dL_law_331 : decode cL_law 331 = .ok (.iconst 1, 1) := by decide +kernel
theorem dL_law_332 : decode cL_law 332 = .ok (.iadd, 1) := by decide +kernel
theorem dL_law_333 : decode cL_law 333 = .ok (.iaload, 1) := by decide +kernel
theorem dL_law_334 : decode cL_law 334 = .ok (.invokevirtual 47, 3) := by decide +kernel
theorem dL_law_337 : decode cL_law 337 = .ok (.if_icmp .eq 288, 3) := by decide +kernel
theorem dL_law_340 : decode cL_law 340 = .ok (.iconst 0, 1) := by decide +kernel
theorem dL_law_341 : decode cL_law 341 = .ok (.ireturn, 1) := by decide +kernel
theorem dL_law_342 : decode cL_law 342 = .ok (.aload_n 1, 1) := by decide +kernel
theorem dL_law_343 : decode cL_law 343 = .ok (.aload_n 0, 1) := by decide +kernel
theorem dL_law_344 : decode cL_law 344 = .ok (.iload_n 3, 1) := by decide +kernel
theorem dL_law_345 : decode cL_law 345 = .ok (.iconst 1, 1) := by decide +kernel
theorem dL_law_346 : decode cL_law 346 = .ok (.iadd, 1) := by decide +kernel
theorem dL_law_347 : decode cL_law 347 = .ok (.iaload, 1) := by decide +kernel
theorem dL_law_348 : decode cL_law 348 = .ok (.aload_n 0, 1) := by decide +kernel
theorem dL_law_349 : decode cL_law 349 = .ok (.iload_n 3, 1) := by decide +kernel
theorem dL_law_350 : decode cL_law 350 = .ok (.iconst 2, 1) := by decide +kernel
theorem dL_law_351 : decode cL_law 351 = .ok (.iadd, 1) := by decide +kernel
theorem dL_law_352 : decode cL_law 352 = .ok (.iaload, 1) := by decide +kernel
theorem dL_law_353 : decode cL_law 353 = .ok (.invokevirtual 48, 3) := by decide +kernel
theorem dL_law_356 : decode cL_law 356 = .ok (.aload_n 2, 1) := by decide +kernel
theorem dL_law_357 : decode cL_law 357 = .ok (.aload_n 0, 1) := by decide +kernel
theorem dL_law_358 : decode cL_law 358 = .ok (.iload_n 3, 1) := by decide +kernel
theorem dL_law_359 : decode cL_law 359 = .ok (.iconst 1, 1) := by decide +kernel
theorem dL_law_360 : decode cL_law 360 = .ok (.iadd, 1) := by decide +kernel
theorem dL_law_361 : decode cL_law 361 = .ok (.iaload, 1) := by decide +kernel
end
section
set_option maxRecDepth 100000
theorem dL_law_362 : decode cL_law 362 = .ok (.aload_n 0, 1) := by decide +kernel
theorem dL_law_363 : decode cL_law 363 = .ok (.iload_n 3, 1) := by decide +kernel
theorem dL_law_364 : decode cL_law 364 = .ok (.iconst 2, 1) := by decide +kernel
theorem dL_law_365 : decode cL_law 365 = .ok (.iadd, 1) := by decide +kernel
theorem dL_law_366 : decode cL_law 366 = .ok (.iaload, 1) := by decide +kernel
theorem dL_law_367 : decode cL_law 367 = .ok (.invokevirtual 51, 3) := by decide +kernel
theorem dL_law_370 : decode cL_law 370 = .ok (.if_icmp .eq 255, 3) := by decide +kernel
theorem dL_law_373 : decode cL_law 373 = .ok (.iconst 0, 1) := by decide +kernel
theorem dL_law_374 : decode cL_law 374 = .ok (.ireturn, 1) := by decide +kernel
theorem dL_law_375 : decode cL_law 375 = .ok (.aload_n 1, 1) := by decide +kernel
theorem dL_law_376 : decode cL_law 376 = .ok (.aload_n 0, 1) := by decide +kernel
theorem dL_law_377 : decode cL_law 377 = .ok (.iload_n 3, 1) := by decide +kernel
theorem dL_law_378 : decode cL_law 378 = .ok (.iconst 1, 1) := by decide +kernel
theorem dL_law_379 : decode cL_law 379 = .ok (.iadd, 1) := by decide +kernel
theorem dL_law_380 : decode cL_law 380 = .ok (.iaload, 1) := by decide +kernel
theorem dL_law_381 : decode cL_law 381 = .ok (.aload_n 0, 1) := by decide +kernel
theorem dL_law_382 : decode cL_law 382 = .ok (.iload_n 3, 1) := by decide +kernel
theorem dL_law_383 : decode cL_law 383 = .ok (.iconst 2, 1) := by decide +kernel
theorem dL_law_384 : decode cL_law 384 = .ok (.iadd, 1) := by decide +kernel
theorem dL_law_385 : decode cL_law 385 = .ok (.iaload, 1) := by decide +kernel
theorem dL_law_386 : decode cL_law 386 = .ok (.invokevirtual 52, 3) := by decide +kernel
theorem dL_law_389 : decode cL_law 389 = .ok (.aload_n 2, 1) := by decide +kernel
theorem dL_law_390 : decode cL_law 390 = .ok (.aload_n 0, 1) := by decide +kernel
theorem dL_law_391 : decode cL_law 391 = .ok (.iload_n 3, 1) := by decide +kernel
theorem dL_law_392 : decode cL_law 392 = .ok (.iconst 1, 1) := by decide +kernel
theorem dL_law_393 : decode cL_law 393 = .ok (.iadd, 1) := by decide +kernel
theorem dL_law_394 : decode cL_law 394 = .ok (.iaload, 1) := by decide +kernel
theorem dL_law_395 : decode cL_law 395 = .ok (.aload_n 0, 1) := by decide +kernel
theorem dL_law_396 : decode cL_law 396 = .ok (.iload_n 3, 1) := by decide +kernel
theorem dL_law_397 : decode cL_law 397 = .ok (.iconst 2, 1) := by decide +kernel
theorem dL_law_398 : decode cL_law 398 = .ok (.iadd, 1) := by decide +kernel
theorem dL_law_399 : decode cL_law 399 = .ok (.iaload, 1) := by decide +kernel
theorem dL_law_400 : decode cL_law 400 = .ok (.invokevirtual 55, 3) := by decide +kernel
theorem dL_law_403 : decode cL_law 403 = .ok (.if_icmp .eq 222, 3) := by decide +kernel
theorem dL_law_406 : decode cL_law 406 = .ok (.iconst 0, 1) := by decide +kernel
theorem dL_law_407 : decode cL_law 407 = .ok (.ireturn, 1) := by decide +kernel
theorem dL_law_408 : decode cL_law 408 = .ok (.aload_n 1, 1) := by decide +kernel
theorem dL_law_409 : decode cL_law 409 = .ok (.aload_n 0, 1) := by decide +kernel
theorem dL_law_410 : decode cL_law 410 = .ok (.iload_n 3, 1) := by decide +kernel
theorem dL_law_411 : decode cL_law 411 = .ok (.iconst 1, 1) := by decide +kernel
theorem dL_law_412 : decode cL_law 412 = .ok (.iadd, 1) := by decide +kernel
theorem dL_law_413 : decode cL_law 413 = .ok (.iaload, 1) := by decide +kernel
theorem dL_law_414 : decode cL_law 414 = .ok (.aload_n 0, 1) := by decide +kernel
theorem dL_law_415 : decode cL_law 415 = .ok (.iload_n 3, 1) := by decide +kernel
theorem dL_law_416 : decode cL_law 416 = .ok (.iconst 2, 1) := by decide +kernel
theorem dL_law_417 : decode cL_law 417 = .ok (.iadd, 1) := by decide +kernel
theorem dL_law_418 : decode cL_law 418 = .ok (.iaload, 1) := by decide +kernel
theorem dL_law_419 : decode cL_law 419 = .ok (.aload_n 0, 1) := by decide +kernel
theorem dL_law_420 : decode cL_law 420 = .ok (.iload_n 3, 1) := by decide +kernel
theorem dL_law_421 : decode cL_law 421 = .ok (.iconst 3, 1) := by decide +kernel
theorem dL_law_422 : decode cL_law 422 = .ok (.iadd, 1) := by decide +kernel
theorem dL_law_423 : decode cL_law 423 = .ok (.iaload, 1) := by decide +kernel
theorem dL_law_424 : decode cL_law 424 = .ok (.invokevirtual 56, 3) := by decide +kernel
theorem dL_law_427 : decode cL_law 427 = .ok (.aload_n 2, 1) := by decide +kernel
theorem dL_law_428 : decode cL_law 428 = .ok (.aload_n 0, 1) := by decide +kernel
theorem dL_law_429 : decode cL_law 429 = .ok (.iload_n 3, 1) := by decide +kernel
theorem dL_law_430 : decode cL_law 430 = .ok (.iconst 1, 1) := by decide +kernel
theorem dL_law_431 : decode cL_law 431 = .ok (.iadd, 1) := by decide +kernel
theorem dL_law_432 : decode cL_law 432 = .ok (.iaload, 1) := by decide +kernel
theorem dL_law_433 : decode cL_law 433 = .ok (.aload_n 0, 1) := by decide +kernel
theorem dL_law_434 : decode cL_law 434 = .ok (.iload_n 3, 1) := by decide +kernel
theorem dL_law_435 : decode cL_law 435 = .ok (.iconst 2, 1) := by decide +kernel
theorem dL_law_436 : decode cL_law 436 = .ok (.iadd, 1) := by decide +kernel
theorem dL_law_437 : decode cL_law 437 = .ok (.iaload, 1) := by decide +kernel
theorem dL_law_438 : decode cL_law 438 = .ok (.aload_n 0, 1) := by decide +kernel
theorem dL_law_439 : decode cL_law 439 = .ok (.iload_n 3, 1) := by decide +kernel
theorem dL_law_440 : decode cL_law 440 = .ok (.iconst 3, 1) := by decide +kernel
theorem dL_law_441 : decode cL_law 441 = .ok (.iadd, 1) := by decide +kernel
theorem dL_law_442 : decode cL_law 442 = .ok (.iaload, 1) := by decide +kernel
theorem dL_law_443 : decode cL_law 443 = .ok (.invokevirtual 59, 3) := by decide +kernel
theorem dL_law_446 : decode cL_law 446 = .ok (.if_icmp .eq 179, 3) := by decide +kernel
theorem dL_law_449 : decode cL_law 449 = .ok (.iconst 0, 1) := by decide +kernel
theorem dL_law_450 : decode cL_law 450 = .ok (.ireturn, 1) := by decide +kernel
theorem dL_law_451 : decode cL_law 451 = .ok (.aload_n 1, 1) := by decide +kernel
theorem dL_law_452 : decode cL_law 452 = .ok (.aload_n 0, 1) := by decide +kernel
theorem dL_law_453 : decode cL_law 453 = .ok (.iload_n 3, 1) := by decide +kernel
theorem dL_law_454 : decode cL_law 454 = .ok (.iconst 1, 1) := by decide +kernel
theorem dL_law_455 : decode cL_law 455 = .ok (.iadd, 1) := by decide +kernel
theorem dL_law_456 : decode cL_law 456 = .ok (.iaload, 1) := by decide +kernel
theorem dL_law_457 : decode cL_law 457 = .ok (.aload_n 0, 1) := by decide +kernel
theorem dL_law_458 : decode cL_law 458 = .ok (.iload_n 3, 1) := by decide +kernel
theorem dL_law_459 : decode cL_law 459 = .ok (.iconst 2, 1) := by decide +kernel
theorem dL_law_460 : decode cL_law 460 = .ok (.iadd, 1) := by decide +kernel
theorem dL_law_461 : decode cL_law 461 = .ok (.iaload, 1) := by decide +kernel
theorem dL_law_462 : decode cL_law 462 = .ok (.invokevirtual 60, 3) := by decide +kernel
theorem dL_law_465 : decode cL_law 465 = .ok (.aload_n 2, 1) := by decide +kernel
theorem dL_law_466 : decode cL_law 466 = .ok (.aload_n 0, 1) := by decide +kernel
theorem dL_law_467 : decode cL_law 467 = .ok (.iload_n 3, 1) := by decide +kernel
theorem dL_law_468 : decode cL_law 468 = .ok (.iconst 1, 1) := by decide +kernel
theorem dL_law_469 : decode cL_law 469 = .ok (.iadd, 1) := by decide +kernel
theorem dL_law_470 : decode cL_law 470 = .ok (.iaload, 1) := by decide +kernel
theorem dL_law_471 : decode cL_law 471 = .ok (.aload_n 0, 1) := by decide +kernel
theorem dL_law_472 : decode cL_law 472 = .ok (.iload_n 3, 1) := by decide +kernel
theorem dL_law_473 : decode cL_law 473 = .ok (.iconst 2, 1) := by decide +kernel
theorem dL_law_474 : decode cL_law 474 = .ok (.iadd, 1) := by decide +kernel
theorem dL_law_475 : decode cL_law 475 = .ok (.iaload, 1) := by decide +kernel
theorem dL_law_476 : decode cL_law 476 = .ok (.invokevirtual 63, 3) := by decide +kernel
theorem dL_law_479 : decode cL_law 479 = .ok (.if_icmp .eq 146, 3) := by decide +kernel
theorem dL_law_482 : decode cL_law 482 = .ok (.iconst 0, 1) := by decide +kernel
theorem dL_law_483 : decode cL_law 483 = .ok (.ireturn, 1) := by decide +kernel
theorem dL_law_484 : decode cL_law 484 = .ok (.aload_n 1, 1) := by decide +kernel
theorem dL_law_485 : decode cL_law 485 = .ok (.invokevirtual 64, 3) := by decide +kernel
theorem dL_law_488 : decode cL_law 488 = .ok (.aload_n 2, 1) := by decide +kernel
theorem dL_law_489 : decode cL_law 489 = .ok (.invokevirtual 68, 3) := by decide +kernel
theorem dL_law_492 : decode cL_law 492 = .ok (.if_icmp .eq 133, 3) := by decide +kernel
theorem dL_law_495 : decode cL_law 495 = .ok (.iconst 0, 1) := by decide +kernel
theorem dL_law_496 : decode cL_law 496 = .ok (.ireturn, 1) := by decide +kernel
theorem dL_law_497 : decode cL_law 497 = .ok (.aload_n 1, 1) := by decide +kernel
theorem dL_law_498 : decode cL_law 498 = .ok (.aload_n 0, 1) := by decide +kernel
theorem dL_law_499 : decode cL_law 499 = .ok (.iload_n 3, 1) := by decide +kernel
end
section
set_option maxRecDepth 100000
theorem dL_law_500 : decode cL_law 500 = .ok (.iconst 1, 1) := by decide +kernel
theorem dL_law_501 : decode cL_law 501 = .ok (.iadd, 1) := by decide +kernel
theorem dL_law_502 : decode cL_law 502 = .ok (.iaload, 1) := by decide +kernel
theorem dL_law_503 : decode cL_law 503 = .ok (.invokevirtual 69, 3) := by decide +kernel
theorem dL_law_506 : decode cL_law 506 = .ok (.aload_n 2, 1) := by decide +kernel
theorem dL_law_507 : decode cL_law 507 = .ok (.aload_n 0, 1) := by decide +kernel
theorem dL_law_508 : decode cL_law 508 = .ok (.iload_n 3, 1) := by decide +kernel
theorem dL_law_509 : decode cL_law 509 = .ok (.iconst 1, 1) := by decide +kernel
theorem dL_law_510 : decode cL_law 510 = .ok (.iadd, 1) := by decide +kernel
theorem dL_law_511 : decode cL_law 511 = .ok (.iaload, 1) := by decide +kernel
theorem dL_law_512 : decode cL_law 512 = .ok (.invokevirtual 72, 3) := by decide +kernel
theorem dL_law_515 : decode cL_law 515 = .ok (.if_icmp .eq 110, 3) := by decide +kernel
theorem dL_law_518 : decode cL_law 518 = .ok (.iconst 0, 1) := by decide +kernel
theorem dL_law_519 : decode cL_law 519 = .ok (.ireturn, 1) := by decide +kernel
theorem dL_law_520 : decode cL_law 520 = .ok (.aload_n 1, 1) := by decide +kernel
theorem dL_law_521 : decode cL_law 521 = .ok (.invokevirtual 73, 3) := by decide +kernel
theorem dL_law_524 : decode cL_law 524 = .ok (.aload_n 2, 1) := by decide +kernel
theorem dL_law_525 : decode cL_law 525 = .ok (.invokevirtual 76, 3) := by decide +kernel
theorem dL_law_528 : decode cL_law 528 = .ok (.if_icmp .eq 97, 3) := by decide +kernel
theorem dL_law_531 : decode cL_law 531 = .ok (.iconst 0, 1) := by decide +kernel
theorem dL_law_532 : decode cL_law 532 = .ok (.ireturn, 1) := by decide +kernel
theorem dL_law_533 : decode cL_law 533 = .ok (.aload_n 1, 1) := by decide +kernel
theorem dL_law_534 : decode cL_law 534 = .ok (.aload_n 0, 1) := by decide +kernel
theorem dL_law_535 : decode cL_law 535 = .ok (.iload_n 3, 1) := by decide +kernel
theorem dL_law_536 : decode cL_law 536 = .ok (.iconst 1, 1) := by decide +kernel
theorem dL_law_537 : decode cL_law 537 = .ok (.iadd, 1) := by decide +kernel
theorem dL_law_538 : decode cL_law 538 = .ok (.iaload, 1) := by decide +kernel
theorem dL_law_539 : decode cL_law 539 = .ok (.invokevirtual 77, 3) := by decide +kernel
theorem dL_law_542 : decode cL_law 542 = .ok (.aload_n 2, 1) := by decide +kernel
theorem dL_law_543 : decode cL_law 543 = .ok (.aload_n 0, 1) := by decide +kernel
theorem dL_law_544 : decode cL_law 544 = .ok (.iload_n 3, 1) := by decide +kernel
theorem dL_law_545 : decode cL_law 545 = .ok (.iconst 1, 1) := by decide +kernel
theorem dL_law_546 : decode cL_law 546 = .ok (.iadd, 1) := by decide +kernel
theorem dL_law_547 : decode cL_law 547 = .ok (.iaload, 1) := by decide +kernel
theorem dL_law_548 : decode cL_law 548 = .ok (.invokevirtual 80, 3) := by decide +kernel
theorem dL_law_551 : decode cL_law 551 = .ok (.if_icmp .eq 74, 3) := by decide +kernel
theorem dL_law_554 : decode cL_law 554 = .ok (.iconst 0, 1) := by decide +kernel
theorem dL_law_555 : decode cL_law 555 = .ok (.ireturn, 1) := by decide +kernel
theorem dL_law_556 : decode cL_law 556 = .ok (.aload_n 1, 1) := by decide +kernel
theorem dL_law_557 : decode cL_law 557 = .ok (.aload_n 0, 1) := by decide +kernel
theorem dL_law_558 : decode cL_law 558 = .ok (.iload_n 3, 1) := by decide +kernel
theorem dL_law_559 : decode cL_law 559 = .ok (.iconst 1, 1) := by decide +kernel
theorem dL_law_560 : decode cL_law 560 = .ok (.iadd, 1) := by decide +kernel
theorem dL_law_561 : decode cL_law 561 = .ok (.iaload, 1) := by decide +kernel
theorem dL_law_562 : decode cL_law 562 = .ok (.invokevirtual 81, 3) := by decide +kernel
theorem dL_law_565 : decode cL_law 565 = .ok (.aload_n 2, 1) := by decide +kernel
theorem dL_law_566 : decode cL_law 566 = .ok (.aload_n 0, 1) := by decide +kernel
theorem dL_law_567 : decode cL_law 567 = .ok (.iload_n 3, 1) := by decide +kernel
theorem dL_law_568 : decode cL_law 568 = .ok (.iconst 1, 1) := by decide +kernel
theorem dL_law_569 : decode cL_law 569 = .ok (.iadd, 1) := by decide +kernel
theorem dL_law_570 : decode cL_law 570 = .ok (.iaload, 1) := by decide +kernel
theorem dL_law_571 : decode cL_law 571 = .ok (.invokevirtual 84, 3) := by decide +kernel
theorem dL_law_574 : decode cL_law 574 = .ok (.if_icmp .eq 51, 3) := by decide +kernel
theorem dL_law_577 : decode cL_law 577 = .ok (.iconst 0, 1) := by decide +kernel
theorem dL_law_578 : decode cL_law 578 = .ok (.ireturn, 1) := by decide +kernel
theorem dL_law_579 : decode cL_law 579 = .ok (.aload_n 1, 1) := by decide +kernel
theorem dL_law_580 : decode cL_law 580 = .ok (.aload_n 0, 1) := by decide +kernel
theorem dL_law_581 : decode cL_law 581 = .ok (.iload_n 3, 1) := by decide +kernel
theorem dL_law_582 : decode cL_law 582 = .ok (.iconst 1, 1) := by decide +kernel
theorem dL_law_583 : decode cL_law 583 = .ok (.iadd, 1) := by decide +kernel
theorem dL_law_584 : decode cL_law 584 = .ok (.iaload, 1) := by decide +kernel
theorem dL_law_585 : decode cL_law 585 = .ok (.aload_n 0, 1) := by decide +kernel
theorem dL_law_586 : decode cL_law 586 = .ok (.iload_n 3, 1) := by decide +kernel
theorem dL_law_587 : decode cL_law 587 = .ok (.iconst 2, 1) := by decide +kernel
theorem dL_law_588 : decode cL_law 588 = .ok (.iadd, 1) := by decide +kernel
theorem dL_law_589 : decode cL_law 589 = .ok (.iaload, 1) := by decide +kernel
theorem dL_law_590 : decode cL_law 590 = .ok (.invokevirtual 85, 3) := by decide +kernel
theorem dL_law_593 : decode cL_law 593 = .ok (.aload_n 2, 1) := by decide +kernel
theorem dL_law_594 : decode cL_law 594 = .ok (.aload_n 0, 1) := by decide +kernel
theorem dL_law_595 : decode cL_law 595 = .ok (.iload_n 3, 1) := by decide +kernel
theorem dL_law_596 : decode cL_law 596 = .ok (.iconst 1, 1) := by decide +kernel
theorem dL_law_597 : decode cL_law 597 = .ok (.iadd, 1) := by decide +kernel
theorem dL_law_598 : decode cL_law 598 = .ok (.iaload, 1) := by decide +kernel
theorem dL_law_599 : decode cL_law 599 = .ok (.aload_n 0, 1) := by decide +kernel
theorem dL_law_600 : decode cL_law 600 = .ok (.iload_n 3, 1) := by decide +kernel
theorem dL_law_601 : decode cL_law 601 = .ok (.iconst 2, 1) := by decide +kernel
theorem dL_law_602 : decode cL_law 602 = .ok (.iadd, 1) := by decide +kernel
theorem dL_law_603 : decode cL_law 603 = .ok (.iaload, 1) := by decide +kernel
theorem dL_law_604 : decode cL_law 604 = .ok (.invokevirtual 88, 3) := by decide +kernel
theorem dL_law_607 : decode cL_law 607 = .ok (.if_icmp .eq 18, 3) := by decide +kernel
theorem dL_law_610 : decode cL_law 610 = .ok (.iconst 0, 1) := by decide +kernel
theorem dL_law_611 : decode cL_law 611 = .ok (.ireturn, 1) := by decide +kernel
theorem dL_law_612 : decode cL_law 612 = .ok (.aload_n 1, 1) := by decide +kernel
theorem dL_law_613 : decode cL_law 613 = .ok (.invokevirtual 89, 3) := by decide +kernel
theorem dL_law_616 : decode cL_law 616 = .ok (.aload_n 2, 1) := by decide +kernel
theorem dL_law_617 : decode cL_law 617 = .ok (.invokevirtual 92, 3) := by decide +kernel
theorem dL_law_620 : decode cL_law 620 = .ok (.if_icmp .eq 5, 3) := by decide +kernel
theorem dL_law_623 : decode cL_law 623 = .ok (.iconst 0, 1) := by decide +kernel
theorem dL_law_624 : decode cL_law 624 = .ok (.ireturn, 1) := by decide +kernel
theorem dL_law_625 : decode cL_law 625 = .ok (.iinc 3 4, 3) := by decide +kernel
theorem dL_law_628 : decode cL_law 628 = .ok (.goto (-580), 3) := by decide +kernel
theorem dL_law_631 : decode cL_law 631 = .ok (.iconst 1, 1) := by decide +kernel
theorem dL_law_632 : decode cL_law 632 = .ok (.ireturn, 1) := by decide +kernel
end
section
/-! plain facts. Of kit/laws: the family 'how many places have a property' (COUNTS), s_l and wb_tb .. wb_bit (BITS); the rest is mine -/
/-! ===== how many places have a property ===== -/
def fb_ct (p : Nat → Bool) : Nat → Nat
  | 0 => 0
  | n + 1 => fb_ct p n + (if p n then 1 else 0)
theorem fb_ct_succ (p : Nat → Bool) (n : Nat) : fb_ct p (n + 1) = fb_ct p n + (if p n then 1 else 0) := rfl
theorem fb_ct_le (p : Nat → Bool) : ∀ n, fb_ct p n ≤ n
  | 0 => Nat.le_refl _
  | n + 1 => by
    have h := fb_ct_le p n
    rw [fb_ct_succ]
    split <;> omega
theorem fb_ct_step (p : Nat → Bool) (m : Nat) : ∀ n, fb_ct p m ≤ fb_ct p (m + n)
  | 0 => Nat.le_refl _
  | n + 1 => by
    have h := fb_ct_step p m n
    show fb_ct p m ≤ fb_ct p (m + n + 1)
    rw [fb_ct_succ]
    omega
theorem fb_ct_mono (p : Nat → Bool) {m n : Nat} (h : m ≤ n) : fb_ct p m ≤ fb_ct p n := by
  have := fb_ct_step p m (n - m)
  rwa [Nat.add_sub_cancel' h] at this
theorem fb_ct_cong {p q : Nat → Bool} : ∀ {n : Nat}, (∀ k, k < n → p k = q k) → fb_ct p n = fb_ct q n
  | 0, _ => rfl
  | n + 1, h => by
    rw [fb_ct_succ, fb_ct_succ, fb_ct_cong (fun k hk => h k (by omega)), h n (by omega)]
/-- one place changed -/
theorem fb_ct_out (p : Nat → Bool) (b : Bool) {i n : Nat} (h : n ≤ i) : fb_ct (fun k => if k = i then b else p k) n = fb_ct p n :=
  fb_ct_cong fun k hk => if_neg (by omega)
theorem fb_ct_upd (p : Nat → Bool) (b : Bool) {i : Nat} : ∀ {n : Nat}, i < n → fb_ct (fun k => if k = i then b else p k) n + (if p i then 1 else 0) = fb_ct p n + (if b then 1 else 0)
  | 0, h => absurd h (Nat.not_lt_zero i)
  | n + 1, h => by
    rw [fb_ct_succ, fb_ct_succ]
    rcases Nat.lt_or_ge i n with q | q
    · have := fb_ct_upd p b q
      have e : (if n = i then b else p n) = p n := if_neg (by omega)
      rw [e]
      omega
    · have e : i = n := by omega
      subst e
      rw [fb_ct_out p b (Nat.le_refl _)]
      simp only [if_true]
      omega
theorem fb_ct_sub {p q : Nat → Bool} : ∀ {n : Nat}, (∀ k, k < n → p k = true → q k = true) → fb_ct p n ≤ fb_ct q n
  | 0, _ => Nat.le_refl _
  | n + 1, h => by
    have h1 := fb_ct_sub (n := n) (p := p) (q := q) (fun k hk => h k (by omega))
    have h2 := h n (by omega)
    rw [fb_ct_succ, fb_ct_succ]
    cases hp : p n <;> cases hq : q n <;> simp_all <;> omega
theorem fb_ct_or {p q : Nat → Bool} : ∀ {n : Nat}, (∀ k, k < n → ¬ (p k = true ∧ q k = true)) → fb_ct (fun k => p k || q k) n = fb_ct p n + fb_ct q n
  | 0, _ => rfl
  | n + 1, h => by
    have h1 := fb_ct_or (n := n) (p := p) (q := q) (fun k hk => h k (by omega))
    have h2 := h n (by omega)
    rw [fb_ct_succ, fb_ct_succ, fb_ct_succ, h1]
    cases hp : p n <;> cases hq : q n <;> simp_all <;> omega
theorem fb_ct_not (p : Nat → Bool) : ∀ n, fb_ct p n + fb_ct (fun k => !p k) n = n
  | 0 => rfl
  | n + 1 => by
    have h := fb_ct_not p n
    rw [fb_ct_succ, fb_ct_succ]
    cases p n <;> simp <;> omega
theorem fb_ct_split (p : Nat → Bool) (m : Nat) : ∀ n, fb_ct p (m + n) = fb_ct p m + fb_ct (fun k => p (m + k)) n
  | 0 => rfl
  | n + 1 => by
    have h := fb_ct_split p m n
    show fb_ct p (m + n + 1) = _
    rw [fb_ct_succ, fb_ct_succ, h, Nat.add_assoc]
theorem fb_ct_zero {p : Nat → Bool} : ∀ {n : Nat}, fb_ct p n = 0 ↔ ∀ k, k < n → p k = false
  | 0 => ⟨fun _ k hk => absurd hk (Nat.not_lt_zero k), fun _ => rfl⟩
  | n + 1 => by
    have h := fb_ct_zero (p := p) (n := n)
    rw [fb_ct_succ]
    constructor
    · intro e k hk
      have e1 : fb_ct p n = 0 := by omega
      rcases Nat.lt_or_ge k n with q | q
      · exact h.mp e1 k q
      · have ek : k = n := by omega
        subst ek
        cases hp : p k
        · rfl
        · simp [hp] at e
    · intro a
      rw [h.mpr (fun k hk => a k (by omega)), a n (by omega)]
      rfl
theorem fb_ct_pos {p : Nat → Bool} {n : Nat} : 0 < fb_ct p n ↔ ∃ k, k < n ∧ p k = true := by
  constructor
  · intro h
    refine Classical.byContradiction fun hx => ?_
    have := fb_ct_zero.mpr (fun k hk => by
      cases hp : p k
      · rfl
      · exact absurd ⟨k, hk, hp⟩ hx : ∀ k, k < n → p k = false)
    omega
  · rintro ⟨k, hk, hp⟩
    rcases Nat.eq_zero_or_pos (fb_ct p n) with e | e
    · have := fb_ct_zero.mp e k hk
      rw [this] at hp
      cases hp
    · exact e
theorem fb_ct_all {p : Nat → Bool} {n : Nat} : fb_ct p n = n ↔ ∀ k, k < n → p k = true := by
  have h := fb_ct_not p n
  constructor
  · intro e k hk
    have z : fb_ct (fun k => !p k) n = 0 := by omega
    have := fb_ct_zero.mp z k hk
    cases hp : p k
    · simp [hp] at this
    · rfl
  · intro a
    have z : fb_ct (fun k => !p k) n = 0 := fb_ct_zero.mpr (fun k hk => by simp [a k hk])
    omega
/-- the k-th place with the property -/
theorem fb_ct_kth {p : Nat → Bool} {k : Nat} : ∀ {n : Nat}, k < fb_ct p n → ∃ i, i < n ∧ p i = true ∧ fb_ct p i = k
  | 0, h => absurd h (Nat.not_lt_zero k)
  | n + 1, h => by
    rcases Nat.lt_or_ge k (fb_ct p n) with q | q
    · obtain ⟨i, h1, h2⟩ := fb_ct_kth q
      exact ⟨i, by omega, h2⟩
    · rw [fb_ct_succ] at h
      cases hp : p n
      · simp [hp] at h; omega
      · simp [hp] at h
        exact ⟨n, by omega, hp, by omega⟩
theorem fb_ct_kth_one {p : Nat → Bool} {i j : Nat} (hi : p i = true) (hj : p j = true) (e : fb_ct p i = fb_ct p j) : i = j := by
  have key : ∀ a b : Nat, a < b → p a = true → fb_ct p a < fb_ct p b := by
    intro a b hab ha
    have h := fb_ct_mono p (show a + 1 ≤ b from hab)
    rw [fb_ct_succ, ha] at h
    simp at h
    omega
  rcases Nat.lt_trichotomy i j with q | q | q
  · have := key i j q hi; omega
  · exact q
  · have := key j i q hj; omega
theorem s_l : ∀ n, n < 32 → ((nI n &&& 31).toBitVec.smod 32).toNat = n := by decide +kernel
theorem wb_tb (n : Nat) : (lN n).toBitVec = BitVec.ofNat 64 n := rfl
theorem wb_inj {a b : Int64} (h : a.toBitVec = b.toBitVec) : a = b := Int64.toBitVec_inj.mp h
theorem wb_tn {n : Nat} (h : n < 2 ^ 64) : (lN n).toBitVec.toNat = n := by rw [wb_tb, BitVec.toNat_ofNat, Nat.mod_eq_of_lt h]
theorem wb_of (x : Int64) : ∃ n, n < 2 ^ 64 ∧ x = lN n := ⟨x.toBitVec.toNat, x.toBitVec.isLt, wb_inj (by rw [wb_tb]; simp)⟩
theorem wb_of32 (x : Int32) : ∃ n, n < 2 ^ 32 ∧ x = nI n := ⟨x.toBitVec.toNat, x.toBitVec.isLt, Int32.toBitVec_inj.mp (by show _ = BitVec.ofNat 32 _; simp)⟩
theorem wb_c : ∀ k, k < 64 → ((nI k).toInt64 &&& 63) = lN k := by decide +kernel
theorem wb_cu : ∀ k, k < 64 → ((nI k).toInt64.toUInt64 &&& Int64.toUInt64 63) = UInt64.ofNat k := by decide +kernel
theorem wb_sm : ∀ k, k < 64 → (BitVec.ofNat 64 k).smod 64 = BitVec.ofNat 64 k := by decide +kernel
theorem wb_pw {a b : Nat} (h : a ≤ b) : 2 ^ b = 2 ^ a * 2 ^ (b - a) := by rw [← Nat.pow_add]; congr 1; omega
theorem wb_lt2 {a b : Nat} (h : a < b) : 2 ^ a < 2 ^ b := Nat.pow_lt_pow_right (by decide) h
theorem wb_mod (n : Nat) : lN n = lN (n % 2 ^ 64) := wb_inj (by rw [wb_tb, wb_tb]; apply BitVec.eq_of_toNat_eq; rw [BitVec.toNat_ofNat, BitVec.toNat_ofNat, Nat.mod_mod])
theorem wb_shr {n k : Nat} (hn : n < 2 ^ 64) (hk : k < 64) : ((lN n).toUInt64 >>> ((nI k).toInt64.toUInt64 &&& Int64.toUInt64 63)).toInt64 = lN (n / 2 ^ k) := by
  rw [wb_cu k hk]
  apply wb_inj
  apply BitVec.eq_of_toNat_eq
  show ((lN n).toUInt64 >>> UInt64.ofNat k).toNat = (BitVec.ofNat 64 _).toNat
  have h1 : (UInt64.ofNat k).toNat = k := by
    show (BitVec.ofNat 64 k).toNat = k
    rw [BitVec.toNat_ofNat, Nat.mod_eq_of_lt (by omega)]
  have h2 : (lN n).toUInt64.toNat = n := wb_tn hn
  rw [UInt64.toNat_shiftRight, h1, h2, Nat.mod_eq_of_lt hk, Nat.shiftRight_eq_div_pow, BitVec.toNat_ofNat, Nat.mod_eq_of_lt (Nat.lt_of_le_of_lt (Nat.div_le_self _ _) hn)]
theorem wb_shl (n : Nat) {k : Nat} (hk : k < 64) : lN n <<< ((nI k).toInt64 &&& 63) = lN (n * 2 ^ k) := by
  rw [wb_c k hk]
  apply wb_inj
  rw [Int64.toBitVec_shiftLeft, wb_tb, wb_tb, wb_tb, wb_sm k hk]
  apply BitVec.eq_of_toNat_eq
  rw [BitVec.shiftLeft_eq', BitVec.toNat_shiftLeft, BitVec.toNat_ofNat, BitVec.toNat_ofNat, BitVec.toNat_ofNat, Nat.mod_eq_of_lt (show k < 2 ^ 64 by omega), Nat.shiftLeft_eq, Nat.mul_mod, Nat.mod_mod, ← Nat.mul_mod]
theorem wb_and {a b : Nat} (ha : a < 2 ^ 64) (hb : b < 2 ^ 64) : lN a &&& lN b = lN (a &&& b) := by
  apply wb_inj
  rw [Int64.toBitVec_and, wb_tb, wb_tb, wb_tb]
  apply BitVec.eq_of_toNat_eq
  rw [BitVec.toNat_and, BitVec.toNat_ofNat, BitVec.toNat_ofNat, BitVec.toNat_ofNat, Nat.mod_eq_of_lt ha, Nat.mod_eq_of_lt hb, Nat.mod_eq_of_lt (Nat.and_lt_two_pow _ hb)]
theorem wb_or {a b : Nat} (ha : a < 2 ^ 64) (hb : b < 2 ^ 64) : lN a ||| lN b = lN (a ||| b) := by
  apply wb_inj
  rw [Int64.toBitVec_or, wb_tb, wb_tb, wb_tb]
  apply BitVec.eq_of_toNat_eq
  rw [BitVec.toNat_or, BitVec.toNat_ofNat, BitVec.toNat_ofNat, BitVec.toNat_ofNat, Nat.mod_eq_of_lt ha, Nat.mod_eq_of_lt hb, Nat.mod_eq_of_lt (Nat.or_lt_two_pow ha hb)]
theorem wb_mask {n k : Nat} (hn : n < 2 ^ 64) (hk : k < 64) : lN n &&& lN (2 ^ k - 1) = lN (n % 2 ^ k) := by
  rw [wb_and hn (by have := wb_lt2 hk; omega), Nat.and_two_pow_sub_one_eq_mod]
theorem wb_a1 {n : Nat} (hn : n < 2 ^ 64) : lN n &&& 1 = lN (n % 2) := wb_mask (k := 1) hn (by decide)
theorem wb_bit {n k : Nat} (hn : n < 2 ^ 64) (hk : k < 64) : ((lN n).toUInt64 >>> ((nI k).toInt64.toUInt64 &&& Int64.toUInt64 63)).toInt64 &&& 1 = lN (n / 2 ^ k % 2) := by
  rw [wb_shr hn hk, wb_a1 (Nat.lt_of_le_of_lt (Nat.div_le_self _ _) hn)]
theorem i_lt (a b : Int32) : a < b ↔ a.toInt < b.toInt := Int32.lt_iff_toInt_lt
theorem i_le (a b : Int32) : a ≤ b ↔ a.toInt ≤ b.toInt := Int32.le_iff_toInt_le
theorem i_0 : (0 : Int32).toInt = 0 := rfl
theorem i_nlt {a b : Int32} (h : ¬ a < b) : b ≤ a := by
  rw [i_lt] at h
  rw [i_le]
  omega
theorem i_nle {a b : Int32} (h : ¬ a ≤ b) : b < a := by
  rw [i_le] at h
  rw [i_lt]
  omega
/-- a boolean as the machine has it -/
def bI (b : Bool) : Int32 := if b then 1 else 0
theorem bI_t : bI true = nI 1 := rfl
theorem bI_f : bI false = nI 0 := rfl
theorem bI_nar (b : Bool) : vp_nar .boolean (bI b) = bI b := by cases b <;> rfl
theorem bI_0 {b : Bool} : bI b = 0 ↔ b = false := by cases b <;> decide
theorem bI_n0 {b : Bool} : ¬ bI b = 0 ↔ b = true := by cases b <;> decide
/-- a number within 0 .. N - 1, or something else -/
def onN {α : Type} (N : Nat) (p : Int32) (f : Nat → α) (b : α) : α := if 0 ≤ p ∧ p < nI N then f p.toNatClampNeg else b
theorem onN_ok {α : Type} {N P : Nat} (hP : P < N) (hN : N < 2 ^ 31) (f : Nat → α) (b : α) : onN N (nI P) f b = f P := by
  have h1 : P < 2 ^ 31 := Nat.lt_trans hP hN
  unfold onN
  rw [if_pos ⟨nI_pos' h1, nI_lt hP hN⟩, nI_clamp h1]
theorem onN_bad {α : Type} {N : Nat} {p : Int32} (hN : N < 2 ^ 31) (h : ∀ P, P < N → p ≠ nI P) (f : Nat → α) (b : α) : onN N p f b = b := by
  unfold onN
  refine if_neg ?_
  intro ⟨h1, h2⟩
  rcases pk_ix p hN with q | q | ⟨j, hj, e⟩
  · rw [i_lt] at q
    rw [i_le] at h1
    omega
  · rw [i_le] at q
    rw [i_lt] at h2
    omega
  · exact h j hj e
theorem in_le {p : Int32} {n : Nat} (hn : n + 1 < 2 ^ 31) (h1 : ¬ p < 0) (h2 : ¬ nI n < p) : ∃ P, P < n + 1 ∧ p = nI P := by
  rcases pk_ix p hn with q | q | ⟨j, hj, e⟩
  · exact absurd q h1
  · exact absurd (by
      rw [i_le, nI_toInt hn] at q
      rw [i_lt, nI_toInt (by omega)]
      omega) h2
  · exact ⟨j, hj, e⟩
theorem in_lt {p : Int32} {n : Nat} (hn : n < 2 ^ 31) (h1 : ¬ p < 0) (h2 : ¬ nI n ≤ p) : ∃ P, P < n ∧ p = nI P := by
  rcases pk_ix p hn with q | q | ⟨j, hj, e⟩
  · exact absurd q h1
  · exact absurd q h2
  · exact ⟨j, hj, e⟩
theorem out_neg {p : Int32} {n : Nat} (hn : n < 2 ^ 31) (h : p < 0) : ∀ P, P < n → p ≠ nI P := by
  intro P hP e
  subst e
  exact nI_pos (by omega) h
theorem out_gt {p : Int32} {n : Nat} (hn : n + 1 < 2 ^ 31) (h : nI n < p) : ∀ P, P < n + 1 → p ≠ nI P := by
  intro P hP e
  subst e
  exact nI_nlt (by omega) (by omega) h
theorem out_ge {p : Int32} {n : Nat} (hn : n < 2 ^ 31) (h : nI n ≤ p) : ∀ P, P < n → p ≠ nI P := by
  intro P hP e
  subst e
  exact nI_ge hP hn h
theorem nI_inj {a b : Nat} (ha : a < 2 ^ 31) (hb : b < 2 ^ 31) (h : nI a = nI b) : a = b := (nI_eq ha hb).mp h
theorem ct_lt {f : Nat → Bool} {i n : Nat} (h : f i = true) (hi : i < n) : fb_ct f i < fb_ct f n := by
  have := fb_ct_mono f (show i + 1 ≤ n from hi)
  rw [fb_ct_succ, if_pos h] at this
  omega
theorem ct_y {f : Nat → Bool} {n : Nat} (h : f n = true) : fb_ct f (n + 1) = fb_ct f n + 1 := by rw [fb_ct_succ, if_pos h]
theorem ct_n {f : Nat → Bool} {n : Nat} (h : f n = false) : fb_ct f (n + 1) = fb_ct f n := by rw [fb_ct_succ, h]; rfl
/-- one place set -/
def s1 (f : Nat → Bool) (I : Nat) (b : Bool) : Nat → Bool := fun k => if k = I then b else f k
theorem s1_on {f : Nat → Bool} {I n : Nat} (h : f I = false) (hI : I < n) : fb_ct (s1 f I true) n = fb_ct f n + 1 := by
  have := fb_ct_upd f true hI
  rw [h] at this
  exact this
theorem s1_off {f : Nat → Bool} {I n : Nat} (h : f I = true) (hI : I < n) : fb_ct (s1 f I false) n + 1 = fb_ct f n := by
  have := fb_ct_upd f false hI
  rw [h] at this
  exact this
theorem s1_out {f : Nat → Bool} {I n : Nat} {b : Bool} (h : n ≤ I) : fb_ct (s1 f I b) n = fb_ct f n := fb_ct_out f b h
theorem upd_at (f : Nat → Int32) (k : Nat) (x : Int32) : upd f k x k = x := pk_us
theorem upd_no {f : Nat → Int32} {k j : Nat} {x : Int32} (h : j ≠ k) : upd f k x j = f j := pk_un h
end
section
/-! the value that both sides hold: for each party a set of items below 64, a weight for each, and what was sent last -/
abbrev AS : Type := (Nat → Nat → Bool) × (Nat → Nat → Int32) × Int32
def sS (S : Nat → Nat → Bool) (P I : Nat) (b : Bool) : Nat → Nat → Bool := fun k => if k = P then s1 (S P) I b else S k
def sW (w : Nat → Nat → Int32) (P I : Nat) (v : Int32) : Nat → Nat → Int32 := fun k i => if k = P ∧ i = I then v else w k i
theorem sS_at (S : Nat → Nat → Bool) (P I : Nat) (b : Bool) : sS S P I b P = s1 (S P) I b := if_pos rfl
theorem sS_no (S : Nat → Nat → Bool) {P k : Nat} (I : Nat) (b : Bool) (h : k ≠ P) : sS S P I b k = S k := if_neg h
theorem s1_at (f : Nat → Bool) (I : Nat) (b : Bool) : s1 f I b I = b := if_pos rfl
theorem s1_no (f : Nat → Bool) {I i : Nat} (b : Bool) (h : i ≠ I) : s1 f I b i = f i := if_neg h
/-- the sorted lists of a PrivateIntersect hold the sets -/
def XI (S : Nat → Nat → Bool) (w : Nat → Nat → Int32) (its wts szs : Nat → Int32) : Prop := ∀ P, P < 3 → szs P = nI (fb_ct (S P) 64) ∧ fb_ct (S P) 64 ≤ 16 ∧ ∀ i, i < 64 → S P i = true → its (16 * P + fb_ct (S P) i) = nI i ∧ wts (16 * P + fb_ct (S P) i) = w P i
def EI (exs : Nat → Int32) : Prop := ∀ P, P < 3 → ∃ e, 1 ≤ e ∧ e ≤ 1018 ∧ exs P = nI e
/-- the tables of a PrivateIntersectModel hold the sets -/
def MI (S : Nat → Nat → Bool) (w : Nat → Nat → Int32) (has wgt : Nat → Int32) : Prop := ∀ P, P < 3 → ∀ i, i < 64 → has (64 * P + i) = bI (S P i) ∧ (S P i = true → wgt (64 * P + i) = w P i)
theorem XI_cong {S S' : Nat → Nat → Bool} {w w' : Nat → Nat → Int32} {its wts szs : Nat → Int32} (h : XI S w its wts szs) (hS : ∀ P, P < 3 → ∀ i, i < 64 → S P i = S' P i) (hw : ∀ P, P < 3 → ∀ i, i < 64 → S P i = true → w P i = w' P i) : XI S' w' its wts szs := by
  intro P hP
  have h64 : ∀ n, n ≤ 64 → fb_ct (S' P) n = fb_ct (S P) n := fun n hn => fb_ct_cong fun k hk => (hS P hP k (by omega)).symm
  obtain ⟨h1, h2, h3⟩ := h P hP
  rw [h64 64 (Nat.le_refl _)]
  refine ⟨h1, h2, fun i hi hs => ?_⟩
  rw [← hS P hP i hi] at hs
  rw [h64 i (by omega), ← hw P hP i hi hs]
  exact h3 i hi hs
/-- entries b + k .. b + n moved up by one -/
def shf (f : Nat → Int32) (b k n : Nat) : Nat → Int32 := fun j => if b + k < j ∧ j ≤ b + n then f (j - 1) else f j
theorem shf_0 (f : Nat → Int32) (b n : Nat) : shf f b n n = f := funext fun j => if_neg (by omega)
theorem shf_lo {f : Nat → Int32} {b k n j : Nat} (h : j ≤ b + k) : shf f b k n j = f j := if_neg (by omega)
theorem shf_step (f : Nat → Int32) {b k n : Nat} (hk : 0 < k) (hn : k ≤ n) : upd (shf f b k n) (b + k) (f (b + k - 1)) = shf f b (k - 1) n := by
  funext j
  by_cases e : j = b + k
  · rw [e, upd_at]
    exact (if_pos (by omega)).symm
  · rw [upd_no e]
    by_cases q : b + k < j ∧ j ≤ b + n
    · have q2 : b + (k - 1) < j ∧ j ≤ b + n := by omega
      unfold shf
      rw [if_pos q, if_pos q2]
    · have q2 : ¬ (b + (k - 1) < j ∧ j ≤ b + n) := by omega
      unfold shf
      rw [if_neg q, if_neg q2]
theorem XI_ins {S : Nat → Nat → Bool} {w : Nat → Nat → Int32} {its wts szs : Nat → Int32} {P I : Nat} (v : Int32) (h : XI S w its wts szs) (hP : P < 3) (hI : I < 64) (hf : S P I = false) (hn : fb_ct (S P) 64 < 16) :
    XI (sS S P I true) (sW w P I v) (upd (shf its (16 * P) (fb_ct (S P) I) (fb_ct (S P) 64)) (16 * P + fb_ct (S P) I) (nI I)) (upd (shf wts (16 * P) (fb_ct (S P) I) (fb_ct (S P) 64)) (16 * P + fb_ct (S P) I) v) (upd szs P (nI (fb_ct (S P) 64 + 1))) := by
  have hk : fb_ct (S P) I ≤ fb_ct (S P) 64 := fb_ct_mono _ (by omega)
  intro k hk3
  by_cases e : k = P
  · subst e
    obtain ⟨h1, h2, h3⟩ := h k hk3
    rw [sS_at, upd_at, s1_on hf hI]
    refine ⟨rfl, by omega, fun i hi hs => ?_⟩
    by_cases e2 : i = I
    · subst e2
      rw [s1_out (Nat.le_refl _), upd_at, upd_at]
      exact ⟨rfl, (if_pos ⟨rfl, rfl⟩).symm⟩
    · rw [s1_no _ _ e2] at hs
      have hw : sW w k I v k i = w k i := if_neg (fun q => e2 q.2)
      have hlt := ct_lt hs hi
      rw [hw]
      rcases Nat.lt_or_ge i I with q | q
      · have q2 := ct_lt hs q
        rw [s1_out (by omega), upd_no (by omega), upd_no (by omega), shf_lo (by omega), shf_lo (by omega)]
        exact h3 i hi hs
      · have q2 := fb_ct_mono (S k) q
        rw [s1_on hf (by omega), upd_no (by omega), upd_no (by omega)]
        have a1 : ∀ f : Nat → Int32, shf f (16 * k) (fb_ct (S k) I) (fb_ct (S k) 64) (16 * k + (fb_ct (S k) i + 1)) = f (16 * k + fb_ct (S k) i) := fun f => by
          unfold shf
          rw [if_pos (by omega)]
          rfl
        rw [a1, a1]
        exact h3 i hi hs
  · obtain ⟨h1, h2, h3⟩ := h k hk3
    rw [sS_no _ _ _ e, upd_no e]
    refine ⟨h1, h2, fun i hi hs => ?_⟩
    have hw : sW w P I v k i = w k i := if_neg (fun q => e q.1)
    have hlt := ct_lt hs hi
    have a1 : ∀ f : Nat → Int32, shf f (16 * P) (fb_ct (S P) I) (fb_ct (S P) 64) (16 * k + fb_ct (S k) i) = f (16 * k + fb_ct (S k) i) := fun f => if_neg (by omega)
    rw [hw, upd_no (by omega), upd_no (by omega), a1, a1]
    exact h3 i hi hs
/-- entries behind lo moved down by one, up to m -/
def dlf (f : Nat → Int32) (lo m : Nat) : Nat → Int32 := fun j => if lo ≤ j ∧ j + 1 < m then f (j + 1) else f j
theorem dlf_0 (f : Nat → Int32) (lo : Nat) : dlf f lo (lo + 1) = f := funext fun j => if_neg (by omega)
theorem dlf_hi {f : Nat → Int32} {lo m j : Nat} (h : m ≤ j + 1) : dlf f lo m j = f j := if_neg (by omega)
theorem dlf_step (f : Nat → Int32) {lo m : Nat} (h : lo < m) : upd (dlf f lo m) (m - 1) (f m) = dlf f lo (m + 1) := by
  funext j
  by_cases e : j = m - 1
  · rw [e, upd_at]
    unfold dlf
    rw [if_pos (by omega), show m - 1 + 1 = m by omega]
  · rw [upd_no e]
    by_cases q : lo ≤ j ∧ j + 1 < m
    · have q2 : lo ≤ j ∧ j + 1 < m + 1 := by omega
      unfold dlf
      rw [if_pos q, if_pos q2]
    · have q2 : ¬ (lo ≤ j ∧ j + 1 < m + 1) := by omega
      unfold dlf
      rw [if_neg q, if_neg q2]
theorem XI_del {S : Nat → Nat → Bool} {w : Nat → Nat → Int32} {its wts szs : Nat → Int32} {P I : Nat} (h : XI S w its wts szs) (hP : P < 3) (hI : I < 64) (hf : S P I = true) :
    XI (sS S P I false) w (dlf its (16 * P + fb_ct (S P) I) (16 * P + fb_ct (S P) 64)) (dlf wts (16 * P + fb_ct (S P) I) (16 * P + fb_ct (S P) 64)) (upd szs P (nI (fb_ct (S P) 64 - 1))) := by
  have hk := ct_lt hf hI
  intro k hk3
  obtain ⟨h1, h2, h3⟩ := h k hk3
  by_cases e : k = P
  · subst e
    have h64 := s1_off hf hI
    rw [sS_at, upd_at]
    refine ⟨by rw [show fb_ct (S k) 64 - 1 = fb_ct (s1 (S k) I false) 64 by omega], by omega, fun i hi hs => ?_⟩
    have e2 : i ≠ I := by
      intro q
      rw [q, s1_at] at hs
      cases hs
    rw [s1_no _ _ e2] at hs
    have hlt := ct_lt hs hi
    rcases Nat.lt_or_ge i I with q | q
    · have q2 := ct_lt hs q
      have a1 : ∀ f : Nat → Int32, dlf f (16 * k + fb_ct (S k) I) (16 * k + fb_ct (S k) 64) (16 * k + fb_ct (S k) i) = f (16 * k + fb_ct (S k) i) := fun f => if_neg (by omega)
      rw [s1_out (by omega), a1, a1]
      exact h3 i hi hs
    · have q2 := ct_lt hf (show I < i by omega)
      have q3 := s1_off hf (show I < i by omega)
      have a1 : ∀ f : Nat → Int32, dlf f (16 * k + fb_ct (S k) I) (16 * k + fb_ct (S k) 64) (16 * k + fb_ct (s1 (S k) I false) i) = f (16 * k + fb_ct (S k) i) := fun f => by
        unfold dlf
        rw [if_pos (by omega), show 16 * k + fb_ct (s1 (S k) I false) i + 1 = 16 * k + fb_ct (S k) i by omega]
      rw [a1, a1]
      exact h3 i hi hs
  · rw [sS_no _ _ _ e, upd_no e]
    refine ⟨h1, h2, fun i hi hs => ?_⟩
    have hlt := ct_lt hs hi
    have hP2 := (h P hP).2.1
    have a1 : ∀ f : Nat → Int32, dlf f (16 * P + fb_ct (S P) I) (16 * P + fb_ct (S P) 64) (16 * k + fb_ct (S k) i) = f (16 * k + fb_ct (S k) i) := fun f => if_neg (by omega)
    rw [a1, a1]
    exact h3 i hi hs
def sC (S : Nat → Nat → Bool) (P : Nat) : Nat → Nat → Bool := fun k => if k = P then fun _ => false else S k
theorem ct_f : ∀ n, fb_ct (fun _ => false) n = 0
  | 0 => rfl
  | n + 1 => by rw [fb_ct_succ, ct_f n]; rfl
theorem XI_clr {S : Nat → Nat → Bool} {w : Nat → Nat → Int32} {its wts szs : Nat → Int32} {P : Nat} (h : XI S w its wts szs) : XI (sC S P) w its wts (upd szs P (nI 0)) := by
  intro k hk3
  by_cases e : k = P
  · subst e
    have hs : sC S k k = fun _ => false := if_pos rfl
    rw [hs, upd_at, ct_f]
    exact ⟨rfl, by omega, fun i _ q => by cases q⟩
  · have hs : sC S P k = S k := if_neg e
    rw [hs, upd_no e]
    exact h k hk3
theorem XI_0 (w : Nat → Nat → Int32) (its wts : Nat → Int32) : XI (fun _ _ => false) w its wts (fun _ => 0) := by
  intro k _
  show _ ∧ _
  rw [ct_f]
  exact ⟨rfl, by omega, fun i _ q => by cases q⟩
theorem MI_0 (w : Nat → Nat → Int32) (wgt : Nat → Int32) : MI (fun _ _ => false) w (fun _ => 0) wgt := fun _ _ _ _ => ⟨rfl, fun q => by cases q⟩
theorem EI_upd {exs : Nat → Int32} {P e : Nat} (h : EI exs) (h1 : 1 ≤ e) (h2 : e ≤ 1018) : EI (upd exs P (nI e)) := by
  intro k hk
  by_cases q : k = P
  · subst q
    exact ⟨e, h1, h2, upd_at _ _ _⟩
  · rw [upd_no q]
    exact h k hk
theorem MI_on {S : Nat → Nat → Bool} {w : Nat → Nat → Int32} {has wgt : Nat → Int32} {P I : Nat} (v : Int32) (h : MI S w has wgt) (hI : I < 64) : MI (sS S P I true) (sW w P I v) (upd has (64 * P + I) (bI true)) (upd wgt (64 * P + I) v) := by
  intro k hk i hi
  by_cases e : k = P
  · subst e
    rw [sS_at]
    by_cases e2 : i = I
    · subst e2
      rw [s1_at, upd_at, upd_at]
      exact ⟨rfl, fun _ => (if_pos ⟨rfl, rfl⟩).symm⟩
    · rw [s1_no _ _ e2, upd_no (by omega), upd_no (by omega)]
      have hw : sW w k I v k i = w k i := if_neg (fun q => e2 q.2)
      rw [hw]
      exact h k hk i hi
  · have hw : sW w P I v k i = w k i := if_neg (fun q => e q.1)
    rw [sS_no _ _ _ e, hw, upd_no (by omega), upd_no (by omega)]
    exact h k hk i hi
theorem MI_off {S : Nat → Nat → Bool} {w : Nat → Nat → Int32} {has wgt : Nat → Int32} {P I : Nat} (h : MI S w has wgt) (hI : I < 64) : MI (sS S P I false) w (upd has (64 * P + I) (bI false)) wgt := by
  intro k hk i hi
  by_cases e : k = P
  · subst e
    rw [sS_at]
    by_cases e2 : i = I
    · subst e2
      rw [s1_at, upd_at]
      exact ⟨rfl, fun q => by cases q⟩
    · rw [s1_no _ _ e2, upd_no (by omega)]
      exact h k hk i hi
  · rw [sS_no _ _ _ e, upd_no (by omega)]
    exact h k hk i hi
theorem MI_cong {S S' : Nat → Nat → Bool} {w w' : Nat → Nat → Int32} {has wgt : Nat → Int32} (h : MI S w has wgt) (hS : ∀ P, P < 3 → ∀ i, i < 64 → S P i = S' P i) (hw : ∀ P, P < 3 → ∀ i, i < 64 → S P i = true → w P i = w' P i) : MI S' w' has wgt := by
  intro P hP i hi
  obtain ⟨h1, h2⟩ := h P hP i hi
  rw [← hS P hP i hi]
  exact ⟨h1, fun q => by rw [h2 q, hw P hP i hi q]⟩
end
section
/-! squares modulo 2039, raised: different for different items -/
def gg (E i : Nat) : Nat := ((i + 1) ^ 2) ^ E % 2039
theorem gg_lt (E i : Nat) : gg E i < 2039 := Nat.mod_lt _ (by decide)
theorem gg_pow (E e i : Nat) : gg E i ^ e % 2039 = gg (E * e) i := by
  unfold gg
  rw [← Nat.pow_mod, ← Nat.pow_mul]
theorem gg_base (e i : Nat) : ((i + 1) * (i + 1) % 2039) ^ e % 2039 = gg e i := by
  unfold gg
  rw [← Nat.pow_mod, Nat.pow_two]
theorem gg_per : ∀ i, i < 64 → ((i + 1) ^ 2) ^ 1019 % 2039 = 1 := by decide +kernel
theorem gg_one : ∀ i, i < 64 → ∀ j, j < 64 → (i + 1) ^ 2 % 2039 = (j + 1) ^ 2 % 2039 → i = j := by decide +kernel
def gd (E : Nat) : Prop := E ^ 1018 % 1019 = 1
theorem gd_all : (List.range 1019).all (fun e => e == 0 || e ^ 1018 % 1019 == 1) = true := by decide +kernel
theorem gd_of {e : Nat} (h1 : 1 ≤ e) (h2 : e ≤ 1018) : gd e := by
  have h := List.all_eq_true.mp gd_all e (List.mem_range.mpr (by omega))
  have h3 : (e == 0) = false := by simp; omega
  rw [h3, Bool.false_or] at h
  exact eq_of_beq h
theorem gd_mul {a b : Nat} (ha : gd a) (hb : gd b) : gd (a * b) := by
  unfold gd at *
  rw [Nat.mul_pow, Nat.mul_mod, ha, hb]
theorem pow_back {x E : Nat} (hx : x ^ 1019 % 2039 = 1) (hE : gd E) : (x ^ E) ^ (E ^ 1017) % 2039 = x % 2039 := by
  have e1 : E * E ^ 1017 = E ^ 1018 := (Nat.pow_succ' (m := E) (n := 1017)).symm
  have e2 : E ^ 1018 = 1019 * (E ^ 1018 / 1019) + 1 := by
    have := Nat.div_add_mod (E ^ 1018) 1019
    rw [show E ^ 1018 % 1019 = 1 from hE] at this
    exact this.symm
  rw [← Nat.pow_mul, e1, e2]
  generalize E ^ 1018 / 1019 = t
  rw [Nat.pow_succ, Nat.pow_mul, Nat.mul_mod, Nat.pow_mod, hx, Nat.one_pow]
  rw [Nat.mod_eq_of_lt (show 1 < 2039 by decide), Nat.one_mul, Nat.mod_mod]
theorem gg_inj {E i j : Nat} (hE : gd E) (hi : i < 64) (hj : j < 64) (h : gg E i = gg E j) : i = j := by
  refine gg_one i hi j hj ?_
  have a := pow_back (gg_per i hi) hE
  have b := pow_back (gg_per j hj) hE
  rw [Nat.pow_mod] at a b
  have h' : ((i + 1) ^ 2) ^ E % 2039 = ((j + 1) ^ 2) ^ E % 2039 := h
  rw [← a, ← b, h']
/-- a party's list, shuffled: each entry is an item of the set, raised by E, with its place; each item is there -/
def Snt (f : Nat → Bool) (E b : Nat) (snt org : Nat → Int32) : Prop := (∀ j, j < fb_ct f 64 → ∃ i, i < 64 ∧ f i = true ∧ org (b + j) = nI (fb_ct f i) ∧ snt (b + j) = nI (gg E i)) ∧ ∀ i, i < 64 → f i = true → ∃ j, j < fb_ct f 64 ∧ org (b + j) = nI (fb_ct f i)
theorem Snt_cong {f : Nat → Bool} {E b : Nat} {snt org snt' org' : Nat → Int32} (h : Snt f E b snt org) (hs : ∀ j, j < fb_ct f 64 → snt' (b + j) = snt (b + j)) (ho : ∀ j, j < fb_ct f 64 → org' (b + j) = org (b + j)) : Snt f E b snt' org' := by
  refine ⟨fun j hj => ?_, fun i hi hf => ?_⟩
  · rw [hs j hj, ho j hj]
    exact h.1 j hj
  · obtain ⟨j, hj, e⟩ := h.2 i hi hf
    exact ⟨j, hj, by rw [ho j hj]; exact e⟩
/-- places x and y changed -/
def tau (x y j : Nat) : Nat := if j = y then x else if j = x then y else j
theorem tau_tau (x y j : Nat) : tau x y (tau x y j) = j := by
  unfold tau
  (repeat' split) <;> omega
theorem tau_lt {x y j n : Nat} (hx : x < n) (hy : y < n) (hj : j < n) : tau x y j < n := by
  unfold tau
  split
  · exact hx
  · split
    · exact hy
    · exact hj
theorem tau_upd (f : Nat → Int32) (b x y j : Nat) : upd (upd f (b + x) (f (b + y))) (b + y) (f (b + x)) (b + j) = f (b + tau x y j) := by
  unfold tau
  by_cases h : j = y
  · rw [if_pos h, h, upd_at]
  · rw [if_neg h, upd_no (by omega)]
    by_cases h2 : j = x
    · rw [if_pos h2, h2, upd_at]
    · rw [if_neg h2, upd_no (by omega)]
theorem Snt_swap {f : Nat → Bool} {E b x y : Nat} {snt org : Nat → Int32} (h : Snt f E b snt org) (hx : x < fb_ct f 64) (hy : y < fb_ct f 64) : Snt f E b (upd (upd snt (b + x) (snt (b + y))) (b + y) (snt (b + x))) (upd (upd org (b + x) (org (b + y))) (b + y) (org (b + x))) := by
  refine ⟨fun j hj => ?_, fun i hi hf => ?_⟩
  · rw [tau_upd, tau_upd]
    exact h.1 _ (tau_lt hx hy hj)
  · obtain ⟨j, hj, e⟩ := h.2 i hi hf
    refine ⟨tau x y j, tau_lt hx hy hj, ?_⟩
    rw [tau_upd, tau_tau]
    exact e
/-- a stretch b .. m - 1 raised by e -/
def rsd (snt : Nat → Int32) (e b m : Nat) : Nat → Int32 := fun j => if b ≤ j ∧ j < m then nI ((snt j).toNatClampNeg ^ e % 2039) else snt j
theorem rsd_0 (snt : Nat → Int32) (e b : Nat) : rsd snt e b b = snt := funext fun j => if_neg (by omega)
theorem rsd_hi {snt : Nat → Int32} {e b m j : Nat} (h : m ≤ j ∨ j < b) : rsd snt e b m j = snt j := if_neg (by omega)
theorem rsd_step (snt : Nat → Int32) {e b m : Nat} (h : b ≤ m) : upd (rsd snt e b m) m (nI ((snt m).toNatClampNeg ^ e % 2039)) = rsd snt e b (m + 1) := by
  funext j
  by_cases q : j = m
  · rw [q, upd_at]
    exact (if_pos (by omega)).symm
  · rw [upd_no q]
    by_cases q1 : b ≤ j ∧ j < m
    · have q2 : b ≤ j ∧ j < m + 1 := by omega
      unfold rsd
      rw [if_pos q1, if_pos q2]
    · have q2 : ¬ (b ≤ j ∧ j < m + 1) := by omega
      unfold rsd
      rw [if_neg q1, if_neg q2]
theorem Snt_rsd {f : Nat → Bool} {E e b : Nat} {snt org : Nat → Int32} (h : Snt f E b snt org) : Snt f (E * e) b (rsd snt e b (b + fb_ct f 64)) org := by
  refine ⟨fun j hj => ?_, h.2⟩
  obtain ⟨i, h1, h2, h3, h4⟩ := h.1 j hj
  refine ⟨i, h1, h2, h3, ?_⟩
  have : rsd snt e b (b + fb_ct f 64) (b + j) = nI ((snt (b + j)).toNatClampNeg ^ e % 2039) := if_pos (by omega)
  rw [this, h4, nI_clamp (Nat.lt_trans (gg_lt E i) (by decide)), gg_pow]
/-- a stretch b .. b + k - 1 filled -/
def fil (f g : Nat → Int32) (b k : Nat) : Nat → Int32 := fun j => if b ≤ j ∧ j < b + k then g (j - b) else f j
theorem fil_0 (f g : Nat → Int32) (b : Nat) : fil f g b 0 = f := funext fun j => if_neg (by omega)
theorem fil_out {f g : Nat → Int32} {b k j : Nat} (h : j < b ∨ b + k ≤ j) : fil f g b k j = f j := if_neg (by omega)
theorem fil_in {f g : Nat → Int32} {b k j : Nat} (h : j < k) : fil f g b k (b + j) = g j := by
  unfold fil
  rw [if_pos (by omega), Nat.add_sub_cancel_left]
theorem fil_step (f g : Nat → Int32) (b k : Nat) {x : Int32} (hx : g k = x) : upd (fil f g b k) (b + k) x = fil f g b (k + 1) := by
  subst hx
  funext j
  by_cases q : j = b + k
  · rw [q, upd_at, fil_in (by omega)]
  · rw [upd_no q]
    by_cases q1 : b ≤ j ∧ j < b + k
    · have q2 : b ≤ j ∧ j < b + (k + 1) := by omega
      unfold fil
      rw [if_pos q1, if_pos q2]
    · have q2 : ¬ (b ≤ j ∧ j < b + (k + 1)) := by omega
      unfold fil
      rw [if_neg q1, if_neg q2]
theorem Snt_fil {f : Nat → Bool} {e b : Nat} {its snt org : Nat → Int32} (h : ∀ i, i < 64 → f i = true → its (b + fb_ct f i) = nI i) : Snt f e b (fil snt (fun j => nI (gg e (its (b + j)).toNatClampNeg)) b (fb_ct f 64)) (fil org (fun j => nI j) b (fb_ct f 64)) := by
  refine ⟨fun j hj => ?_, fun i hi hf => ?_⟩
  · obtain ⟨i, h1, h2, h3⟩ := fb_ct_kth hj
    refine ⟨i, h1, h2, ?_, ?_⟩
    · rw [fil_in hj, h3]
    · rw [fil_in hj]
      show nI (gg e (its (b + j)).toNatClampNeg) = _
      rw [← h3, h i h1 h2, nI_clamp (by omega)]
  · exact ⟨fb_ct f i, ct_lt hf hi, fil_in (ct_lt hf hi)⟩
/-- of two raised lists, the other holds the value of an item just if its set holds the item -/
theorem Snt_mem {g : Nat → Bool} {E b i : Nat} {snt org : Nat → Int32} (h : Snt g E b snt org) (hE : gd E) (hi : i < 64) : (∃ j, j < fb_ct g 64 ∧ snt (b + j) = nI (gg E i)) ↔ g i = true := by
  constructor
  · rintro ⟨j, hj, e⟩
    obtain ⟨x, h1, h2, -, h4⟩ := h.1 j hj
    rw [h4] at e
    have := nI_inj (Nat.lt_trans (gg_lt E x) (by decide)) (Nat.lt_trans (gg_lt E i) (by decide)) e
    rw [← gg_inj hE h1 hi this]
    exact h2
  · intro hg
    obtain ⟨j, hj, e⟩ := h.2 i hi hg
    obtain ⟨x, h1, h2, h3, h4⟩ := h.1 j hj
    rw [h3] at e
    have l1 := fb_ct_le g x
    have l2 := fb_ct_le g i
    have := fb_ct_kth_one h2 hg (nI_inj (by omega) (by omega) e)
    rw [← this]
    exact ⟨j, hj, h4⟩
/-- the marks: place by place, whether g holds of the item there -/
def HitOk (f g : Nat → Bool) (hit : Nat → Int32) : Prop := ∀ i, i < 64 → f i = true → hit (fb_ct f i) = bI (g i)
/-- the marks of the entries below J are right -/
def HitTo (f g : Nat → Bool) (b J : Nat) (org hit : Nat → Int32) : Prop := ∀ j, j < J → ∀ i, i < 64 → f i = true → org (b + j) = nI (fb_ct f i) → hit (fb_ct f i) = bI (g i)
theorem HitTo_0 {f g : Nat → Bool} {b : Nat} {org hit : Nat → Int32} : HitTo f g b 0 org hit := fun j h => absurd h (Nat.not_lt_zero j)
theorem HitTo_ok {f g : Nat → Bool} {E b : Nat} {snt org hit : Nat → Int32} (h : HitTo f g b (fb_ct f 64) org hit) (hs : Snt f E b snt org) : HitOk f g hit := by
  intro i hi hf
  obtain ⟨j, hj, e⟩ := hs.2 i hi hf
  exact h j hj i hi hf e
theorem HitTo_step {f g : Nat → Bool} {b J x : Nat} {org hit : Nat → Int32} {v : Bool} (h : HitTo f g b J org hit) (hx : x < 64) (hf : f x = true) (ho : org (b + J) = nI (fb_ct f x)) (hv : v = g x) : HitTo f g b (J + 1) org (upd hit (fb_ct f x) (bI v)) := by
  intro j hj i hi hfi e
  by_cases q : fb_ct f i = fb_ct f x
  · have := fb_ct_kth_one hfi hf q
    subst this
    rw [upd_at, hv]
  · rw [upd_no q]
    rcases Nat.lt_or_ge j J with h1 | h1
    · exact h j h1 i hi hfi e
    · have : j = J := by omega
      subst this
      rw [ho] at e
      have l1 := fb_ct_le f x
      have l2 := fb_ct_le f i
      exact absurd (nI_inj (by omega) (by omega) e).symm q
def hb_ (hit : Nat → Int32) : Nat → Bool := fun k => decide (hit k ≠ 0)
theorem hit_ct {f g : Nat → Bool} {hit : Nat → Int32} (h : HitOk f g hit) : ∀ n, n ≤ 64 → fb_ct (hb_ hit) (fb_ct f n) = fb_ct (fun i => f i && g i) n
  | 0, _ => rfl
  | n + 1, hn => by
    have ih := hit_ct h n (by omega)
    cases hf : f n
    · rw [ct_n hf, ih, ct_n (by simp [hf])]
    · rw [ct_y hf, fb_ct_succ, fb_ct_succ, ih]
      have e := h n (by omega) hf
      have : hb_ hit (fb_ct f n) = (f n && g n) := by
        unfold hb_
        rw [e, hf, Bool.true_and]
        cases g n <;> rfl
      rw [this]
/-- the first x below n with g that has just i such ahead of it -/
def pick (g : Nat → Bool) (i : Int32) : Nat → Option Nat
  | 0 => none
  | n + 1 => match pick g i n with
    | some x => some x
    | none => if g n = true ∧ nI (fb_ct g n) = i then some n else none
theorem pick_no {g : Nat → Bool} {i : Int32} : ∀ {n : Nat}, (∀ x, x < n → g x = true → nI (fb_ct g x) ≠ i) → pick g i n = none
  | 0, _ => rfl
  | n + 1, h => by
    rw [pick, pick_no (fun x hx => h x (by omega))]
    exact if_neg (fun q => h n (by omega) q.1 q.2)
theorem pick_yes {g : Nat → Bool} {i : Int32} {x : Nat} (hg : g x = true) (e : nI (fb_ct g x) = i) : ∀ {n : Nat}, x < n → n < 2 ^ 31 → pick g i n = some x
  | 0, h, _ => absurd h (Nat.not_lt_zero x)
  | n + 1, h, hn => by
    rcases Nat.lt_or_ge x n with q | q
    · rw [pick, pick_yes hg e q (by omega)]
    · have : x = n := by omega
      subst this
      rw [pick, pick_no]
      · exact if_pos ⟨hg, e⟩
      · intro y hy hgy ey
        have l1 := fb_ct_le g y
        have l2 := fb_ct_le g x
        have := nI_inj (by omega) (by omega) (ey.trans e.symm)
        have := ct_lt hgy hy
        omega
theorem pick_cases (g : Nat → Bool) (i : Int32) : ∀ n, n < 2 ^ 31 → (pick g i n = none ∧ ∀ x, x < n → g x = true → nI (fb_ct g x) ≠ i) ∨ ∃ x, x < n ∧ g x = true ∧ nI (fb_ct g x) = i ∧ pick g i n = some x := by
  intro n hn
  by_cases h : ∃ x, x < n ∧ g x = true ∧ nI (fb_ct g x) = i
  · obtain ⟨x, h1, h2, h3⟩ := h
    exact Or.inr ⟨x, h1, h2, h3, pick_yes h2 h3 h1 hn⟩
  · have h' : ∀ x, x < n → g x = true → nI (fb_ct g x) ≠ i := fun x h1 h2 h3 => h ⟨x, h1, h2, h3⟩
    exact Or.inl ⟨pick_no h', h'⟩
theorem hit_pick {f g : Nat → Bool} {hit : Nat → Int32} (h : HitOk f g hit) (i : Int32) : pick (hb_ hit) i (fb_ct f 64) = (pick (fun x => f x && g x) i 64).map (fb_ct f) := by
  have l := fb_ct_le f 64
  have hbx : ∀ x, x < 64 → f x = true → hb_ hit (fb_ct f x) = g x := by
    intro x hx hf
    unfold hb_
    rw [h x hx hf]
    cases g x <;> rfl
  rcases pick_cases (fun x => f x && g x) i 64 (by decide) with ⟨e, hn⟩ | ⟨x, h1, h2, h3, e⟩
  · rw [e]
    refine pick_no ?_
    intro k hk hb
    obtain ⟨x, h1, h2, h3⟩ := fb_ct_kth hk
    subst h3
    rw [hbx x h1 h2] at hb
    rw [hit_ct h x (by omega)]
    exact hn x h1 (by simp [h2, hb])
  · rw [e]
    have hf : f x = true := by
      cases q : f x
      · simp [q] at h2
      · rfl
    have hg : g x = true := by
      cases q : g x
      · simp [q] at h2
      · rfl
    exact pick_yes (by rw [hbx x h1 hf]; exact hg) (by rw [hit_ct h x (by omega)]; exact h3) (ct_lt hf h1) (by omega)
def opt (o : Option Nat) (b : Int32) : Int32 := match o with
  | some x => nI x
  | none => b
def smf (h : Nat → Int32) : Nat → Int32
  | 0 => 0
  | n + 1 => smf h n + h n
theorem smf_cong {f g : Nat → Int32} : ∀ {n : Nat}, (∀ k, k < n → f k = g k) → smf f n = smf g n
  | 0, _ => rfl
  | n + 1, h => by rw [smf, smf, smf_cong (fun k hk => h k (by omega)), h n (by omega)]
theorem hit_sm {f g : Nat → Bool} {hit wts : Nat → Int32} {w : Nat → Int32} {b : Nat} (h : HitOk f g hit) (hw : ∀ i, i < 64 → f i = true → wts (b + fb_ct f i) = w i) : ∀ n, n ≤ 64 → smf (fun k => if hit k = 0 then 0 else wts (b + k)) (fb_ct f n) = smf (fun i => if (f i && g i) = true then w i else 0) n
  | 0, _ => rfl
  | n + 1, hn => by
    have ih := hit_sm h hw n (by omega)
    cases hf : f n
    · rw [ct_n hf, ih, smf, hf]
      exact (Int32.add_zero _).symm
    · rw [ct_y hf, smf, smf, ih]
      have e := h n (by omega) hf
      have e2 := hw n (by omega) hf
      congr 1
      show (if hit (fb_ct f n) = 0 then 0 else wts (b + fb_ct f n)) = if (f n && g n) = true then w n else 0
      rw [e, e2, hf]
      cases g n <;> rfl
theorem ins_at {f : Nat → Bool} {I k : Nat} (hf : f I = false) (h1 : ∀ i, i < 64 → f i = true → k ≤ fb_ct f i → I < i) (h2 : k = 0 ∨ ∃ i, i < 64 ∧ f i = true ∧ fb_ct f i + 1 = k ∧ i ≤ I) (hI : I < 64) : fb_ct f I = k := by
  rcases Nat.lt_trichotomy (fb_ct f I) k with q | q | q
  · rcases h2 with h2 | ⟨i, a1, a2, a3, a4⟩
    · omega
    · rcases Nat.lt_or_ge i I with q2 | q2
      · have := ct_lt a2 q2
        omega
      · have : i = I := by omega
        subst this
        rw [hf] at a2
        cases a2
  · exact q
  · obtain ⟨i, a1, a2, a3⟩ := fb_ct_kth q
    have := h1 i (by omega) a2 (by omega)
    omega
theorem pw_u (B t : Nat) : B ^ (2 ^ t) % 2039 * (B ^ (2 ^ t) % 2039) % 2039 = B ^ (2 ^ (t + 1)) % 2039 := by rw [← Nat.mul_mod, ← Nat.pow_add, ← Nat.two_mul, ← Nat.pow_succ']
theorem pw_1 (B : Nat) {E t : Nat} (h : E / 2 ^ t % 2 = 1) : B ^ (E % 2 ^ t) % 2039 * (B ^ (2 ^ t) % 2039) % 2039 = B ^ (E % 2 ^ (t + 1)) % 2039 := by rw [← Nat.mul_mod, ← Nat.pow_add, Nat.mod_pow_succ, h, Nat.mul_one]
theorem pw_0 {E t : Nat} (h : E / 2 ^ t % 2 = 0) : E % 2 ^ (t + 1) = E % 2 ^ t := by rw [Nat.mod_pow_succ, h, Nat.mul_zero, Nat.add_zero]
theorem dec_i (x : Int32) : x + Int32.ofInt (-1) = x - nI 1 := by
  rw [Int32.sub_eq_add_neg]
  rfl
theorem snd_le (k : Nat) (h : k < 2) : nI k - nI 1 ≤ 0 := by
  rcases (show k = 0 ∨ k = 1 by omega) with e | e <;> subst e <;> decide
theorem snd_sw {F : Nat → Bool} {E b x y : Nat} {f g : Nat → Int32} {v1 v2 : Int32} (h : Snt F E b f g) (hx : x < fb_ct F 64) (hy : y < fb_ct F 64) (e1 : v1 = f (b + x)) (e2 : v2 = g (b + x)) : Snt F E b (upd (upd f (b + x) (f (b + y))) (b + y) v1) (upd (upd g (b + x) (g (b + y))) (b + y) v2) := by
  rw [e1, e2]
  exact Snt_swap h hx hy
end
section
/-! what each call answers, and what it makes of the sets: for both sides -/
def hold (S : Nat → Nat → Bool) (i : Nat) : Nat := (S 0 i).toNat + (S 1 i).toNat + (S 2 i).toNat
def an (f g : Nat → Bool) : Nat → Bool := fun i => f i && g i
def hk (S : Nat → Nat → Bool) (k : Nat) : Nat → Bool := fun i => hold S i == k
theorem id3 (S : Nat → Nat → Bool) (n : Nat) : fb_ct (hk S 3) n = fb_ct (an (S 0) (an (S 1) (S 2))) n := fb_ct_cong fun k _ => by
  unfold hk an hold
  cases S 0 k <;> cases S 1 k <;> cases S 2 k <;> rfl
theorem id2 (S : Nat → Nat → Bool) : ∀ n, fb_ct (an (S 0) (S 1)) n + fb_ct (an (S 0) (S 2)) n + fb_ct (an (S 1) (S 2)) n = fb_ct (hk S 2) n + 3 * fb_ct (hk S 3) n
  | 0 => rfl
  | n + 1 => by
    have ih := id2 S n
    simp only [fb_ct_succ]
    have e : (if an (S 0) (S 1) n = true then 1 else 0) + (if an (S 0) (S 2) n = true then 1 else 0) + (if an (S 1) (S 2) n = true then 1 else 0) = (if hk S 2 n = true then 1 else 0) + 3 * (if hk S 3 n = true then 1 else 0) := by
      unfold hk an hold
      cases S 0 n <;> cases S 1 n <;> cases S 2 n <;> rfl
    omega
theorem id1 (S : Nat → Nat → Bool) : ∀ n, fb_ct (S 0) n + fb_ct (S 1) n + fb_ct (S 2) n + 3 * fb_ct (hk S 3) n = fb_ct (hk S 1) n + 2 * (fb_ct (an (S 0) (S 1)) n + fb_ct (an (S 0) (S 2)) n + fb_ct (an (S 1) (S 2)) n)
  | 0 => rfl
  | n + 1 => by
    have ih := id1 S n
    simp only [fb_ct_succ]
    have e : (if S 0 n = true then 1 else 0) + (if S 1 n = true then 1 else 0) + (if S 2 n = true then 1 else 0) + 3 * (if hk S 3 n = true then 1 else 0) = (if hk S 1 n = true then 1 else 0) + 2 * ((if an (S 0) (S 1) n = true then 1 else 0) + (if an (S 0) (S 2) n = true then 1 else 0) + (if an (S 1) (S 2) n = true then 1 else 0)) := by
      unfold hk an hold
      cases S 0 n <;> cases S 1 n <;> cases S 2 n <;> rfl
    omega
theorem id0 (S : Nat → Nat → Bool) : ∀ n, fb_ct (hk S 0) n + fb_ct (hk S 1) n + fb_ct (hk S 2) n + fb_ct (hk S 3) n = n
  | 0 => rfl
  | n + 1 => by
    have ih := id0 S n
    simp only [fb_ct_succ]
    have e : (if hk S 0 n = true then 1 else 0) + (if hk S 1 n = true then 1 else 0) + (if hk S 2 n = true then 1 else 0) + (if hk S 3 n = true then 1 else 0) = 1 := by
      unfold hk hold
      cases S 0 n <;> cases S 1 n <;> cases S 2 n <;> rfl
    omega
/-- the other two parties -/
def oq (P : Nat) : Nat := if P = 0 then 1 else 0
def or_ (P : Nat) : Nat := 3 - P - oq P
theorem idA (S : Nat → Nat → Bool) {P : Nat} (hP : P < 3) : ∀ n, fb_ct (S P) n + fb_ct (an (S P) (an (S (oq P)) (S (or_ P)))) n = fb_ct (an (S P) (hk S 1)) n + fb_ct (an (S P) (S (oq P))) n + fb_ct (an (S P) (S (or_ P))) n
  | 0 => rfl
  | n + 1 => by
    have ih := idA S hP n
    simp only [fb_ct_succ]
    have e : (if S P n = true then 1 else 0) + (if an (S P) (an (S (oq P)) (S (or_ P))) n = true then 1 else 0) = (if an (S P) (hk S 1) n = true then 1 else 0) + (if an (S P) (S (oq P)) n = true then 1 else 0) + (if an (S P) (S (or_ P)) n = true then 1 else 0) := by
      have h3 : P = 0 ∨ P = 1 ∨ P = 2 := by omega
      rcases h3 with h | h | h <;> subst h <;> unfold hk an hold <;> simp only [oq, or_] <;> simp <;> cases S 0 n <;> cases S 1 n <;> cases S 2 n <;> rfl
    omega
/-- what a comparison of two parties notes as sent -/
def trf (S : Nat → Nat → Bool) (P Q : Nat) (t : Int32) : Int32 := if P = Q then t else nI (fb_ct (S P) 64) + nI (fb_ct (S Q) 64) - nI (fb_ct (an (S P) (S Q)) 64)
/-- whether the item is among c items from a on, k apart -/
def am (a k : Nat) : Nat → Nat → Bool
  | 0, _ => false
  | c + 1, i => am a k c i || decide ((a + c * k) % 64 = i)
theorem am_of {a k i c : Nat} (h : (a + c * k) % 64 = i) : ∀ {n : Nat}, c < n → am a k n i = true
  | 0, q => absurd q (Nat.not_lt_zero c)
  | n + 1, q => by
    rcases Nat.lt_or_ge c n with q2 | q2
    · rw [am, am_of h q2, Bool.true_or]
    · have : c = n := by omega
      subst this
      rw [am, h, Bool.or_eq_true]
      exact Or.inr (decide_eq_true rfl)
theorem am_no {a k i : Nat} : ∀ {n : Nat}, (∀ c, c < n → (a + c * k) % 64 ≠ i) → am a k n i = false
  | 0, _ => rfl
  | n + 1, h => by rw [am, am_no (fun c hc => h c (by omega)), Bool.false_or, decide_eq_false (h n (by omega))]
/-- the items that a giveMany adds -/
def frs (S : Nat → Nat → Bool) (P a k c : Nat) : Nat → Bool := fun i => am a k c i && !S P i
def gmS (S : Nat → Nat → Bool) (P a k c : Nat) : Nat → Nat → Bool := fun p i => if p = P then S P i || frs S P a k c i else S p i
def gmW (S : Nat → Nat → Bool) (w : Nat → Nat → Int32) (P a k c : Nat) : Nat → Nat → Int32 := fun p i => if p = P ∧ frs S P a k c i = true then nI 1 else w p i
def F_secret (A : AS) (p v : Int32) : Int32 × AS := onN 3 p (fun _ => (0, A)) (-1, A)
def F_give (A : AS) (p i v : Int32) : Int32 × AS := onN 3 p (fun P => onN 64 i (fun I => if fb_ct (A.1 P) 64 = 16 ∧ A.1 P I = false then (-3, A) else (nI (fb_ct (sS A.1 P I true P) 64), sS A.1 P I true, sW A.2.1 P I v, A.2.2)) (-2, A)) (-1, A)
def G_many (A : AS) (P n k : Nat) : Int32 × AS := if 16 < fb_ct (A.1 P) 64 + fb_ct (frs A.1 P (n % 64) k (n / 64)) 64 then (-4, A) else (nI (fb_ct (gmS A.1 P (n % 64) k (n / 64) P) 64), gmS A.1 P (n % 64) k (n / 64), gmW A.1 A.2.1 P (n % 64) k (n / 64), A.2.2)
def F_giveMany (A : AS) (p n k : Int32) : Int32 × AS := onN 3 p (fun P => if n < nI 64 ∨ nI 1087 < n then (-2, A) else if k < nI 1 ∨ nI 63 < k then (-3, A) else G_many A P n.toNatClampNeg k.toNatClampNeg) (-1, A)
def F_take (A : AS) (p i : Int32) : Int32 × AS := onN 3 p (fun P => onN 64 i (fun I => if A.1 P I = true then (nI (fb_ct (sS A.1 P I false P) 64), sS A.1 P I false, A.2.1, A.2.2) else (-3, A)) (-2, A)) (-1, A)
def F_clear (A : AS) (p : Int32) : Int32 × AS := onN 3 p (fun P => (nI (fb_ct (A.1 P) 64), sC A.1 P, A.2.1, A.2.2)) (-1, A)
def F_held (A : AS) (p : Int32) : Int32 × AS := onN 3 p (fun P => (nI (fb_ct (A.1 P) 64), A)) (-1, A)
def F_holds (A : AS) (p i : Int32) : Int32 × AS := onN 3 p (fun P => onN 64 i (fun I => (bI (A.1 P I), A)) (-2, A)) (-1, A)
def F_common (A : AS) (p q : Int32) : Int32 × AS := onN 3 p (fun P => onN 3 q (fun Q => (nI (fb_ct (an (A.1 P) (A.1 Q)) 64), A.1, A.2.1, trf A.1 P Q A.2.2)) (-1, A)) (-1, A)
def F_commonItem (A : AS) (p q i : Int32) : Int32 × AS := onN 3 p (fun P => onN 3 q (fun Q => (opt (pick (an (A.1 P) (A.1 Q)) i 64) (-2), A.1, A.2.1, trf A.1 P Q A.2.2)) (-1, A)) (-1, A)
def F_commonWeight (A : AS) (p q : Int32) : Int32 × AS := onN 3 p (fun P => onN 3 q (fun Q => (smf (fun i => if (A.1 P i && A.1 Q i) = true then A.2.1 P i else 0) 64, A.1, A.2.1, trf A.1 P Q A.2.2)) (0, A)) (0, A)
def F_commonToAll (A : AS) : Int32 × AS := (nI (fb_ct (hk A.1 3) 64), A)
def F_itemOfAll (A : AS) (i : Int32) : Int32 × AS := (opt (pick (hk A.1 3) i 64) (-1), A)
def F_any (A : AS) : Int32 × AS := (nI (fb_ct (hk A.1 1) 64 + fb_ct (hk A.1 2) 64 + fb_ct (hk A.1 3) 64), A)
def F_heldByJust (A : AS) (k : Int32) : Int32 × AS := onN 4 k (fun K => if K = 0 then (-1, A) else (nI (fb_ct (hk A.1 K) 64), A)) (-1, A)
def F_alone (A : AS) (p : Int32) : Int32 × AS := onN 3 p (fun P => (nI (fb_ct (an (A.1 P) (hk A.1 1)) 64), A)) (-1, A)
def F_within (A : AS) (p q : Int32) : Int32 × AS := onN 3 p (fun P => onN 3 q (fun Q => (bI (decide (fb_ct (an (A.1 P) (A.1 Q)) 64 = fb_ct (A.1 P) 64)), A.1, A.2.1, trf A.1 P Q A.2.2)) (-1, A)) (-1, A)
def F_traffic (A : AS) : Int32 × AS := (A.2.2, A)
/-- a PrivateIntersect's contents -/
abbrev XS : Type := (Nat → Int32) × (Nat → Int32) × (Nat → Int32) × (Nat → Int32) × (Nat → Int32) × (Nat → Int32) × (Nat → Int32) × Int32 × Int32
def XV (A : AS) (u : XS) : Prop := XI A.1 A.2.1 u.1 u.2.1 u.2.2.1 ∧ EI u.2.2.2.1 ∧ u.2.2.2.2.2.2.2.2 = A.2.2
/-- the end of a call: what the value's own step says -/
def XPost (F : Int32 × AS) : Int32 → XS → Prop := fun r u => ∃ A : AS, F = (r, A) ∧ XV A u
abbrev MS : Type := (Nat → Int32) × (Nat → Int32) × Int32
def MV (A : AS) (u : MS) : Prop := MI A.1 A.2.1 u.1 u.2.1 ∧ u.2.2 = A.2.2
def MPost (F : Int32 × AS) : Int32 → MS → Prop := fun r u => ∃ A : AS, F = (r, A) ∧ MV A u
/-- bits of the mask of new items -/
def Bt (F : Nat) (f : Nat → Bool) : Prop := F < 2 ^ 64 ∧ ∀ i, i < 64 → F.testBit i = f i
theorem Bt_bit {F i : Nat} {f : Nat → Bool} (h : Bt F f) (hi : i < 64) : F / 2 ^ i % 2 = (f i).toNat := by
  have e := h.2 i hi
  rw [Nat.testBit_eq_decide_div_mod_eq] at e
  rw [← e]
  rcases Nat.mod_two_eq_zero_or_one (F / 2 ^ i) with q | q <;> rw [q] <;> rfl
theorem Bt_set {F I : Nat} {f : Nat → Bool} (h : Bt F f) (hI : I < 64) : Bt (F ||| 2 ^ I) (s1 f I true) := by
  refine ⟨Nat.or_lt_two_pow h.1 (wb_lt2 hI), fun i hi => ?_⟩
  rw [Nat.testBit_or, Nat.testBit_two_pow, h.2 i hi]
  unfold s1
  by_cases e : i = I
  · subst e
    simp
  · rw [if_neg e, decide_eq_false (fun q => e q.symm), Bool.or_false]
theorem Bt_cong {F : Nat} {f g : Nat → Bool} (h : Bt F f) (e : ∀ i, i < 64 → f i = g i) : Bt F g := ⟨h.1, fun i hi => by rw [h.2 i hi, e i hi]⟩
theorem frs_0 (S : Nat → Nat → Bool) (P a k : Nat) : ∀ i, frs S P a k 0 i = false := fun _ => rfl
theorem frs_same {S : Nat → Nat → Bool} {P a k c : Nat} (h : S P ((a + c * k) % 64) = true ∨ frs S P a k c ((a + c * k) % 64) = true) (i : Nat) : frs S P a k c i = frs S P a k (c + 1) i := by
  show (am a k c i && !S P i) = ((am a k c i || decide ((a + c * k) % 64 = i)) && !S P i)
  by_cases e : (a + c * k) % 64 = i
  · subst e
    rcases h with h | h
    · rw [h]
      simp
    · have h1 : (am a k c ((a + c * k) % 64) && !S P ((a + c * k) % 64)) = true := h
      rw [Bool.and_eq_true] at h1
      rw [h1.1, h1.2]
      rfl
  · rw [decide_eq_false e, Bool.or_false]
theorem frs_new {S : Nat → Nat → Bool} {P a k c : Nat} (h : S P ((a + c * k) % 64) = false) (i : Nat) : s1 (frs S P a k c) ((a + c * k) % 64) true i = frs S P a k (c + 1) i := by
  show (if i = (a + c * k) % 64 then true else (am a k c i && !S P i)) = ((am a k c i || decide ((a + c * k) % 64 = i)) && !S P i)
  by_cases e : i = (a + c * k) % 64
  · rw [if_pos e, ← e, decide_eq_true rfl, e, h, Bool.or_true]
    rfl
  · rw [if_neg e, decide_eq_false (fun q => e q.symm), Bool.or_false]
end
section
abbrev vwCl : List vw_C := [(RX1, TX1, 9), (RX2, TX2, 3)]
/-- the cells of a PrivateIntersect: the object at a 0, its arrays at a 1 .. a 7 -/
abbrev wX (a : Nat → Nat) (d : Nat → ClassId) (its wts szs exs snt org hit : Nat → Int32) (rnd lt : Int32) : va_W := [(a 0, .inr (0, [.ref (a 1), .ref (a 2), .ref (a 3), .ref (a 4), .ref (a 5), .ref (a 6), .ref (a 7), .int rnd, .int lt])), (a 1, .inl (d 1, 48, .inl its)), (a 2, .inl (d 2, 48, .inl wts)), (a 3, .inl (d 3, 3, .inl szs)), (a 4, .inl (d 4, 3, .inl exs)), (a 5, .inl (d 5, 48, .inl snt)), (a 6, .inl (d 6, 48, .inl org)), (a 7, .inl (d 7, 16, .inl hit))]
abbrev tyX (d : Nat → ClassId) : List (ClassId × FieldType) := [(d 1, .int), (d 2, .int), (d 3, .int), (d 4, .int), (d 5, .int), (d 6, .int), (d 7, .boolean)]
/-- the cells of a PrivateIntersectModel -/
abbrev wM (a : Nat → Nat) (d : Nat → ClassId) (has wgt : Nat → Int32) (sen : Int32) : va_W := [(a 0, .inr (1, [.ref (a 1), .ref (a 2), .int sen])), (a 1, .inl (d 1, 192, .inl has)), (a 2, .inl (d 2, 192, .inl wgt))]
abbrev tyM (d : Nat → ClassId) : List (ClassId × FieldType) := [(d 1, .boolean), (d 2, .int)]
abbrev Qwi (D : va_G) (tys : List (ClassId × FieldType)) (A : Nat → Prop) {S : Type} (wf : S → va_W) (post : Int32 → S → Prop) : Array Value → State → Outcome → State → Prop := va_Qi post (fun u t => va_P D vwCl (wf u) t.heap ∧ va_K D vwCl tys t ∧ va_D A (wf u)) A
abbrev Qwv (D : va_G) (tys : List (ClassId × FieldType)) (A : Nat → Prop) {S : Type} (wf : S → va_W) (post : S → Prop) : Array Value → State → Outcome → State → Prop := va_Qv post (fun u t => va_P D vwCl (wf u) t.heap ∧ va_K D vwCl tys t ∧ va_D A (wf u)) A
abbrev QXi (D : va_G) (d : Nat → ClassId) (A : Nat → Prop) {S : Type} (wf : S → va_W) (post : Int32 → S → Prop) : Array Value → State → Outcome → State → Prop := Qwi D (tyX d) A wf post
abbrev QXv (D : va_G) (d : Nat → ClassId) (A : Nat → Prop) {S : Type} (wf : S → va_W) (post : S → Prop) : Array Value → State → Outcome → State → Prop := Qwv D (tyX d) A wf post
abbrev QMi (D : va_G) (d : Nat → ClassId) (A : Nat → Prop) {S : Type} (wf : S → va_W) (post : Int32 → S → Prop) : Array Value → State → Outcome → State → Prop := Qwi D (tyM d) A wf post
abbrev QMv (D : va_G) (d : Nat → ClassId) (A : Nat → Prop) {S : Type} (wf : S → va_W) (post : S → Prop) : Array Value → State → Outcome → State → Prop := Qwv D (tyM d) A wf post
section XR
variable {p : Program} {l : Launch} {e : Env} {R : Room} {s : State} {m : MethodId} {args : Array Value} {below : List Frame} {meth : Method} {c : Code} {H : Heap} {locs : List Loc} {cells slots : Nat} {Q : State → Prop}
variable {cc : ByteArray} {pc : Nat} {ls : Array Slot} {rest : List Value} {D : va_G} {A : Nat → Prop} {H0 : Heap}
theorem xr_set {x y : Int32} (h : x = y) (k : W p l e R s m args below meth c H locs cells slots Q (F0 m pc ls (.int y :: rest))) : W p l e R s m args below meth c H locs cells slots Q (F0 m pc ls (.int x :: rest)) := by
  rw [h]
  exact k
theorem xr_setl {x y : Int64} (h : x = y) (k : W p l e R s m args below meth c H locs cells slots Q (F0 m pc ls (.long y :: rest))) : W p l e R s m args below meth c H locs cells slots Q (F0 m pc ls (.long x :: rest)) := by
  rw [h]
  exact k
theorem xb_ge (hexec : p.tables.exec = Jvm.exec) (hb : c.code = cc) {x y : Nat} {off : Int} {tgt : Nat} (hdg : decode cc pc = .ok (.if_icmp .ge off, 3)) (ht : (pc : Int) + off = (tgt : Int)) (h1 : x < 2 ^ 31) (h2 : y < 2 ^ 31) (kt : y ≤ x → W p l e R s m args below meth c H locs cells slots Q (F0 m tgt ls rest)) (kf : x < y → W p l e R s m args below meth c H locs cells slots Q (F0 m (pc + 3) ls rest)) : W p l e R s m args below meth c H locs cells slots Q (F0 m pc ls (.int (nI y) :: .int (nI x) :: rest)) :=
  lv_icmp_ge hexec hb hdg ht (fun h => kt ((nI_leI h2 h1).mp h)) (fun h => kf (Nat.lt_of_not_le fun q => h ((nI_leI h2 h1).mpr q)))
theorem xb_lt (hexec : p.tables.exec = Jvm.exec) (hb : c.code = cc) {x y : Nat} {off : Int} {tgt : Nat} (hdg : decode cc pc = .ok (.if_icmp .lt off, 3)) (ht : (pc : Int) + off = (tgt : Int)) (h1 : x < 2 ^ 31) (h2 : y < 2 ^ 31) (kt : x < y → W p l e R s m args below meth c H locs cells slots Q (F0 m tgt ls rest)) (kf : y ≤ x → W p l e R s m args below meth c H locs cells slots Q (F0 m (pc + 3) ls rest)) : W p l e R s m args below meth c H locs cells slots Q (F0 m pc ls (.int (nI y) :: .int (nI x) :: rest)) :=
  lv_icmp_lt hexec hb hdg ht (fun h => kt ((nI_ltI h1 h2).mp h)) (fun h => kf (Nat.le_of_not_lt fun q => h ((nI_ltI h1 h2).mpr q)))
theorem xb_gt (hexec : p.tables.exec = Jvm.exec) (hb : c.code = cc) {x y : Nat} {off : Int} {tgt : Nat} (hdg : decode cc pc = .ok (.if_icmp .gt off, 3)) (ht : (pc : Int) + off = (tgt : Int)) (h1 : x < 2 ^ 31) (h2 : y < 2 ^ 31) (kt : y < x → W p l e R s m args below meth c H locs cells slots Q (F0 m tgt ls rest)) (kf : x ≤ y → W p l e R s m args below meth c H locs cells slots Q (F0 m (pc + 3) ls rest)) : W p l e R s m args below meth c H locs cells slots Q (F0 m pc ls (.int (nI y) :: .int (nI x) :: rest)) :=
  lv_icmp_gt hexec hb hdg ht (fun h => kt ((nI_ltI h2 h1).mp h)) (fun h => kf (Nat.le_of_not_lt fun q => h ((nI_ltI h2 h1).mpr q)))
theorem xb_le (hexec : p.tables.exec = Jvm.exec) (hb : c.code = cc) {x y : Nat} {off : Int} {tgt : Nat} (hdg : decode cc pc = .ok (.if_icmp .le off, 3)) (ht : (pc : Int) + off = (tgt : Int)) (h1 : x < 2 ^ 31) (h2 : y < 2 ^ 31) (kt : x ≤ y → W p l e R s m args below meth c H locs cells slots Q (F0 m tgt ls rest)) (kf : y < x → W p l e R s m args below meth c H locs cells slots Q (F0 m (pc + 3) ls rest)) : W p l e R s m args below meth c H locs cells slots Q (F0 m pc ls (.int (nI y) :: .int (nI x) :: rest)) :=
  lv_icmp_le hexec hb hdg ht (fun h => kt ((nI_leI h1 h2).mp h)) (fun h => kf (Nat.lt_of_not_le fun q => h ((nI_leI h1 h2).mpr q)))
theorem xb_eq (hexec : p.tables.exec = Jvm.exec) (hb : c.code = cc) {x y : Nat} {off : Int} {tgt : Nat} (hdg : decode cc pc = .ok (.if_icmp .eq off, 3)) (ht : (pc : Int) + off = (tgt : Int)) (h1 : x < 2 ^ 31) (h2 : y < 2 ^ 31) (kt : x = y → W p l e R s m args below meth c H locs cells slots Q (F0 m tgt ls rest)) (kf : x ≠ y → W p l e R s m args below meth c H locs cells slots Q (F0 m (pc + 3) ls rest)) : W p l e R s m args below meth c H locs cells slots Q (F0 m pc ls (.int (nI y) :: .int (nI x) :: rest)) :=
  lv_icmp_eq hexec hb hdg ht (fun h => kt ((nI_eq h1 h2).mp h)) (fun h => kf (fun q => h (congrArg nI q)))
theorem xb_ne (hexec : p.tables.exec = Jvm.exec) (hb : c.code = cc) {x y : Nat} {off : Int} {tgt : Nat} (hdg : decode cc pc = .ok (.if_icmp .ne off, 3)) (ht : (pc : Int) + off = (tgt : Int)) (h1 : x < 2 ^ 31) (h2 : y < 2 ^ 31) (kt : x ≠ y → W p l e R s m args below meth c H locs cells slots Q (F0 m tgt ls rest)) (kf : x = y → W p l e R s m args below meth c H locs cells slots Q (F0 m (pc + 3) ls rest)) : W p l e R s m args below meth c H locs cells slots Q (F0 m pc ls (.int (nI y) :: .int (nI x) :: rest)) :=
  lv_icmp_ne hexec hb hdg ht (fun h => kt (fun q => h (congrArg nI q))) (fun h => kf ((nI_eq h1 h2).mp h))
theorem cs_S {y : MethodName} {bytes : ByteArray} {maxL nL n index : Nat} {ret : Option FieldType} {ws : List Cond} {rm : Room} {Ts : List Cond} {own : String} {As st0 : List Value} {post : Int32 → Prop} (S : CallFix p m c cc nL s args Ts own) (hM : Met l y ws rm (va_Pc As (fun _ => True)) (vp_Si post) 0 0 (fun _ => False)) (cw : CallB R s args own index y bytes maxL ret ws rm 0 0 n ∧ (Cond.static y).before args s = true)
    (hn : As.length = n) (hsize : ls.size = nL) (hstack : st0 = As.reverse ++ rest) (hW : (rest.map fun v => v.category).sum ≤ 8) (hdg : decode cc pc = .ok (.invokestatic index, 3)) (hf : cells ≤ R.cells ∧ slots ≤ R.slots) (kk : ∀ r : Int32, post r → W p l e R s m args below meth c H locs cells slots Q (F0 m (pc + 3) ls (.int r :: rest))) : W p l e R s m args below meth c H locs cells slots Q (F0 m pc ls st0) :=
  vp_callSi (W.runS (g := F0 m pc ls st0) S hM cw ⟨fun _ _ _ _ q => ⟨q.1, trivial⟩, fun _ _ _ => ⟨rfl, trivial⟩⟩ rfl hn hsize hstack (lv_room hW) hdg hf) kk
theorem cs_R {y : MethodName} {bytes : ByteArray} {maxL nL n index ci N b : Nat} {T : u_T} {fs : List Value} {ret : Option FieldType} {ws : List Cond} {rm : Room} {Ts : List Cond} {own C : String} {As st0 : List Value} {w : va_W} {tys : List (ClassId × FieldType)} {post : Int32 → Prop} (S : CallFix p m c cc nL s args Ts own) (hM : Met l y ws rm (va_Pc (.ref b :: As) (fun U => va_P D vwCl w U.heap ∧ va_K D vwCl tys U)) (vp_Si post) 0 0 (fun _ => False)) (cw : CallW R s args own C index y bytes maxL ret ws rm 0 0 n)
    (hK : va_K D vwCl tys s) (hP : va_P D vwCl w H) (hc : vwCl[ci]? = some (C, T, N)) (he : w[0]? = some (b, .inr (ci, fs))) (hn : As.length = n) (hsize : ls.size = nL) (hstack : st0 = As.reverse ++ .ref b :: rest) (hW : (rest.map fun v => v.category).sum ≤ 8) (hdg : decode cc pc = .ok (.invokevirtual index, 3)) (hf : cells ≤ R.cells ∧ slots ≤ R.slots) (kk : ∀ r : Int32, post r → W p l e R s m args below meth c H locs cells slots Q (F0 m (pc + 3) ls (.int r :: rest))) : W p l e R s m args below meth c H locs cells slots Q (F0 m pc ls st0) :=
  vp_callSi (W.runV (g := F0 m pc ls st0) S hM cw ⟨fun a U g mk q => ⟨q.1, q.2.1, va_K.moved (u := U) (U := U.calling g mk a) (Vm.Alike.refl U.vm) q.2.2⟩, va_recv hK hP hc he, fun U hU hW => ⟨rfl, by rw [hU]; exact hP, va_K.moved hW.alike hK⟩⟩ rfl hn hsize hstack (lv_room hW) hdg hf) kk
theorem cs_P {y : MethodName} {bytes : ByteArray} {maxL nL n index ci N b : Nat} {T : u_T} {fs : List Value} {ret : Option FieldType} {ws : List Cond} {rm : Room} {Ts : List Cond} {own C : String} {As st0 : List Value} {w : va_W} {tys : List (ClassId × FieldType)} {post : Int32 → Prop} (S : CallFix p m c cc nL s args Ts own) (hM : Met l y ws rm (va_Pc (.ref b :: As) (fun _ => True)) (vp_Si post) 0 0 (fun _ => False)) (cw : CallW R s args own C index y bytes maxL ret ws rm 0 0 n)
    (hK : va_K D vwCl tys s) (hP : va_P D vwCl w H) (hc : vwCl[ci]? = some (C, T, N)) (he : w[0]? = some (b, .inr (ci, fs))) (hn : As.length = n) (hsize : ls.size = nL) (hstack : st0 = As.reverse ++ .ref b :: rest) (hW : (rest.map fun v => v.category).sum ≤ 8) (hdg : decode cc pc = .ok (.invokevirtual index, 3)) (hf : cells ≤ R.cells ∧ slots ≤ R.slots) (kk : ∀ r : Int32, post r → W p l e R s m args below meth c H locs cells slots Q (F0 m (pc + 3) ls (.int r :: rest))) : W p l e R s m args below meth c H locs cells slots Q (F0 m pc ls st0) :=
  vp_callSi (W.runV (g := F0 m pc ls st0) S hM cw ⟨fun _ _ _ _ q => ⟨q.1, trivial⟩, va_recv hK hP hc he, fun _ _ _ => ⟨rfl, trivial⟩⟩ rfl hn hsize hstack (lv_room hW) hdg hf) kk
theorem cs_Wi {y : MethodName} {bytes : ByteArray} {maxL nL n index ci N b : Nat} {T : u_T} {fs : List Value} {ret : Option FieldType} {ws : List Cond} {rm : Room} {Ts : List Cond} {own C : String} {As st0 : List Value} {w : va_W} {tys : List (ClassId × FieldType)} {S0 : Type} {wf : S0 → va_W} {post : Int32 → S0 → Prop} (S : CallFix p m c cc nL s args Ts own) (hM : Met l y ws rm (va_Pc (.ref b :: As) (fun U => U.heap.size = H.size ∧ va_P D vwCl w U.heap ∧ va_K D vwCl tys U ∧ va_D (fun _ => True) w)) (Qwi D tys (va_A w H.size) wf post) 0 0 (va_A w H.size)) (cw : CallW R s args own C index y bytes maxL ret ws rm 0 0 n)
    (hK : va_K D vwCl tys s) (hP : va_P D vwCl w H) (hD : va_D A w) (hS : va_S A H0 H locs) (hA : ∀ q : Nat, H0.size ≤ q → A q) (hc : vwCl[ci]? = some (C, T, N)) (he : w[0]? = some (b, .inr (ci, fs))) (hn : As.length = n) (hsize : ls.size = nL) (hstack : st0 = As.reverse ++ .ref b :: rest) (hW : (rest.map fun v => v.category).sum ≤ 8) (hdg : decode cc pc = .ok (.invokevirtual index, 3)) (hf : cells ≤ R.cells ∧ slots ≤ R.slots)
    (kk : ∀ (r : Int32) (u : S0) (H1 : Heap) (locs1 : List Loc), post r u → va_P D vwCl (wf u) H1 → va_D A (wf u) → va_S A H0 H1 locs1 → (∀ q : Nat, q < H.size → ¬ va_A w H.size q → H1[q]? = H[q]?) → W p l e R s m args below meth c H1 locs1 cells slots Q (F0 m (pc + 3) ls (.int r :: rest))) : W p l e R s m args below meth c H locs cells slots Q (F0 m pc ls st0) := by
  have hF : ∀ q, va_A w H.size q → A q := by
    intro q h
    rcases h with ⟨k, e, h⟩ | h
    · exact hD.2 k _ h
    · exact hA q (Nat.le_trans hS.1 h)
  refine va_calli (va_runV (g := F0 m pc ls st0) S hM cw ⟨?_, va_recv hK hP hc he, ?_⟩ rfl hn hsize hstack (lv_room hW) hdg hf) hS (fun q _ h => hF q h) hF ?_
  · intro a U g mk q
    obtain ⟨q0, q1, qP, qK, qD⟩ := q
    exact ⟨q0, q1, qP, va_K.moved (u := U) (U := U.calling g mk a) (Vm.Alike.refl U.vm) qK, qD⟩
  · intro U hU hW
    exact ⟨rfl, by rw [hU], by rw [hU]; exact hP, va_K.moved hW.alike hK, hD.weaken (fun _ _ _ _ => trivial)⟩
  · intro r u t H1 locs1 ht hvm hw hB hz hk hS1
    obtain ⟨hP1, hK1, hD1⟩ := hB
    rw [ht] at hP1
    exact kk r u H1 locs1 hw hP1 (hD1.weaken (fun k q _ h => hF _ h)) hS1 hk
theorem cs_Wv {y : MethodName} {bytes : ByteArray} {maxL nL n index ci N b : Nat} {T : u_T} {fs : List Value} {ret : Option FieldType} {ws : List Cond} {rm : Room} {Ts : List Cond} {own C : String} {As st0 : List Value} {w : va_W} {tys : List (ClassId × FieldType)} {S0 : Type} {wf : S0 → va_W} {post : S0 → Prop} (S : CallFix p m c cc nL s args Ts own) (hM : Met l y ws rm (va_Pc (.ref b :: As) (fun U => U.heap.size = H.size ∧ va_P D vwCl w U.heap ∧ va_K D vwCl tys U ∧ va_D (fun _ => True) w)) (Qwv D tys (va_A w H.size) wf post) 0 0 (va_A w H.size)) (cw : CallW R s args own C index y bytes maxL ret ws rm 0 0 n)
    (hK : va_K D vwCl tys s) (hP : va_P D vwCl w H) (hD : va_D A w) (hS : va_S A H0 H locs) (hA : ∀ q : Nat, H0.size ≤ q → A q) (hc : vwCl[ci]? = some (C, T, N)) (he : w[0]? = some (b, .inr (ci, fs))) (hn : As.length = n) (hsize : ls.size = nL) (hstack : st0 = As.reverse ++ .ref b :: rest) (hW : (rest.map fun v => v.category).sum ≤ 8) (hdg : decode cc pc = .ok (.invokevirtual index, 3)) (hf : cells ≤ R.cells ∧ slots ≤ R.slots)
    (kk : ∀ (u : S0) (H1 : Heap) (locs1 : List Loc), post u → va_P D vwCl (wf u) H1 → va_D A (wf u) → va_S A H0 H1 locs1 → (∀ q : Nat, q < H.size → ¬ va_A w H.size q → H1[q]? = H[q]?) → W p l e R s m args below meth c H1 locs1 cells slots Q (F0 m (pc + 3) ls rest)) : W p l e R s m args below meth c H locs cells slots Q (F0 m pc ls st0) := by
  have hF : ∀ q, va_A w H.size q → A q := by
    intro q h
    rcases h with ⟨k, e, h⟩ | h
    · exact hD.2 k _ h
    · exact hA q (Nat.le_trans hS.1 h)
  refine va_callv (va_runV (g := F0 m pc ls st0) S hM cw ⟨?_, va_recv hK hP hc he, ?_⟩ rfl hn hsize hstack (lv_room hW) hdg hf) hS (fun q _ h => hF q h) hF ?_
  · intro a U g mk q
    obtain ⟨q0, q1, qP, qK, qD⟩ := q
    exact ⟨q0, q1, qP, va_K.moved (u := U) (U := U.calling g mk a) (Vm.Alike.refl U.vm) qK, qD⟩
  · intro U hU hW
    exact ⟨rfl, by rw [hU], by rw [hU]; exact hP, va_K.moved hW.alike hK, hD.weaken (fun _ _ _ _ => trivial)⟩
  · intro u t H1 locs1 ht hvm hw hB hz hk hS1
    obtain ⟨hP1, hK1, hD1⟩ := hB
    rw [ht] at hP1
    exact kk u H1 locs1 hw hP1 (hD1.weaken (fun k q _ h => hF _ h)) hS1 hk
end XR
section XROWS
variable {p : Program} {l : Launch} {e : Env} {R : Room} {s : State} {m : MethodId} {args : Array Value} {below : List Frame} {meth : Method} {c : Code} {H : Heap} {locs : List Loc} {cells slots : Nat} {Q : State → Prop}
variable {cc : ByteArray} {pc : Nat} {ls : Array Slot} {rest : List Value} {D : va_G} {A : Nat → Prop} {H0 : Heap}
variable {a : Nat → Nat} {d : Nat → ClassId} {its wts szs exs snt org hit : Nat → Int32} {rnd lt : Int32}
theorem xg_its (hx : p.tables.exec = Jvm.exec) (hb : c.code = cc) (hts : ∀ w ∈ lw_all, w.before args s = true) (hown : s.vm.findClass RX1 = some m.cls) (hK : va_K D vwCl (tyX d) s) (hP : va_P D vwCl (wX a d its wts szs exs snt org hit rnd lt) H) (hdg : decode cc pc = .ok (.getfield 7, 3)) (kk : W p l e R s m args below meth c H locs cells slots Q (F0 m (pc + 3) ls (.ref (a 1) :: rest))) : W p l e R s m args below meth c H locs cells slots Q (F0 m pc ls (.ref (a 0) :: rest)) :=
  va_get (D := D) (ci := 0) (v := .ref (a 1)) (C := RX1) (T := TX1) (N := 9) hx hb hts in_X1 hown hK hP 0 rfl rfl 0 (by decide) (hts _ q37) (fun _ h9 => h9) rfl hdg kk
theorem xl_its (hx : p.tables.exec = Jvm.exec) (hb : c.code = cc) (hK : va_K D vwCl (tyX d) s) (hP : va_P D vwCl (wX a d its wts szs exs snt org hit rnd lt) H) {j : Nat} (hj : j < 48) (hdg : decode cc pc = .ok (.iaload, 1)) (kk : W p l e R s m args below meth c H locs cells slots Q (F0 m (pc + 1) ls (.int (its j) :: rest))) : W p l e R s m args below meth c H locs cells slots Q (F0 m pc ls (.int (nI j) :: .ref (a 1) :: rest)) :=
  va_iald hx hb hK hP 1 0 rfl rfl (vp_in_nI hj (by decide)) hdg (by rw [nI_clamp (Nat.lt_trans hj (by decide))]; exact kk)
theorem xs_its (hx : p.tables.exec = Jvm.exec) (hb : c.code = cc) (hK : va_K D vwCl (tyX d) s) (hP : va_P D vwCl (wX a d its wts szs exs snt org hit rnd lt) H) (hD : va_D A (wX a d its wts szs exs snt org hit rnd lt)) (hS : va_S A H0 H locs) {j : Nat} {x : Int32} (hj : j < 48) (hdg : decode cc pc = .ok (.iastore, 1)) (kk : ∀ (H1 : Heap) (locs1 : List Loc), va_P D vwCl (wX a d (upd its j x) wts szs exs snt org hit rnd lt) H1 → va_D A (wX a d (upd its j x) wts szs exs snt org hit rnd lt) → va_S A H0 H1 locs1 → W p l e R s m args below meth c H1 locs1 cells slots Q (F0 m (pc + 1) ls rest)) : W p l e R s m args below meth c H locs cells slots Q (F0 m pc ls (.int x :: .int (nI j) :: .ref (a 1) :: rest)) :=
  va_iast hx hb hK hP hD hS 1 0 rfl rfl (vp_in_nI hj (by decide)) hdg (by rw [nI_clamp (Nat.lt_trans hj (by decide))]; exact fun H1 locs1 h1 h2 h3 => kk H1 locs1 h1 h2 h3)
theorem xg_wts (hx : p.tables.exec = Jvm.exec) (hb : c.code = cc) (hts : ∀ w ∈ lw_all, w.before args s = true) (hown : s.vm.findClass RX1 = some m.cls) (hK : va_K D vwCl (tyX d) s) (hP : va_P D vwCl (wX a d its wts szs exs snt org hit rnd lt) H) (hdg : decode cc pc = .ok (.getfield 13, 3)) (kk : W p l e R s m args below meth c H locs cells slots Q (F0 m (pc + 3) ls (.ref (a 2) :: rest))) : W p l e R s m args below meth c H locs cells slots Q (F0 m pc ls (.ref (a 0) :: rest)) :=
  va_get (D := D) (ci := 0) (v := .ref (a 2)) (C := RX1) (T := TX1) (N := 9) hx hb hts in_X1 hown hK hP 0 rfl rfl 1 (by decide) (hts _ q38) (fun _ h9 => h9) rfl hdg kk
theorem xl_wts (hx : p.tables.exec = Jvm.exec) (hb : c.code = cc) (hK : va_K D vwCl (tyX d) s) (hP : va_P D vwCl (wX a d its wts szs exs snt org hit rnd lt) H) {j : Nat} (hj : j < 48) (hdg : decode cc pc = .ok (.iaload, 1)) (kk : W p l e R s m args below meth c H locs cells slots Q (F0 m (pc + 1) ls (.int (wts j) :: rest))) : W p l e R s m args below meth c H locs cells slots Q (F0 m pc ls (.int (nI j) :: .ref (a 2) :: rest)) :=
  va_iald hx hb hK hP 2 1 rfl rfl (vp_in_nI hj (by decide)) hdg (by rw [nI_clamp (Nat.lt_trans hj (by decide))]; exact kk)
theorem xs_wts (hx : p.tables.exec = Jvm.exec) (hb : c.code = cc) (hK : va_K D vwCl (tyX d) s) (hP : va_P D vwCl (wX a d its wts szs exs snt org hit rnd lt) H) (hD : va_D A (wX a d its wts szs exs snt org hit rnd lt)) (hS : va_S A H0 H locs) {j : Nat} {x : Int32} (hj : j < 48) (hdg : decode cc pc = .ok (.iastore, 1)) (kk : ∀ (H1 : Heap) (locs1 : List Loc), va_P D vwCl (wX a d its (upd wts j x) szs exs snt org hit rnd lt) H1 → va_D A (wX a d its (upd wts j x) szs exs snt org hit rnd lt) → va_S A H0 H1 locs1 → W p l e R s m args below meth c H1 locs1 cells slots Q (F0 m (pc + 1) ls rest)) : W p l e R s m args below meth c H locs cells slots Q (F0 m pc ls (.int x :: .int (nI j) :: .ref (a 2) :: rest)) :=
  va_iast hx hb hK hP hD hS 2 1 rfl rfl (vp_in_nI hj (by decide)) hdg (by rw [nI_clamp (Nat.lt_trans hj (by decide))]; exact fun H1 locs1 h1 h2 h3 => kk H1 locs1 h1 h2 h3)
theorem xg_szs (hx : p.tables.exec = Jvm.exec) (hb : c.code = cc) (hts : ∀ w ∈ lw_all, w.before args s = true) (hown : s.vm.findClass RX1 = some m.cls) (hK : va_K D vwCl (tyX d) s) (hP : va_P D vwCl (wX a d its wts szs exs snt org hit rnd lt) H) (hdg : decode cc pc = .ok (.getfield 16, 3)) (kk : W p l e R s m args below meth c H locs cells slots Q (F0 m (pc + 3) ls (.ref (a 3) :: rest))) : W p l e R s m args below meth c H locs cells slots Q (F0 m pc ls (.ref (a 0) :: rest)) :=
  va_get (D := D) (ci := 0) (v := .ref (a 3)) (C := RX1) (T := TX1) (N := 9) hx hb hts in_X1 hown hK hP 0 rfl rfl 2 (by decide) (hts _ q39) (fun _ h9 => h9) rfl hdg kk
theorem xl_szs (hx : p.tables.exec = Jvm.exec) (hb : c.code = cc) (hK : va_K D vwCl (tyX d) s) (hP : va_P D vwCl (wX a d its wts szs exs snt org hit rnd lt) H) {j : Nat} (hj : j < 3) (hdg : decode cc pc = .ok (.iaload, 1)) (kk : W p l e R s m args below meth c H locs cells slots Q (F0 m (pc + 1) ls (.int (szs j) :: rest))) : W p l e R s m args below meth c H locs cells slots Q (F0 m pc ls (.int (nI j) :: .ref (a 3) :: rest)) :=
  va_iald hx hb hK hP 3 2 rfl rfl (vp_in_nI hj (by decide)) hdg (by rw [nI_clamp (Nat.lt_trans hj (by decide))]; exact kk)
theorem xs_szs (hx : p.tables.exec = Jvm.exec) (hb : c.code = cc) (hK : va_K D vwCl (tyX d) s) (hP : va_P D vwCl (wX a d its wts szs exs snt org hit rnd lt) H) (hD : va_D A (wX a d its wts szs exs snt org hit rnd lt)) (hS : va_S A H0 H locs) {j : Nat} {x : Int32} (hj : j < 3) (hdg : decode cc pc = .ok (.iastore, 1)) (kk : ∀ (H1 : Heap) (locs1 : List Loc), va_P D vwCl (wX a d its wts (upd szs j x) exs snt org hit rnd lt) H1 → va_D A (wX a d its wts (upd szs j x) exs snt org hit rnd lt) → va_S A H0 H1 locs1 → W p l e R s m args below meth c H1 locs1 cells slots Q (F0 m (pc + 1) ls rest)) : W p l e R s m args below meth c H locs cells slots Q (F0 m pc ls (.int x :: .int (nI j) :: .ref (a 3) :: rest)) :=
  va_iast hx hb hK hP hD hS 3 2 rfl rfl (vp_in_nI hj (by decide)) hdg (by rw [nI_clamp (Nat.lt_trans hj (by decide))]; exact fun H1 locs1 h1 h2 h3 => kk H1 locs1 h1 h2 h3)
theorem xg_exs (hx : p.tables.exec = Jvm.exec) (hb : c.code = cc) (hts : ∀ w ∈ lw_all, w.before args s = true) (hown : s.vm.findClass RX1 = some m.cls) (hK : va_K D vwCl (tyX d) s) (hP : va_P D vwCl (wX a d its wts szs exs snt org hit rnd lt) H) (hdg : decode cc pc = .ok (.getfield 19, 3)) (kk : W p l e R s m args below meth c H locs cells slots Q (F0 m (pc + 3) ls (.ref (a 4) :: rest))) : W p l e R s m args below meth c H locs cells slots Q (F0 m pc ls (.ref (a 0) :: rest)) :=
  va_get (D := D) (ci := 0) (v := .ref (a 4)) (C := RX1) (T := TX1) (N := 9) hx hb hts in_X1 hown hK hP 0 rfl rfl 3 (by decide) (hts _ q40) (fun _ h9 => h9) rfl hdg kk
theorem xl_exs (hx : p.tables.exec = Jvm.exec) (hb : c.code = cc) (hK : va_K D vwCl (tyX d) s) (hP : va_P D vwCl (wX a d its wts szs exs snt org hit rnd lt) H) {j : Nat} (hj : j < 3) (hdg : decode cc pc = .ok (.iaload, 1)) (kk : W p l e R s m args below meth c H locs cells slots Q (F0 m (pc + 1) ls (.int (exs j) :: rest))) : W p l e R s m args below meth c H locs cells slots Q (F0 m pc ls (.int (nI j) :: .ref (a 4) :: rest)) :=
  va_iald hx hb hK hP 4 3 rfl rfl (vp_in_nI hj (by decide)) hdg (by rw [nI_clamp (Nat.lt_trans hj (by decide))]; exact kk)
theorem xs_exs (hx : p.tables.exec = Jvm.exec) (hb : c.code = cc) (hK : va_K D vwCl (tyX d) s) (hP : va_P D vwCl (wX a d its wts szs exs snt org hit rnd lt) H) (hD : va_D A (wX a d its wts szs exs snt org hit rnd lt)) (hS : va_S A H0 H locs) {j : Nat} {x : Int32} (hj : j < 3) (hdg : decode cc pc = .ok (.iastore, 1)) (kk : ∀ (H1 : Heap) (locs1 : List Loc), va_P D vwCl (wX a d its wts szs (upd exs j x) snt org hit rnd lt) H1 → va_D A (wX a d its wts szs (upd exs j x) snt org hit rnd lt) → va_S A H0 H1 locs1 → W p l e R s m args below meth c H1 locs1 cells slots Q (F0 m (pc + 1) ls rest)) : W p l e R s m args below meth c H locs cells slots Q (F0 m pc ls (.int x :: .int (nI j) :: .ref (a 4) :: rest)) :=
  va_iast hx hb hK hP hD hS 4 3 rfl rfl (vp_in_nI hj (by decide)) hdg (by rw [nI_clamp (Nat.lt_trans hj (by decide))]; exact fun H1 locs1 h1 h2 h3 => kk H1 locs1 h1 h2 h3)
theorem xg_snt (hx : p.tables.exec = Jvm.exec) (hb : c.code = cc) (hts : ∀ w ∈ lw_all, w.before args s = true) (hown : s.vm.findClass RX1 = some m.cls) (hK : va_K D vwCl (tyX d) s) (hP : va_P D vwCl (wX a d its wts szs exs snt org hit rnd lt) H) (hdg : decode cc pc = .ok (.getfield 22, 3)) (kk : W p l e R s m args below meth c H locs cells slots Q (F0 m (pc + 3) ls (.ref (a 5) :: rest))) : W p l e R s m args below meth c H locs cells slots Q (F0 m pc ls (.ref (a 0) :: rest)) :=
  va_get (D := D) (ci := 0) (v := .ref (a 5)) (C := RX1) (T := TX1) (N := 9) hx hb hts in_X1 hown hK hP 0 rfl rfl 4 (by decide) (hts _ q41) (fun _ h9 => h9) rfl hdg kk
theorem xl_snt (hx : p.tables.exec = Jvm.exec) (hb : c.code = cc) (hK : va_K D vwCl (tyX d) s) (hP : va_P D vwCl (wX a d its wts szs exs snt org hit rnd lt) H) {j : Nat} (hj : j < 48) (hdg : decode cc pc = .ok (.iaload, 1)) (kk : W p l e R s m args below meth c H locs cells slots Q (F0 m (pc + 1) ls (.int (snt j) :: rest))) : W p l e R s m args below meth c H locs cells slots Q (F0 m pc ls (.int (nI j) :: .ref (a 5) :: rest)) :=
  va_iald hx hb hK hP 5 4 rfl rfl (vp_in_nI hj (by decide)) hdg (by rw [nI_clamp (Nat.lt_trans hj (by decide))]; exact kk)
theorem xs_snt (hx : p.tables.exec = Jvm.exec) (hb : c.code = cc) (hK : va_K D vwCl (tyX d) s) (hP : va_P D vwCl (wX a d its wts szs exs snt org hit rnd lt) H) (hD : va_D A (wX a d its wts szs exs snt org hit rnd lt)) (hS : va_S A H0 H locs) {j : Nat} {x : Int32} (hj : j < 48) (hdg : decode cc pc = .ok (.iastore, 1)) (kk : ∀ (H1 : Heap) (locs1 : List Loc), va_P D vwCl (wX a d its wts szs exs (upd snt j x) org hit rnd lt) H1 → va_D A (wX a d its wts szs exs (upd snt j x) org hit rnd lt) → va_S A H0 H1 locs1 → W p l e R s m args below meth c H1 locs1 cells slots Q (F0 m (pc + 1) ls rest)) : W p l e R s m args below meth c H locs cells slots Q (F0 m pc ls (.int x :: .int (nI j) :: .ref (a 5) :: rest)) :=
  va_iast hx hb hK hP hD hS 5 4 rfl rfl (vp_in_nI hj (by decide)) hdg (by rw [nI_clamp (Nat.lt_trans hj (by decide))]; exact fun H1 locs1 h1 h2 h3 => kk H1 locs1 h1 h2 h3)
theorem xg_org (hx : p.tables.exec = Jvm.exec) (hb : c.code = cc) (hts : ∀ w ∈ lw_all, w.before args s = true) (hown : s.vm.findClass RX1 = some m.cls) (hK : va_K D vwCl (tyX d) s) (hP : va_P D vwCl (wX a d its wts szs exs snt org hit rnd lt) H) (hdg : decode cc pc = .ok (.getfield 25, 3)) (kk : W p l e R s m args below meth c H locs cells slots Q (F0 m (pc + 3) ls (.ref (a 6) :: rest))) : W p l e R s m args below meth c H locs cells slots Q (F0 m pc ls (.ref (a 0) :: rest)) :=
  va_get (D := D) (ci := 0) (v := .ref (a 6)) (C := RX1) (T := TX1) (N := 9) hx hb hts in_X1 hown hK hP 0 rfl rfl 5 (by decide) (hts _ q42) (fun _ h9 => h9) rfl hdg kk
theorem xl_org (hx : p.tables.exec = Jvm.exec) (hb : c.code = cc) (hK : va_K D vwCl (tyX d) s) (hP : va_P D vwCl (wX a d its wts szs exs snt org hit rnd lt) H) {j : Nat} (hj : j < 48) (hdg : decode cc pc = .ok (.iaload, 1)) (kk : W p l e R s m args below meth c H locs cells slots Q (F0 m (pc + 1) ls (.int (org j) :: rest))) : W p l e R s m args below meth c H locs cells slots Q (F0 m pc ls (.int (nI j) :: .ref (a 6) :: rest)) :=
  va_iald hx hb hK hP 6 5 rfl rfl (vp_in_nI hj (by decide)) hdg (by rw [nI_clamp (Nat.lt_trans hj (by decide))]; exact kk)
theorem xs_org (hx : p.tables.exec = Jvm.exec) (hb : c.code = cc) (hK : va_K D vwCl (tyX d) s) (hP : va_P D vwCl (wX a d its wts szs exs snt org hit rnd lt) H) (hD : va_D A (wX a d its wts szs exs snt org hit rnd lt)) (hS : va_S A H0 H locs) {j : Nat} {x : Int32} (hj : j < 48) (hdg : decode cc pc = .ok (.iastore, 1)) (kk : ∀ (H1 : Heap) (locs1 : List Loc), va_P D vwCl (wX a d its wts szs exs snt (upd org j x) hit rnd lt) H1 → va_D A (wX a d its wts szs exs snt (upd org j x) hit rnd lt) → va_S A H0 H1 locs1 → W p l e R s m args below meth c H1 locs1 cells slots Q (F0 m (pc + 1) ls rest)) : W p l e R s m args below meth c H locs cells slots Q (F0 m pc ls (.int x :: .int (nI j) :: .ref (a 6) :: rest)) :=
  va_iast hx hb hK hP hD hS 6 5 rfl rfl (vp_in_nI hj (by decide)) hdg (by rw [nI_clamp (Nat.lt_trans hj (by decide))]; exact fun H1 locs1 h1 h2 h3 => kk H1 locs1 h1 h2 h3)
theorem xg_hit (hx : p.tables.exec = Jvm.exec) (hb : c.code = cc) (hts : ∀ w ∈ lw_all, w.before args s = true) (hown : s.vm.findClass RX1 = some m.cls) (hK : va_K D vwCl (tyX d) s) (hP : va_P D vwCl (wX a d its wts szs exs snt org hit rnd lt) H) (hdg : decode cc pc = .ok (.getfield 28, 3)) (kk : W p l e R s m args below meth c H locs cells slots Q (F0 m (pc + 3) ls (.ref (a 7) :: rest))) : W p l e R s m args below meth c H locs cells slots Q (F0 m pc ls (.ref (a 0) :: rest)) :=
  va_get (D := D) (ci := 0) (v := .ref (a 7)) (C := RX1) (T := TX1) (N := 9) hx hb hts in_X1 hown hK hP 0 rfl rfl 6 (by decide) (hts _ q43) (fun _ h9 => h9) rfl hdg kk
theorem xl_hit (hx : p.tables.exec = Jvm.exec) (hb : c.code = cc) (hK : va_K D vwCl (tyX d) s) (hP : va_P D vwCl (wX a d its wts szs exs snt org hit rnd lt) H) {j : Nat} (hj : j < 16) (hdg : decode cc pc = .ok (.baload, 1)) (kk : W p l e R s m args below meth c H locs cells slots Q (F0 m (pc + 1) ls (.int (hit j) :: rest))) : W p l e R s m args below meth c H locs cells slots Q (F0 m pc ls (.int (nI j) :: .ref (a 7) :: rest)) :=
  va_zald hx hb hK hP 7 6 rfl rfl (vp_in_nI hj (by decide)) hdg (by rw [nI_clamp (Nat.lt_trans hj (by decide))]; exact kk)
theorem xs_hit (hx : p.tables.exec = Jvm.exec) (hb : c.code = cc) (hK : va_K D vwCl (tyX d) s) (hP : va_P D vwCl (wX a d its wts szs exs snt org hit rnd lt) H) (hD : va_D A (wX a d its wts szs exs snt org hit rnd lt)) (hS : va_S A H0 H locs) {j : Nat} {b : Bool} (hj : j < 16) (hdg : decode cc pc = .ok (.bastore, 1)) (kk : ∀ (H1 : Heap) (locs1 : List Loc), va_P D vwCl (wX a d its wts szs exs snt org (upd hit j (bI b)) rnd lt) H1 → va_D A (wX a d its wts szs exs snt org (upd hit j (bI b)) rnd lt) → va_S A H0 H1 locs1 → W p l e R s m args below meth c H1 locs1 cells slots Q (F0 m (pc + 1) ls rest)) : W p l e R s m args below meth c H locs cells slots Q (F0 m pc ls (.int (bI b) :: .int (nI j) :: .ref (a 7) :: rest)) :=
  va_zast hx hb hK hP hD hS 7 6 rfl rfl (vp_in_nI hj (by decide)) hdg (by rw [nI_clamp (Nat.lt_trans hj (by decide)), bI_nar]; exact fun H1 locs1 h1 h2 h3 => kk H1 locs1 h1 h2 h3)
theorem xg_rnd (hx : p.tables.exec = Jvm.exec) (hb : c.code = cc) (hts : ∀ w ∈ lw_all, w.before args s = true) (hown : s.vm.findClass RX1 = some m.cls) (hK : va_K D vwCl (tyX d) s) (hP : va_P D vwCl (wX a d its wts szs exs snt org hit rnd lt) H) (hdg : decode cc pc = .ok (.getfield 40, 3)) (kk : W p l e R s m args below meth c H locs cells slots Q (F0 m (pc + 3) ls (.int rnd :: rest))) : W p l e R s m args below meth c H locs cells slots Q (F0 m pc ls (.ref (a 0) :: rest)) :=
  va_get (D := D) (ci := 0) (v := .int rnd) (C := RX1) (T := TX1) (N := 9) hx hb hts in_X1 hown hK hP 0 rfl rfl 7 (by decide) (hts _ q44) (fun _ h9 => h9) rfl hdg kk
theorem xp_rnd (hx : p.tables.exec = Jvm.exec) (hb : c.code = cc) (hts : ∀ w ∈ lw_all, w.before args s = true) (hown : s.vm.findClass RX1 = some m.cls) (hK : va_K D vwCl (tyX d) s) (hP : va_P D vwCl (wX a d its wts szs exs snt org hit rnd lt) H) (hD : va_D A (wX a d its wts szs exs snt org hit rnd lt)) (hS : va_S A H0 H locs) {x : Int32} (hdg : decode cc pc = .ok (.putfield 40, 3)) (kk : ∀ (H1 : Heap) (locs1 : List Loc), va_P D vwCl (wX a d its wts szs exs snt org hit x lt) H1 → va_D A (wX a d its wts szs exs snt org hit x lt) → va_S A H0 H1 locs1 → W p l e R s m args below meth c H1 locs1 cells slots Q (F0 m (pc + 3) ls rest)) : W p l e R s m args below meth c H locs cells slots Q (F0 m pc ls (.int x :: .ref (a 0) :: rest)) :=
  va_put (D := D) (ci := 0) (v := .int x) (ty := .int) (C := RX1) (T := TX1) (N := 9) hx hb hts in_X1 tyX1 tyX1_ok nmX1 hown hK hP hD hS 0 rfl rfl 7 (by decide) (hts _ q44) (fun _ h9 => h9) rfl (by decide +kernel) rfl rfl (Nat.le_of_ble_eq_true rfl) hdg (fun H1 locs1 h1 h2 h3 => kk H1 locs1 h1 h2 h3)
theorem xg_lt (hx : p.tables.exec = Jvm.exec) (hb : c.code = cc) (hts : ∀ w ∈ lw_all, w.before args s = true) (hown : s.vm.findClass RX1 = some m.cls) (hK : va_K D vwCl (tyX d) s) (hP : va_P D vwCl (wX a d its wts szs exs snt org hit rnd lt) H) (hdg : decode cc pc = .ok (.getfield 74, 3)) (kk : W p l e R s m args below meth c H locs cells slots Q (F0 m (pc + 3) ls (.int lt :: rest))) : W p l e R s m args below meth c H locs cells slots Q (F0 m pc ls (.ref (a 0) :: rest)) :=
  va_get (D := D) (ci := 0) (v := .int lt) (C := RX1) (T := TX1) (N := 9) hx hb hts in_X1 hown hK hP 0 rfl rfl 8 (by decide) (hts _ q45) (fun _ h9 => h9) rfl hdg kk
theorem xp_lt (hx : p.tables.exec = Jvm.exec) (hb : c.code = cc) (hts : ∀ w ∈ lw_all, w.before args s = true) (hown : s.vm.findClass RX1 = some m.cls) (hK : va_K D vwCl (tyX d) s) (hP : va_P D vwCl (wX a d its wts szs exs snt org hit rnd lt) H) (hD : va_D A (wX a d its wts szs exs snt org hit rnd lt)) (hS : va_S A H0 H locs) {x : Int32} (hdg : decode cc pc = .ok (.putfield 74, 3)) (kk : ∀ (H1 : Heap) (locs1 : List Loc), va_P D vwCl (wX a d its wts szs exs snt org hit rnd x) H1 → va_D A (wX a d its wts szs exs snt org hit rnd x) → va_S A H0 H1 locs1 → W p l e R s m args below meth c H1 locs1 cells slots Q (F0 m (pc + 3) ls rest)) : W p l e R s m args below meth c H locs cells slots Q (F0 m pc ls (.int x :: .ref (a 0) :: rest)) :=
  va_put (D := D) (ci := 0) (v := .int x) (ty := .int) (C := RX1) (T := TX1) (N := 9) hx hb hts in_X1 tyX1 tyX1_ok nmX1 hown hK hP hD hS 0 rfl rfl 8 (by decide) (hts _ q45) (fun _ h9 => h9) rfl (by decide +kernel) rfl rfl (Nat.le_of_ble_eq_true rfl) hdg (fun H1 locs1 h1 h2 h3 => kk H1 locs1 h1 h2 h3)
end XROWS
section MROWS
variable {p : Program} {l : Launch} {e : Env} {R : Room} {s : State} {m : MethodId} {args : Array Value} {below : List Frame} {meth : Method} {c : Code} {H : Heap} {locs : List Loc} {cells slots : Nat} {Q : State → Prop}
variable {cc : ByteArray} {pc : Nat} {ls : Array Slot} {rest : List Value} {D : va_G} {A : Nat → Prop} {H0 : Heap}
variable {a : Nat → Nat} {d : Nat → ClassId} {has wgt : Nat → Int32} {sen : Int32}
theorem mg_has (hx : p.tables.exec = Jvm.exec) (hb : c.code = cc) (hts : ∀ w ∈ lw_all, w.before args s = true) (hown : s.vm.findClass RX2 = some m.cls) (hK : va_K D vwCl (tyM d) s) (hP : va_P D vwCl (wM a d has wgt sen) H) (hdg : decode cc pc = .ok (.getfield 7, 3)) (kk : W p l e R s m args below meth c H locs cells slots Q (F0 m (pc + 3) ls (.ref (a 1) :: rest))) : W p l e R s m args below meth c H locs cells slots Q (F0 m pc ls (.ref (a 0) :: rest)) :=
  va_get (D := D) (ci := 1) (v := .ref (a 1)) (C := RX2) (T := TX2) (N := 3) hx hb hts in_X2 hown hK hP 0 rfl rfl 0 (by decide) (hts _ q193) (fun _ h9 => h9) rfl hdg kk
theorem ml_has (hx : p.tables.exec = Jvm.exec) (hb : c.code = cc) (hK : va_K D vwCl (tyM d) s) (hP : va_P D vwCl (wM a d has wgt sen) H) {j : Nat} (hj : j < 192) (hdg : decode cc pc = .ok (.baload, 1)) (kk : W p l e R s m args below meth c H locs cells slots Q (F0 m (pc + 1) ls (.int (has j) :: rest))) : W p l e R s m args below meth c H locs cells slots Q (F0 m pc ls (.int (nI j) :: .ref (a 1) :: rest)) :=
  va_zald hx hb hK hP 1 0 rfl rfl (vp_in_nI hj (by decide)) hdg (by rw [nI_clamp (Nat.lt_trans hj (by decide))]; exact kk)
theorem ms_has (hx : p.tables.exec = Jvm.exec) (hb : c.code = cc) (hK : va_K D vwCl (tyM d) s) (hP : va_P D vwCl (wM a d has wgt sen) H) (hD : va_D A (wM a d has wgt sen)) (hS : va_S A H0 H locs) {j : Nat} {b : Bool} (hj : j < 192) (hdg : decode cc pc = .ok (.bastore, 1)) (kk : ∀ (H1 : Heap) (locs1 : List Loc), va_P D vwCl (wM a d (upd has j (bI b)) wgt sen) H1 → va_D A (wM a d (upd has j (bI b)) wgt sen) → va_S A H0 H1 locs1 → W p l e R s m args below meth c H1 locs1 cells slots Q (F0 m (pc + 1) ls rest)) : W p l e R s m args below meth c H locs cells slots Q (F0 m pc ls (.int (bI b) :: .int (nI j) :: .ref (a 1) :: rest)) :=
  va_zast hx hb hK hP hD hS 1 0 rfl rfl (vp_in_nI hj (by decide)) hdg (by rw [nI_clamp (Nat.lt_trans hj (by decide)), bI_nar]; exact fun H1 locs1 h1 h2 h3 => kk H1 locs1 h1 h2 h3)
theorem mg_wgt (hx : p.tables.exec = Jvm.exec) (hb : c.code = cc) (hts : ∀ w ∈ lw_all, w.before args s = true) (hown : s.vm.findClass RX2 = some m.cls) (hK : va_K D vwCl (tyM d) s) (hP : va_P D vwCl (wM a d has wgt sen) H) (hdg : decode cc pc = .ok (.getfield 13, 3)) (kk : W p l e R s m args below meth c H locs cells slots Q (F0 m (pc + 3) ls (.ref (a 2) :: rest))) : W p l e R s m args below meth c H locs cells slots Q (F0 m pc ls (.ref (a 0) :: rest)) :=
  va_get (D := D) (ci := 1) (v := .ref (a 2)) (C := RX2) (T := TX2) (N := 3) hx hb hts in_X2 hown hK hP 0 rfl rfl 1 (by decide) (hts _ q194) (fun _ h9 => h9) rfl hdg kk
theorem ml_wgt (hx : p.tables.exec = Jvm.exec) (hb : c.code = cc) (hK : va_K D vwCl (tyM d) s) (hP : va_P D vwCl (wM a d has wgt sen) H) {j : Nat} (hj : j < 192) (hdg : decode cc pc = .ok (.iaload, 1)) (kk : W p l e R s m args below meth c H locs cells slots Q (F0 m (pc + 1) ls (.int (wgt j) :: rest))) : W p l e R s m args below meth c H locs cells slots Q (F0 m pc ls (.int (nI j) :: .ref (a 2) :: rest)) :=
  va_iald hx hb hK hP 2 1 rfl rfl (vp_in_nI hj (by decide)) hdg (by rw [nI_clamp (Nat.lt_trans hj (by decide))]; exact kk)
theorem ms_wgt (hx : p.tables.exec = Jvm.exec) (hb : c.code = cc) (hK : va_K D vwCl (tyM d) s) (hP : va_P D vwCl (wM a d has wgt sen) H) (hD : va_D A (wM a d has wgt sen)) (hS : va_S A H0 H locs) {j : Nat} {x : Int32} (hj : j < 192) (hdg : decode cc pc = .ok (.iastore, 1)) (kk : ∀ (H1 : Heap) (locs1 : List Loc), va_P D vwCl (wM a d has (upd wgt j x) sen) H1 → va_D A (wM a d has (upd wgt j x) sen) → va_S A H0 H1 locs1 → W p l e R s m args below meth c H1 locs1 cells slots Q (F0 m (pc + 1) ls rest)) : W p l e R s m args below meth c H locs cells slots Q (F0 m pc ls (.int x :: .int (nI j) :: .ref (a 2) :: rest)) :=
  va_iast hx hb hK hP hD hS 2 1 rfl rfl (vp_in_nI hj (by decide)) hdg (by rw [nI_clamp (Nat.lt_trans hj (by decide))]; exact fun H1 locs1 h1 h2 h3 => kk H1 locs1 h1 h2 h3)
theorem mg_sen (hx : p.tables.exec = Jvm.exec) (hb : c.code = cc) (hts : ∀ w ∈ lw_all, w.before args s = true) (hown : s.vm.findClass RX2 = some m.cls) (hK : va_K D vwCl (tyM d) s) (hP : va_P D vwCl (wM a d has wgt sen) H) (hdg : decode cc pc = .ok (.getfield 36, 3)) (kk : W p l e R s m args below meth c H locs cells slots Q (F0 m (pc + 3) ls (.int sen :: rest))) : W p l e R s m args below meth c H locs cells slots Q (F0 m pc ls (.ref (a 0) :: rest)) :=
  va_get (D := D) (ci := 1) (v := .int sen) (C := RX2) (T := TX2) (N := 3) hx hb hts in_X2 hown hK hP 0 rfl rfl 2 (by decide) (hts _ q195) (fun _ h9 => h9) rfl hdg kk
theorem mp_sen (hx : p.tables.exec = Jvm.exec) (hb : c.code = cc) (hts : ∀ w ∈ lw_all, w.before args s = true) (hown : s.vm.findClass RX2 = some m.cls) (hK : va_K D vwCl (tyM d) s) (hP : va_P D vwCl (wM a d has wgt sen) H) (hD : va_D A (wM a d has wgt sen)) (hS : va_S A H0 H locs) {x : Int32} (hdg : decode cc pc = .ok (.putfield 36, 3)) (kk : ∀ (H1 : Heap) (locs1 : List Loc), va_P D vwCl (wM a d has wgt x) H1 → va_D A (wM a d has wgt x) → va_S A H0 H1 locs1 → W p l e R s m args below meth c H1 locs1 cells slots Q (F0 m (pc + 3) ls rest)) : W p l e R s m args below meth c H locs cells slots Q (F0 m pc ls (.int x :: .ref (a 0) :: rest)) :=
  va_put (D := D) (ci := 1) (v := .int x) (ty := .int) (C := RX2) (T := TX2) (N := 3) hx hb hts in_X2 tyX2 tyX2_ok nmX2 hown hK hP hD hS 0 rfl rfl 2 (by decide) (hts _ q195) (fun _ h9 => h9) rfl (by decide +kernel) rfl rfl (Nat.le_of_ble_eq_true rfl) hdg (fun H1 locs1 h1 h2 h3 => kk H1 locs1 h1 h2 h3)
end MROWS
end
section
set_option maxHeartbeats 4000000 in
set_option maxRecDepth 100000 in
theorem met_isParty (l : Launch) (p0 : Int32) : Met l yX1_isParty (ws_ yX1_isParty cX1_isParty 1 (some .boolean)) ({ frames := 0, cells := 0, slots := 0, locals := 0 } : Room) (va_Pc [.int p0] (fun _ => True)) (vp_Si (fun r => (r = nI 1 ∧ ∃ P, P < 3 ∧ p0 = nI P) ∨ (r = nI 0 ∧ ∀ P, P < 3 → p0 ≠ nI P))) 0 0 (fun _ => False) := by
  refine Met.ofW (cc := cX1_isParty) (maxL := 1) (ret := (some .boolean)) (by decide) rfl ?_
  intro p e s m args below meth c s₁ B hml hv
  obtain ⟨rfl, -⟩ := hv
  have hx := B.exec
  have hb := B.bytes
  have hr := B.returns
  have hlocks := B.notSynchronized
  have hts := atoms_spec (ws := ws_ yX1_isParty cX1_isParty 1 (some .boolean)) B.pre
  have hts : ∀ w ∈ lw_all, w.before _ s = true := fun w h => hts w (List.mem_cons_of_mem _ h)
  have hown : s.vm.findClass RX1 = some m.cls := findClass_of_methodNamed B.named
  have hl := lv_entry ([.int p0]) (n := 1) (Nat.le_of_ble_eq_true rfl)
  rw [lg_entry_eq]
  generalize (lg_sl ([.int p0]) ++ List.replicate (1 - (lg_sl ([.int p0])).length) Slot.unset).toArray = ls at hl ⊢
  have hl : lv_has ls 1 [(0, .int p0)] := hl
  refine lv_iload_n hx hb dX1_isParty_0 rfl (lv_at hl 0 rfl) ?_
  refine lv_if_lt (tgt := 13) hx hb dX1_isParty_1 (by decide) (fun c1 => ?_) (fun c1 => ?_)
  · refine lv_iconst (v := nI 0) hx hb dX1_isParty_13 (by decide) ?_
    exact W.zret (v := nI 0) hx hb hr rfl (fun t_ ht_ hW_ => ⟨_, rfl, Or.inr ⟨rfl, out_neg (by decide) c1⟩, ht_⟩) (fun _ h => absurd h List.not_mem_nil) dX1_isParty_14
  · refine lv_iload_n hx hb dX1_isParty_4 rfl (lv_at hl 0 rfl) ?_
    refine lv_iconst (v := nI 2) hx hb dX1_isParty_5 (by decide) ?_
    refine lv_icmp_gt (tgt := 13) hx hb dX1_isParty_6 (by decide) (fun c2 => ?_) (fun c2 => ?_)
    · refine lv_iconst (v := nI 0) hx hb dX1_isParty_13 (by decide) ?_
      exact W.zret (v := nI 0) hx hb hr rfl (fun t_ ht_ hW_ => ⟨_, rfl, Or.inr ⟨rfl, out_gt (by decide) c2⟩, ht_⟩) (fun _ h => absurd h List.not_mem_nil) dX1_isParty_14
    · refine lv_iconst (v := nI 1) hx hb dX1_isParty_9 (by decide) ?_
      refine lv_goto (tgt := 14) hx hb dX1_isParty_10 (by decide) ?_
      exact W.zret (v := nI 1) hx hb hr rfl (fun t_ ht_ hW_ => ⟨_, rfl, Or.inl ⟨rfl, in_le (by decide) c1 c2⟩, ht_⟩) (fun _ h => absurd h List.not_mem_nil) dX1_isParty_14
set_option maxHeartbeats 4000000 in
set_option maxRecDepth 100000 in
theorem met_isItem (l : Launch) (p0 : Int32) : Met l yX1_isItem (ws_ yX1_isItem cX1_isItem 1 (some .boolean)) ({ frames := 0, cells := 0, slots := 0, locals := 0 } : Room) (va_Pc [.int p0] (fun _ => True)) (vp_Si (fun r => (r = nI 1 ∧ ∃ P, P < 64 ∧ p0 = nI P) ∨ (r = nI 0 ∧ ∀ P, P < 64 → p0 ≠ nI P))) 0 0 (fun _ => False) := by
  refine Met.ofW (cc := cX1_isItem) (maxL := 1) (ret := (some .boolean)) (by decide) rfl ?_
  intro p e s m args below meth c s₁ B hml hv
  obtain ⟨rfl, -⟩ := hv
  have hx := B.exec
  have hb := B.bytes
  have hr := B.returns
  have hlocks := B.notSynchronized
  have hts := atoms_spec (ws := ws_ yX1_isItem cX1_isItem 1 (some .boolean)) B.pre
  have hts : ∀ w ∈ lw_all, w.before _ s = true := fun w h => hts w (List.mem_cons_of_mem _ h)
  have hown : s.vm.findClass RX1 = some m.cls := findClass_of_methodNamed B.named
  have hl := lv_entry ([.int p0]) (n := 1) (Nat.le_of_ble_eq_true rfl)
  rw [lg_entry_eq]
  generalize (lg_sl ([.int p0]) ++ List.replicate (1 - (lg_sl ([.int p0])).length) Slot.unset).toArray = ls at hl ⊢
  have hl : lv_has ls 1 [(0, .int p0)] := hl
  refine lv_iload_n hx hb dX1_isItem_0 rfl (lv_at hl 0 rfl) ?_
  refine lv_if_lt (tgt := 14) hx hb dX1_isItem_1 (by decide) (fun c1 => ?_) (fun c1 => ?_)
  · refine lv_iconst (v := nI 0) hx hb dX1_isItem_14 (by decide) ?_
    exact W.zret (v := nI 0) hx hb hr rfl (fun t_ ht_ hW_ => ⟨_, rfl, Or.inr ⟨rfl, out_neg (by decide) c1⟩, ht_⟩) (fun _ h => absurd h List.not_mem_nil) dX1_isItem_15
  · refine lv_iload_n hx hb dX1_isItem_4 rfl (lv_at hl 0 rfl) ?_
    refine lv_bipush (v := nI 64) hx hb dX1_isItem_5 (by decide) ?_
    refine lv_icmp_ge (tgt := 14) hx hb dX1_isItem_7 (by decide) (fun c2 => ?_) (fun c2 => ?_)
    · refine lv_iconst (v := nI 0) hx hb dX1_isItem_14 (by decide) ?_
      exact W.zret (v := nI 0) hx hb hr rfl (fun t_ ht_ hW_ => ⟨_, rfl, Or.inr ⟨rfl, out_ge (by decide) c2⟩, ht_⟩) (fun _ h => absurd h List.not_mem_nil) dX1_isItem_15
    · refine lv_iconst (v := nI 1) hx hb dX1_isItem_10 (by decide) ?_
      refine lv_goto (tgt := 15) hx hb dX1_isItem_11 (by decide) ?_
      exact W.zret (v := nI 1) hx hb hr rfl (fun t_ ht_ hW_ => ⟨_, rfl, Or.inl ⟨rfl, in_lt (by decide) c1 c2⟩, ht_⟩) (fun _ h => absurd h List.not_mem_nil) dX1_isItem_15
set_option maxHeartbeats 4000000 in
set_option maxRecDepth 100000 in
theorem met_find (l : Launch) (D : va_G) (a : Nat → Nat) (d : Nat → ClassId) (its wts szs exs snt org hit : Nat → Int32) (rnd lt : Int32) (S : Nat → Nat → Bool) (w : Nat → Nat → Int32) (P I : Nat) (hP3 : P < 3) (hI : I < 64) (hi : XI S w its wts szs) : Met l yX1_find (ws_ yX1_find cX1_find 4 (some .int)) ({ frames := 0, cells := 0, slots := 0, locals := 0 } : Room) (va_Pc [.ref (a 0), .int (nI P), .int (nI I)] (fun U => va_P D vwCl (wX a d its wts szs exs snt org hit rnd lt) U.heap ∧ va_K D vwCl (tyX d) U)) (vp_Si (fun r => r = if S P I = true then nI (16 * P + fb_ct (S P) I) else -1)) 0 0 (fun _ => False) := by
  refine Met.ofW (cc := cX1_find) (maxL := 4) (ret := (some .int)) (by decide) rfl ?_
  intro p e s m args below meth c s₁ B hml hv
  obtain ⟨rfl, hP, hK⟩ := hv
  have hx := B.exec
  have hb := B.bytes
  have hr := B.returns
  have hlocks := B.notSynchronized
  have hts := atoms_spec (ws := ws_ yX1_find cX1_find 4 (some .int)) B.pre
  have hts : ∀ w ∈ lw_all, w.before _ s = true := fun w h => hts w (List.mem_cons_of_mem _ h)
  have hown : s.vm.findClass RX1 = some m.cls := findClass_of_methodNamed B.named
  have hl := lv_entry ([.ref (a 0), .int (nI P), .int (nI I)]) (n := 4) (Nat.le_of_ble_eq_true rfl)
  rw [lg_entry_eq]
  generalize (lg_sl ([.ref (a 0), .int (nI P), .int (nI I)]) ++ List.replicate (4 - (lg_sl ([.ref (a 0), .int (nI P), .int (nI I)])).length) Slot.unset).toArray = ls at hl ⊢
  have hl : lv_has ls 4 [(0, .ref (a 0)), (1, .int (nI P)), (2, .int (nI I))] := hl
  obtain ⟨hs, h16, hf⟩ := hi P hP3
  refine lv_bipush (v := nI 16) hx hb dX1_find_0 (by decide) ?_
  refine lv_iload_n hx hb dX1_find_2 rfl (lv_at hl 1 rfl) ?_
  refine lv_imul hx hb dX1_find_3 ?_
  refine xr_set (y := nI (16 * P)) (pk_mul _ _) ?_
  refine lv_istore_n (lv' := [(3, .int (nI (16 * P))), (0, .ref (a 0)), (1, .int (nI P)), (2, .int (nI I))]) hx hb dX1_find_4 rfl hl (by decide) rfl (fun ls hl => ?_)
  have loop : ∀ (q : Nat) (k : Nat), fb_ct (S P) 64 < k + q → (k ≤ fb_ct (S P) 64) → (∀ j, j < k → its (16 * P + j) ≠ nI I) → ∀ (ls : Array Slot), lv_has ls 4 [(3, .int (nI (16 * P + k))), (0, .ref (a 0)), (1, .int (nI P)), (2, .int (nI I))] → W p l e (headSpec (ws_ yX1_find cX1_find 4 (some .int)) ({ frames := 0, cells := 0, slots := 0, locals := 0 } : Room)).room s m ([.ref (a 0), .int (nI P), .int (nI I)] : List Value).toArray below meth c s.heap [] 0 0 (MQ below (vp_Si (fun r => r = if S P I = true then nI (16 * P + fb_ct (S P) I) else -1)) ([.ref (a 0), .int (nI P), .int (nI I)] : List Value).toArray s 0 0 (fun _ => False)) (F0 m 5 ls []) := by
    intro q
    induction q with
    | zero =>
      intro k hq hk hno
      exact absurd hq (by omega)
    | succ q ih =>
      intro k hq hk hno ls hl
      refine lv_iload_n hx hb dX1_find_5 rfl (lv_at hl 0 rfl) ?_
      refine lv_bipush (v := nI 16) hx hb dX1_find_6 (by decide) ?_
      refine lv_iload_n hx hb dX1_find_8 rfl (lv_at hl 2 rfl) ?_
      refine lv_imul hx hb dX1_find_9 ?_
      refine xr_set (y := nI (16 * P)) (pk_mul _ _) ?_
      refine lv_aload_n hx hb dX1_find_10 rfl (lv_at hl 1 rfl) ?_
      refine xg_szs hx hb hts hown hK hP dX1_find_11 ?_
      refine lv_iload_n hx hb dX1_find_14 rfl (lv_at hl 2 rfl) ?_
      refine xl_szs hx hb hK hP (j := P) (by omega) dX1_find_15 ?_
      refine xr_set (y := nI (fb_ct (S P) 64)) hs ?_
      refine lv_iadd hx hb dX1_find_16 ?_
      refine xr_set (y := nI ((16 * P) + (fb_ct (S P) 64))) (nI_add _ _) ?_
      refine xb_ge (tgt := 38) hx hb dX1_find_17 (by decide) (by omega) (by omega) (fun c1 => ?_) (fun c1 => ?_)
      · refine lv_iconst (v := (-1)) hx hb dX1_find_38 (by decide) ?_
        exact W.iret (v := (-1)) hx hb hr (fun t_ ht_ hW_ => ⟨_, rfl, by
          have hn : S P I = false := by
            cases hS : S P I
            · rfl
            · exact absurd (hf I hI hS).1 (hno _ (Nat.lt_of_lt_of_le (ct_lt hS hI) (by omega)))
          rw [hn]
          rfl, ht_⟩) (fun _ h => absurd h List.not_mem_nil) dX1_find_39
      · refine lv_aload_n hx hb dX1_find_20 rfl (lv_at hl 1 rfl) ?_
        refine xg_its hx hb hts hown hK hP dX1_find_21 ?_
        refine lv_iload_n hx hb dX1_find_24 rfl (lv_at hl 0 rfl) ?_
        refine xl_its hx hb hK hP (j := (16 * P + k)) (by omega) dX1_find_25 ?_
        refine lv_iload_n hx hb dX1_find_26 rfl (lv_at hl 3 rfl) ?_
        refine lv_icmp_ne (tgt := 32) hx hb dX1_find_27 (by decide) (fun c2 => ?_) (fun c2 => ?_)
        · refine lv_iinc (v := nI ((16 * P + k) + 1)) (lv' := [(3, .int (nI ((16 * P + k) + 1))), (0, .ref (a 0)), (1, .int (nI P)), (2, .int (nI I))]) hx hb dX1_find_32 hl (k := 0) rfl (nI_1 _) (by decide) rfl (fun ls hl => ?_)
          refine lv_goto (tgt := 5) hx hb dX1_find_35 (by decide) ?_
          exact ih (k + 1) (by omega) (by omega) (fun j hj => by
            rcases Nat.lt_or_ge j k with q1 | q1
            · exact hno j q1
            · rw [show j = k by omega]
              exact c2) ls (lv_sub hl [0, 1, 2, 3] rfl)
        · refine lv_iload_n hx hb dX1_find_30 rfl (lv_at hl 0 rfl) ?_
          exact W.iret (v := nI (16 * P + k)) hx hb hr (fun t_ ht_ hW_ => ⟨_, rfl, by
            obtain ⟨i, h1, h2, h3⟩ := fb_ct_kth (show k < fb_ct (S P) 64 by omega)
            have h4 := (hf i h1 h2).1
            rw [h3, c2] at h4
            have h5 := nI_inj (by omega) (by omega) h4
            rw [h5, h2, h3]
            rfl, ht_⟩) (fun _ h => absurd h List.not_mem_nil) dX1_find_31
  exact loop (fb_ct (S P) 64 + 1) 0 (by omega) (Nat.zero_le _) (fun j hj => absurd hj (Nat.not_lt_zero j)) ls (lv_sub hl [0, 1, 2, 3] rfl)
set_option maxHeartbeats 4000000 in
set_option maxRecDepth 100000 in
theorem met_insert (l : Launch) (sz : Nat) (D : va_G) (a : Nat → Nat) (d : Nat → ClassId) (its wts szs exs snt org hit : Nat → Int32) (rnd lt : Int32) (S : Nat → Nat → Bool) (w : Nat → Nat → Int32) (P I : Nat) (hP3 : P < 3) (hI : I < 64) (hi : XI S w its wts szs) (hno : S P I = false) (hlt : fb_ct (S P) 64 < 16) : Met l yX1_insert (ws_ yX1_insert cX1_insert 4 (some .int)) ({ frames := 0, cells := 0, slots := 0, locals := 0 } : Room) (va_Pc [.ref (a 0), .int (nI P), .int (nI I)] (fun U => U.heap.size = sz ∧ va_P D vwCl (wX a d its wts szs exs snt org hit rnd lt) U.heap ∧ va_K D vwCl (tyX d) U ∧ va_D (fun _ => True) (wX a d its wts szs exs snt org hit rnd lt))) (QXi D d (va_A (wX a d its wts szs exs snt org hit rnd lt) sz) (fun u : (Nat → Int32) × (Nat → Int32) × (Nat → Int32) => wX a d u.1 u.2.1 u.2.2 exs snt org hit rnd lt) (fun r u => match u with | (f, g, h) => r = nI (16 * P + fb_ct (S P) I) ∧ f = upd (shf its (16 * P) (fb_ct (S P) I) (fb_ct (S P) 64)) (16 * P + fb_ct (S P) I) (nI I) ∧ g = shf wts (16 * P) (fb_ct (S P) I) (fb_ct (S P) 64) ∧ h = upd szs P (nI (fb_ct (S P) 64 + 1)))) 0 0 (va_A (wX a d its wts szs exs snt org hit rnd lt) sz) := by
  refine Met.ofW (cc := cX1_insert) (maxL := 4) (ret := (some .int)) (by decide) rfl ?_
  intro p e s m args below meth c s₁ B hml hv
  obtain ⟨rfl, hsz, hP, hK, hD0⟩ := hv
  have hx := B.exec
  have hb := B.bytes
  have hr := B.returns
  have hlocks := B.notSynchronized
  have hts := atoms_spec (ws := ws_ yX1_insert cX1_insert 4 (some .int)) B.pre
  have hts : ∀ w ∈ lw_all, w.before _ s = true := fun w h => hts w (List.mem_cons_of_mem _ h)
  have hown : s.vm.findClass RX1 = some m.cls := findClass_of_methodNamed B.named
  subst hsz
  have hD := hD0.self (sz := s.heap.size)
  generalize hAe : va_A (wX a d its wts szs exs snt org hit rnd lt) s.heap.size = A at hD ⊢
  have hA : ∀ q : Nat, s.heap.size ≤ q → A q := fun q h => by rw [← hAe]; exact Or.inr h
  have hS : va_S A s.heap s.heap [] := va_S.rf
  have hl := lv_entry ([.ref (a 0), .int (nI P), .int (nI I)]) (n := 4) (Nat.le_of_ble_eq_true rfl)
  rw [lg_entry_eq]
  generalize (lg_sl ([.ref (a 0), .int (nI P), .int (nI I)]) ++ List.replicate (4 - (lg_sl ([.ref (a 0), .int (nI P), .int (nI I)])).length) Slot.unset).toArray = ls at hl ⊢
  have hl : lv_has ls 4 [(0, .ref (a 0)), (1, .int (nI P)), (2, .int (nI I))] := hl
  obtain ⟨hs, h16, hf⟩ := hi P hP3
  refine lv_bipush (v := nI 16) hx hb dX1_insert_0 (by decide) ?_
  refine lv_iload_n hx hb dX1_insert_2 rfl (lv_at hl 1 rfl) ?_
  refine lv_imul hx hb dX1_insert_3 ?_
  refine xr_set (y := nI (16 * P)) (pk_mul _ _) ?_
  refine lv_aload_n hx hb dX1_insert_4 rfl (lv_at hl 0 rfl) ?_
  refine xg_szs hx hb hts hown hK hP dX1_insert_5 ?_
  refine lv_iload_n hx hb dX1_insert_8 rfl (lv_at hl 1 rfl) ?_
  refine xl_szs hx hb hK hP (j := P) (by omega) dX1_insert_9 ?_
  refine xr_set (y := nI (fb_ct (S P) 64)) hs ?_
  refine lv_iadd hx hb dX1_insert_10 ?_
  refine xr_set (y := nI ((16 * P) + (fb_ct (S P) 64))) (nI_add _ _) ?_
  refine lv_istore_n (lv' := [(3, .int (nI ((16 * P) + (fb_ct (S P) 64)))), (0, .ref (a 0)), (1, .int (nI P)), (2, .int (nI I))]) hx hb dX1_insert_11 rfl hl (by decide) rfl (fun ls hl => ?_)
  have loop : ∀ (q : Nat) (k : Nat) (f g : Nat → Int32), k < q → (k ≤ fb_ct (S P) 64) → (f = shf its (16 * P) k (fb_ct (S P) 64)) → (g = shf wts (16 * P) k (fb_ct (S P) 64)) → (∀ i, i < 64 → S P i = true → k ≤ fb_ct (S P) i → I < i) → ∀ (H : Heap) (locs : List Loc), va_P D vwCl (wX a d f g szs exs snt org hit rnd lt) H → va_D A (wX a d f g szs exs snt org hit rnd lt) → va_S A s.heap H locs → ∀ (ls : Array Slot), lv_has ls 4 [(3, .int (nI (16 * P + k))), (0, .ref (a 0)), (1, .int (nI P)), (2, .int (nI I))] → W p l e (headSpec (ws_ yX1_insert cX1_insert 4 (some .int)) ({ frames := 0, cells := 0, slots := 0, locals := 0 } : Room)).room s m ([.ref (a 0), .int (nI P), .int (nI I)] : List Value).toArray below meth c H locs 0 0 (MQ below (QXi D d A (fun u : (Nat → Int32) × (Nat → Int32) × (Nat → Int32) => wX a d u.1 u.2.1 u.2.2 exs snt org hit rnd lt) (fun r u => match u with | (f, g, h) => r = nI (16 * P + fb_ct (S P) I) ∧ f = upd (shf its (16 * P) (fb_ct (S P) I) (fb_ct (S P) 64)) (16 * P + fb_ct (S P) I) (nI I) ∧ g = shf wts (16 * P) (fb_ct (S P) I) (fb_ct (S P) 64) ∧ h = upd szs P (nI (fb_ct (S P) 64 + 1)))) ([.ref (a 0), .int (nI P), .int (nI I)] : List Value).toArray s 0 0 A) (F0 m 12 ls []) := by
    intro q
    induction q with
    | zero =>
      intro k f g hq hk ef eg hgt
      exact absurd hq (by omega)
    | succ q ih =>
      intro k f g hq hk ef eg hgt H locs hP hD hS ls hl
      refine lv_iload_n hx hb dX1_insert_12 rfl (lv_at hl 0 rfl) ?_
      refine lv_bipush (v := nI 16) hx hb dX1_insert_13 (by decide) ?_
      refine lv_iload_n hx hb dX1_insert_15 rfl (lv_at hl 2 rfl) ?_
      refine lv_imul hx hb dX1_insert_16 ?_
      refine xr_set (y := nI (16 * P)) (pk_mul _ _) ?_
      refine xb_le (tgt := 66) hx hb dX1_insert_17 (by decide) (by omega) (by omega) (fun c1 => ?_) (fun c1 => ?_)
      · have hkI : fb_ct (S P) I = k := ins_at hno hgt (Or.inl (by omega)) hI
        refine lv_aload_n hx hb dX1_insert_66 rfl (lv_at hl 1 rfl) ?_
        refine xg_its hx hb hts hown hK hP dX1_insert_67 ?_
        refine lv_iload_n hx hb dX1_insert_70 rfl (lv_at hl 0 rfl) ?_
        refine lv_iload_n hx hb dX1_insert_71 rfl (lv_at hl 3 rfl) ?_
        refine xs_its hx hb hK hP hD hS (j := (16 * P + k)) (by omega) dX1_insert_72 (fun H locs hP hD hS => ?_)
        refine lv_aload_n hx hb dX1_insert_73 rfl (lv_at hl 1 rfl) ?_
        refine xg_szs hx hb hts hown hK hP dX1_insert_74 ?_
        refine lv_iload_n hx hb dX1_insert_77 rfl (lv_at hl 2 rfl) ?_
        refine lv_dup2_11 hx hb dX1_insert_78 rfl rfl ?_
        refine xl_szs hx hb hK hP (j := P) (by omega) dX1_insert_79 ?_
        refine xr_set (y := nI (fb_ct (S P) 64)) hs ?_
        refine lv_iconst (v := nI 1) hx hb dX1_insert_80 (by decide) ?_
        refine lv_iadd hx hb dX1_insert_81 ?_
        refine xr_set (y := nI ((fb_ct (S P) 64) + 1)) (nI_add _ _) ?_
        refine xs_szs hx hb hK hP hD hS (j := P) (by omega) dX1_insert_82 (fun H locs hP hD hS => ?_)
        refine lv_iload_n hx hb dX1_insert_83 rfl (lv_at hl 0 rfl) ?_
        exact W.iret (v := nI (16 * P + k)) hx hb hr (fun t_ ht_ hW_ => ⟨⟨_, (upd f (16 * P + k) (nI I), g, upd szs P (nI ((fb_ct (S P) 64) + 1))), rfl, ⟨by rw [hkI], by rw [hkI, ef], by rw [hkI, eg], rfl⟩, by rw [ht_]; exact hP, va_K.moved hW_.alike hK, hD⟩, hS.F ht_⟩) hS.2.2 dX1_insert_84
      · obtain ⟨i, hi64, hSi, hci⟩ := fb_ct_kth (show k - 1 < fb_ct (S P) 64 by omega)
        have hfi : f (16 * P + k - 1) = nI i := by
          rw [ef, shf_lo (by omega), show 16 * P + k - 1 = 16 * P + (k - 1) by omega, ← hci]
          exact (hf i hi64 hSi).1
        refine lv_aload_n hx hb dX1_insert_20 rfl (lv_at hl 1 rfl) ?_
        refine xg_its hx hb hts hown hK hP dX1_insert_21 ?_
        refine lv_iload_n hx hb dX1_insert_24 rfl (lv_at hl 0 rfl) ?_
        refine lv_iconst (v := nI 1) hx hb dX1_insert_25 (by decide) ?_
        refine lv_isub hx hb dX1_insert_26 ?_
        refine xr_set (y := nI ((16 * P + k) - 1)) (pk_sub (by omega)) ?_
        refine xl_its hx hb hK hP (j := ((16 * P + k) - 1)) (by omega) dX1_insert_27 ?_
        refine xr_set (y := nI i) hfi ?_
        refine lv_iload_n hx hb dX1_insert_28 rfl (lv_at hl 3 rfl) ?_
        refine xb_le (tgt := 66) hx hb dX1_insert_29 (by decide) (by omega) (by omega) (fun c2 => ?_) (fun c2 => ?_)
        · have hkI : fb_ct (S P) I = k := ins_at hno hgt (Or.inr ⟨i, hi64, hSi, by omega, c2⟩) hI
          refine lv_aload_n hx hb dX1_insert_66 rfl (lv_at hl 1 rfl) ?_
          refine xg_its hx hb hts hown hK hP dX1_insert_67 ?_
          refine lv_iload_n hx hb dX1_insert_70 rfl (lv_at hl 0 rfl) ?_
          refine lv_iload_n hx hb dX1_insert_71 rfl (lv_at hl 3 rfl) ?_
          refine xs_its hx hb hK hP hD hS (j := (16 * P + k)) (by omega) dX1_insert_72 (fun H locs hP hD hS => ?_)
          refine lv_aload_n hx hb dX1_insert_73 rfl (lv_at hl 1 rfl) ?_
          refine xg_szs hx hb hts hown hK hP dX1_insert_74 ?_
          refine lv_iload_n hx hb dX1_insert_77 rfl (lv_at hl 2 rfl) ?_
          refine lv_dup2_11 hx hb dX1_insert_78 rfl rfl ?_
          refine xl_szs hx hb hK hP (j := P) (by omega) dX1_insert_79 ?_
          refine xr_set (y := nI (fb_ct (S P) 64)) hs ?_
          refine lv_iconst (v := nI 1) hx hb dX1_insert_80 (by decide) ?_
          refine lv_iadd hx hb dX1_insert_81 ?_
          refine xr_set (y := nI ((fb_ct (S P) 64) + 1)) (nI_add _ _) ?_
          refine xs_szs hx hb hK hP hD hS (j := P) (by omega) dX1_insert_82 (fun H locs hP hD hS => ?_)
          refine lv_iload_n hx hb dX1_insert_83 rfl (lv_at hl 0 rfl) ?_
          exact W.iret (v := nI (16 * P + k)) hx hb hr (fun t_ ht_ hW_ => ⟨⟨_, (upd f (16 * P + k) (nI I), g, upd szs P (nI ((fb_ct (S P) 64) + 1))), rfl, ⟨by rw [hkI], by rw [hkI, ef], by rw [hkI, eg], rfl⟩, by rw [ht_]; exact hP, va_K.moved hW_.alike hK, hD⟩, hS.F ht_⟩) hS.2.2 dX1_insert_84
        · refine lv_aload_n hx hb dX1_insert_32 rfl (lv_at hl 1 rfl) ?_
          refine xg_its hx hb hts hown hK hP dX1_insert_33 ?_
          refine lv_iload_n hx hb dX1_insert_36 rfl (lv_at hl 0 rfl) ?_
          refine lv_aload_n hx hb dX1_insert_37 rfl (lv_at hl 1 rfl) ?_
          refine xg_its hx hb hts hown hK hP dX1_insert_38 ?_
          refine lv_iload_n hx hb dX1_insert_41 rfl (lv_at hl 0 rfl) ?_
          refine lv_iconst (v := nI 1) hx hb dX1_insert_42 (by decide) ?_
          refine lv_isub hx hb dX1_insert_43 ?_
          refine xr_set (y := nI ((16 * P + k) - 1)) (pk_sub (by omega)) ?_
          refine xl_its hx hb hK hP (j := ((16 * P + k) - 1)) (by omega) dX1_insert_44 ?_
          refine xs_its hx hb hK hP hD hS (j := (16 * P + k)) (by omega) dX1_insert_45 (fun H locs hP hD hS => ?_)
          refine lv_aload_n hx hb dX1_insert_46 rfl (lv_at hl 1 rfl) ?_
          refine xg_wts hx hb hts hown hK hP dX1_insert_47 ?_
          refine lv_iload_n hx hb dX1_insert_50 rfl (lv_at hl 0 rfl) ?_
          refine lv_aload_n hx hb dX1_insert_51 rfl (lv_at hl 1 rfl) ?_
          refine xg_wts hx hb hts hown hK hP dX1_insert_52 ?_
          refine lv_iload_n hx hb dX1_insert_55 rfl (lv_at hl 0 rfl) ?_
          refine lv_iconst (v := nI 1) hx hb dX1_insert_56 (by decide) ?_
          refine lv_isub hx hb dX1_insert_57 ?_
          refine xr_set (y := nI ((16 * P + k) - 1)) (pk_sub (by omega)) ?_
          refine xl_wts hx hb hK hP (j := ((16 * P + k) - 1)) (by omega) dX1_insert_58 ?_
          refine xs_wts hx hb hK hP hD hS (j := (16 * P + k)) (by omega) dX1_insert_59 (fun H locs hP hD hS => ?_)
          refine lv_iinc (v := nI (16 * P + (k - 1))) (lv' := [(3, .int (nI (16 * P + (k - 1)))), (0, .ref (a 0)), (1, .int (nI P)), (2, .int (nI I))]) hx hb dX1_insert_60 hl (k := 0) rfl (by rw [show 16 * P + (k - 1) = 16 * P + k - 1 by omega]; exact sb_m1 (by omega)) (by decide) rfl (fun ls hl => ?_)
          refine lv_goto (tgt := 12) hx hb dX1_insert_63 (by decide) ?_
          exact ih (k - 1) _ _ (by omega) (by omega) (by rw [ef, shf_lo (show 16 * P + k - 1 ≤ 16 * P + k by omega)]; exact shf_step its (by omega) hk) (by rw [eg, shf_lo (show 16 * P + k - 1 ≤ 16 * P + k by omega)]; exact shf_step wts (by omega) hk) (fun j h1 h2 h3 => by
            rcases Nat.lt_or_ge (fb_ct (S P) j) k with q1 | q1
            · have := fb_ct_kth_one h2 hSi (by omega)
              omega
            · exact hgt j h1 h2 q1) H locs hP hD hS ls (lv_sub hl [0, 1, 2, 3] rfl)
  exact loop (fb_ct (S P) 64 + 1) (fb_ct (S P) 64) its wts (by omega) (Nat.le_refl _) (shf_0 _ _ _).symm (shf_0 _ _ _).symm (fun i h1 h2 h3 => absurd (ct_lt h2 h1) (by omega)) _ _ hP hD hS ls (lv_sub hl [0, 1, 2, 3] rfl)
set_option maxHeartbeats 4000000 in
set_option maxRecDepth 100000 in
theorem met_power (l : Launch) (B0 E : Nat) (hB : B0 < 2039) (hE : E < 1024) : Met l yX1_power (ws_ yX1_power cX1_power 5 (some .int)) ({ frames := 0, cells := 0, slots := 0, locals := 0 } : Room) (va_Pc [.int (nI B0), .int (nI E)] (fun _ => True)) (vp_Si (fun r => r = nI (B0 ^ E % 2039))) 0 0 (fun _ => False) := by
  refine Met.ofW (cc := cX1_power) (maxL := 5) (ret := (some .int)) (by decide) rfl ?_
  intro p e s m args below meth c s₁ B hml hv
  obtain ⟨rfl, -⟩ := hv
  have hx := B.exec
  have hb := B.bytes
  have hr := B.returns
  have hlocks := B.notSynchronized
  have hts := atoms_spec (ws := ws_ yX1_power cX1_power 5 (some .int)) B.pre
  have hts : ∀ w ∈ lw_all, w.before _ s = true := fun w h => hts w (List.mem_cons_of_mem _ h)
  have hown : s.vm.findClass RX1 = some m.cls := findClass_of_methodNamed B.named
  have hl := lv_entry ([.int (nI B0), .int (nI E)]) (n := 5) (Nat.le_of_ble_eq_true rfl)
  rw [lg_entry_eq]
  generalize (lg_sl ([.int (nI B0), .int (nI E)]) ++ List.replicate (5 - (lg_sl ([.int (nI B0), .int (nI E)])).length) Slot.unset).toArray = ls at hl ⊢
  have hl : lv_has ls 5 [(0, .int (nI B0)), (1, .int (nI E))] := hl
  refine lv_iconst (v := nI 1) hx hb dX1_power_0 (by decide) ?_
  refine lv_istore_n (lv' := [(2, .int (nI 1)), (0, .int (nI B0)), (1, .int (nI E))]) hx hb dX1_power_1 rfl hl (by decide) rfl (fun ls hl => ?_)
  refine lv_iload_n hx hb dX1_power_2 rfl (lv_at hl 1 rfl) ?_
  refine lv_sipush (v := nI 2039) hx hb dX1_power_3 (by decide) ?_
  refine lv_irem hx hb dX1_power_6 (by decide) ?_
  refine xr_set (y := nI (B0 % 2039)) (pk_rem (by omega) (by omega) (by omega)) ?_
  refine lv_istore_n (lv' := [(3, .int (nI (B0 % 2039))), (2, .int (nI 1)), (0, .int (nI B0)), (1, .int (nI E))]) hx hb dX1_power_7 rfl hl (by decide) rfl (fun ls hl => ?_)
  refine lv_iconst (v := nI 0) hx hb dX1_power_8 (by decide) ?_
  refine lv_istore (lv' := [(4, .int (nI 0)), (3, .int (nI (B0 % 2039))), (2, .int (nI 1)), (0, .int (nI B0)), (1, .int (nI E))]) hx hb dX1_power_9 hl (by decide) rfl (fun ls hl => ?_)
  have loop : ∀ (q : Nat) (t r u : Nat), 10 < t + q → (t ≤ 10) → (r = B0 ^ (E % 2 ^ t) % 2039) → (u = B0 ^ (2 ^ t) % 2039) → ∀ (ls : Array Slot), lv_has ls 5 [(4, .int (nI t)), (3, .int (nI u)), (2, .int (nI r)), (0, .int (nI B0)), (1, .int (nI E))] → W p l e (headSpec (ws_ yX1_power cX1_power 5 (some .int)) ({ frames := 0, cells := 0, slots := 0, locals := 0 } : Room)).room s m ([.int (nI B0), .int (nI E)] : List Value).toArray below meth c s.heap [] 0 0 (MQ below (vp_Si (fun r => r = nI (B0 ^ E % 2039))) ([.int (nI B0), .int (nI E)] : List Value).toArray s 0 0 (fun _ => False)) (F0 m 11 ls []) := by
    intro q
    induction q with
    | zero =>
      intro t r u hq ht er eu
      exact absurd hq (by omega)
    | succ q ih =>
      intro t r u hq ht er eu ls hl
      have hr1 : r < 2039 := by rw [er]; exact Nat.mod_lt _ (by decide)
      have hu1 : u < 2039 := by rw [eu]; exact Nat.mod_lt _ (by decide)
      have hru : r * u < 2 ^ 31 := Nat.lt_of_le_of_lt (Nat.mul_le_mul (Nat.le_of_lt hr1) (Nat.le_of_lt hu1)) (by decide)
      have huu : u * u < 2 ^ 31 := Nat.lt_of_le_of_lt (Nat.mul_le_mul (Nat.le_of_lt hu1) (Nat.le_of_lt hu1)) (by decide)
      refine lv_iload hx hb dX1_power_11 (lv_at hl 0 rfl) ?_
      refine lv_bipush (v := nI 10) hx hb dX1_power_13 (by decide) ?_
      refine xb_ge (tgt := 50) hx hb dX1_power_15 (by decide) (by omega) (by omega) (fun c1 => ?_) (fun c1 => ?_)
      · refine lv_iload_n hx hb dX1_power_50 rfl (lv_at hl 2 rfl) ?_
        exact W.iret (v := nI r) hx hb hr (fun t_ ht_ hW_ => ⟨_, rfl, by
          rw [er, show t = 10 by omega, Nat.mod_eq_of_lt (show E < 2 ^ 10 by omega)], ht_⟩) (fun _ h => absurd h List.not_mem_nil) dX1_power_51
      · have hd : E / 2 ^ t < 2 ^ 31 := Nat.lt_of_le_of_lt (Nat.div_le_self _ _) (by omega)
        obtain ⟨y, hy, ey⟩ : ∃ y, y < 2 ∧ E / 2 ^ t % 2 = y := ⟨_, Nat.mod_lt _ (by decide), rfl⟩
        refine lv_iload_n hx hb dX1_power_18 rfl (lv_at hl 4 rfl) ?_
        refine lv_iload hx hb dX1_power_19 (lv_at hl 0 rfl) ?_
        refine lv_ishr hx hb dX1_power_21 ?_
        refine xr_set (y := nI (E / 2 ^ t)) (pk_shrN (by omega) _ t (s_l t (by omega))) ?_
        refine lv_iconst (v := nI 1) hx hb dX1_power_22 (by decide) ?_
        refine lv_iand hx hb dX1_power_23 ?_
        refine xr_set (y := nI y) (by rw [← ey]; exact pk_andN (by omega) 1 (by decide)) ?_
        refine lv_iconst (v := nI 1) hx hb dX1_power_24 (by decide) ?_
        refine xb_ne (tgt := 36) hx hb dX1_power_25 (by decide) (by omega) (by omega) (fun c2 => ?_) (fun c2 => ?_)
        · refine lv_iload_n hx hb dX1_power_36 rfl (lv_at hl 1 rfl) ?_
          refine lv_iload_n hx hb dX1_power_37 rfl (lv_at hl 1 rfl) ?_
          refine lv_imul hx hb dX1_power_38 ?_
          refine xr_set (y := nI (u * u)) (pk_mul _ _) ?_
          refine lv_sipush (v := nI 2039) hx hb dX1_power_39 (by decide) ?_
          refine lv_irem hx hb dX1_power_42 (by decide) ?_
          refine xr_set (y := nI ((u * u) % 2039)) (pk_rem (by omega) (by omega) (by omega)) ?_
          refine lv_istore_n (lv' := [(3, .int (nI ((u * u) % 2039))), (4, .int (nI t)), (2, .int (nI r)), (0, .int (nI B0)), (1, .int (nI E))]) hx hb dX1_power_43 rfl hl (by decide) rfl (fun ls hl => ?_)
          refine lv_iinc (v := nI (t + 1)) (lv' := [(4, .int (nI (t + 1))), (3, .int (nI ((u * u) % 2039))), (2, .int (nI r)), (0, .int (nI B0)), (1, .int (nI E))]) hx hb dX1_power_44 hl (k := 1) rfl (nI_1 _) (by decide) rfl (fun ls hl => ?_)
          refine lv_goto (tgt := 11) hx hb dX1_power_47 (by decide) ?_
          exact ih (t + 1) _ _ (by omega) (by omega) (by rw [er, pw_0 (show E / 2 ^ t % 2 = 0 by omega)]) (by rw [eu]; exact pw_u B0 t) ls (lv_sub hl [0, 1, 2, 3, 4] rfl)
        · refine lv_iload_n hx hb dX1_power_28 rfl (lv_at hl 2 rfl) ?_
          refine lv_iload_n hx hb dX1_power_29 rfl (lv_at hl 1 rfl) ?_
          refine lv_imul hx hb dX1_power_30 ?_
          refine xr_set (y := nI (r * u)) (pk_mul _ _) ?_
          refine lv_sipush (v := nI 2039) hx hb dX1_power_31 (by decide) ?_
          refine lv_irem hx hb dX1_power_34 (by decide) ?_
          refine xr_set (y := nI ((r * u) % 2039)) (pk_rem (by omega) (by omega) (by omega)) ?_
          refine lv_istore_n (lv' := [(2, .int (nI ((r * u) % 2039))), (4, .int (nI t)), (3, .int (nI u)), (0, .int (nI B0)), (1, .int (nI E))]) hx hb dX1_power_35 rfl hl (by decide) rfl (fun ls hl => ?_)
          refine lv_iload_n hx hb dX1_power_36 rfl (lv_at hl 2 rfl) ?_
          refine lv_iload_n hx hb dX1_power_37 rfl (lv_at hl 2 rfl) ?_
          refine lv_imul hx hb dX1_power_38 ?_
          refine xr_set (y := nI (u * u)) (pk_mul _ _) ?_
          refine lv_sipush (v := nI 2039) hx hb dX1_power_39 (by decide) ?_
          refine lv_irem hx hb dX1_power_42 (by decide) ?_
          refine xr_set (y := nI ((u * u) % 2039)) (pk_rem (by omega) (by omega) (by omega)) ?_
          refine lv_istore_n (lv' := [(3, .int (nI ((u * u) % 2039))), (2, .int (nI ((r * u) % 2039))), (4, .int (nI t)), (0, .int (nI B0)), (1, .int (nI E))]) hx hb dX1_power_43 rfl hl (by decide) rfl (fun ls hl => ?_)
          refine lv_iinc (v := nI (t + 1)) (lv' := [(4, .int (nI (t + 1))), (3, .int (nI ((u * u) % 2039))), (2, .int (nI ((r * u) % 2039))), (0, .int (nI B0)), (1, .int (nI E))]) hx hb dX1_power_44 hl (k := 2) rfl (nI_1 _) (by decide) rfl (fun ls hl => ?_)
          refine lv_goto (tgt := 11) hx hb dX1_power_47 (by decide) ?_
          exact ih (t + 1) _ _ (by omega) (by omega) (by rw [er, eu]; exact pw_1 B0 (by rw [ey]; exact c2)) (by rw [eu]; exact pw_u B0 t) ls (lv_sub hl [0, 1, 2, 3, 4] rfl)
  exact loop 11 0 _ _ (by omega) (by omega) (by rw [Nat.pow_zero, Nat.mod_one, Nat.pow_zero]) (by rw [Nat.pow_zero, Nat.pow_one]) ls (lv_sub hl [0, 1, 2, 3, 4] rfl)
set_option maxHeartbeats 4000000 in
set_option maxRecDepth 100000 in
theorem met_next (l : Launch) (sz : Nat) (D : va_G) (a : Nat → Nat) (d : Nat → ClassId) (its wts szs exs snt org hit : Nat → Int32) (rnd lt : Int32) (M : Nat) (hM0 : 0 < M) (hM : M < 32768) : Met l yX1_next (ws_ yX1_next cX1_next 3 (some .int)) ({ frames := 0, cells := 0, slots := 0, locals := 0 } : Room) (va_Pc [.ref (a 0), .int (nI M)] (fun U => U.heap.size = sz ∧ va_P D vwCl (wX a d its wts szs exs snt org hit rnd lt) U.heap ∧ va_K D vwCl (tyX d) U ∧ va_D (fun _ => True) (wX a d its wts szs exs snt org hit rnd lt))) (QXi D d (va_A (wX a d its wts szs exs snt org hit rnd lt) sz) (fun u : Int32 => wX a d its wts szs exs snt org hit u lt) (fun r _ => ∃ x, x < M ∧ r = nI x)) 0 0 (va_A (wX a d its wts szs exs snt org hit rnd lt) sz) := by
  refine Met.ofW (cc := cX1_next) (maxL := 3) (ret := (some .int)) (by decide) rfl ?_
  intro p e s m args below meth c s₁ B hml hv
  obtain ⟨rfl, hsz, hP, hK, hD0⟩ := hv
  have hx := B.exec
  have hb := B.bytes
  have hr := B.returns
  have hlocks := B.notSynchronized
  have hts := atoms_spec (ws := ws_ yX1_next cX1_next 3 (some .int)) B.pre
  have hts : ∀ w ∈ lw_all, w.before _ s = true := fun w h => hts w (List.mem_cons_of_mem _ h)
  have hown : s.vm.findClass RX1 = some m.cls := findClass_of_methodNamed B.named
  subst hsz
  have hD := hD0.self (sz := s.heap.size)
  generalize hAe : va_A (wX a d its wts szs exs snt org hit rnd lt) s.heap.size = A at hD ⊢
  have hA : ∀ q : Nat, s.heap.size ≤ q → A q := fun q h => by rw [← hAe]; exact Or.inr h
  have hS : va_S A s.heap s.heap [] := va_S.rf
  have hl := lv_entry ([.ref (a 0), .int (nI M)]) (n := 3) (Nat.le_of_ble_eq_true rfl)
  rw [lg_entry_eq]
  generalize (lg_sl ([.ref (a 0), .int (nI M)]) ++ List.replicate (3 - (lg_sl ([.ref (a 0), .int (nI M)])).length) Slot.unset).toArray = ls at hl ⊢
  have hl : lv_has ls 3 [(0, .ref (a 0)), (1, .int (nI M))] := hl
  refine lv_aload_n hx hb dX1_next_0 rfl (lv_at hl 0 rfl) ?_
  refine lv_aload_n hx hb dX1_next_1 rfl (lv_at hl 0 rfl) ?_
  refine xg_rnd hx hb hts hown hK hP dX1_next_2 ?_
  refine lv_ldc (v := 1103515245) hx hb hown (hts _ q122) dX1_next_5 ?_
  refine lv_imul hx hb dX1_next_7 ?_
  refine lv_sipush (v := nI 12345) hx hb dX1_next_8 (by decide) ?_
  refine lv_iadd hx hb dX1_next_11 ?_
  refine lv_topi (fun z ez => ?_)
  refine xp_rnd hx hb hts hown hK hP hD hS dX1_next_12 (fun H locs hP hD hS => ?_)
  refine lv_aload_n hx hb dX1_next_15 rfl (lv_at hl 0 rfl) ?_
  refine xg_rnd hx hb hts hown hK hP dX1_next_16 ?_
  refine lv_bipush (v := nI 16) hx hb dX1_next_19 (by decide) ?_
  obtain ⟨y, hy, ey⟩ : ∃ y, y < 32768 ∧ (z.toUInt32 >>> ((nI 16).toUInt32 &&& Int32.toUInt32 31)).toInt32 &&& nI 32767 = nI y := pk_andE _ 15 (by decide)
  refine lv_iushr hx hb dX1_next_21 rfl ?_
  refine lv_sipush (v := nI 32767) hx hb dX1_next_22 (by decide) ?_
  refine lv_iand hx hb dX1_next_25 ?_
  refine xr_set (y := nI y) ey ?_
  refine lv_istore_n (lv' := [(2, .int (nI y)), (0, .ref (a 0)), (1, .int (nI M))]) hx hb dX1_next_26 rfl hl (by decide) rfl (fun ls hl => ?_)
  refine lv_iload_n hx hb dX1_next_27 rfl (lv_at hl 2 rfl) ?_
  refine lv_if_le (tgt := 37) hx hb dX1_next_28 (by decide) (fun c => absurd c (nI_nle hM0 (by omega))) (fun _ => ?_)
  refine lv_iload_n hx hb dX1_next_31 rfl (lv_at hl 0 rfl) ?_
  refine lv_iload_n hx hb dX1_next_32 rfl (lv_at hl 2 rfl) ?_
  refine lv_irem hx hb dX1_next_33 (nI_ne0 hM0 (by omega)) ?_
  refine xr_set (y := nI (y % M)) (pk_rem (by omega) (by omega) (by omega)) ?_
  refine lv_goto (tgt := 38) hx hb dX1_next_34 (by decide) ?_
  exact W.iret (v := nI (y % M)) hx hb hr (fun t_ ht_ hW_ => ⟨⟨_, _, rfl, ⟨y % M, Nat.mod_lt _ hM0, rfl⟩, by rw [ht_]; exact hP, va_K.moved hW_.alike hK, hD⟩, hS.F ht_⟩) hS.2.2 dX1_next_38
set_option maxHeartbeats 4000000 in
set_option maxRecDepth 100000 in
theorem met_isSent (l : Launch) (D : va_G) (a : Nat → Nat) (d : Nat → ClassId) (its wts szs exs snt org hit : Nat → Int32) (rnd lt : Int32) (S : Nat → Nat → Bool) (w : Nat → Nat → Int32) (P : Nat) (v : Int32) (hP3 : P < 3) (hi : XI S w its wts szs) : Met l yX1_isSent (ws_ yX1_isSent cX1_isSent 4 (some .boolean)) ({ frames := 0, cells := 0, slots := 0, locals := 0 } : Room) (va_Pc [.ref (a 0), .int (nI P), .int v] (fun U => va_P D vwCl (wX a d its wts szs exs snt org hit rnd lt) U.heap ∧ va_K D vwCl (tyX d) U)) (vp_Si (fun r => (r = nI 1 ∧ ∃ j, j < fb_ct (S P) 64 ∧ snt (16 * P + j) = v) ∨ (r = nI 0 ∧ ∀ j, j < fb_ct (S P) 64 → snt (16 * P + j) ≠ v))) 0 0 (fun _ => False) := by
  refine Met.ofW (cc := cX1_isSent) (maxL := 4) (ret := (some .boolean)) (by decide) rfl ?_
  intro p e s m args below meth c s₁ B hml hv
  obtain ⟨rfl, hP, hK⟩ := hv
  have hx := B.exec
  have hb := B.bytes
  have hr := B.returns
  have hlocks := B.notSynchronized
  have hts := atoms_spec (ws := ws_ yX1_isSent cX1_isSent 4 (some .boolean)) B.pre
  have hts : ∀ w ∈ lw_all, w.before _ s = true := fun w h => hts w (List.mem_cons_of_mem _ h)
  have hown : s.vm.findClass RX1 = some m.cls := findClass_of_methodNamed B.named
  have hl := lv_entry ([.ref (a 0), .int (nI P), .int v]) (n := 4) (Nat.le_of_ble_eq_true rfl)
  rw [lg_entry_eq]
  generalize (lg_sl ([.ref (a 0), .int (nI P), .int v]) ++ List.replicate (4 - (lg_sl ([.ref (a 0), .int (nI P), .int v])).length) Slot.unset).toArray = ls at hl ⊢
  have hl : lv_has ls 4 [(0, .ref (a 0)), (1, .int (nI P)), (2, .int v)] := hl
  obtain ⟨hs, h16, hf⟩ := hi P hP3
  refine lv_bipush (v := nI 16) hx hb dX1_isSent_0 (by decide) ?_
  refine lv_iload_n hx hb dX1_isSent_2 rfl (lv_at hl 1 rfl) ?_
  refine lv_imul hx hb dX1_isSent_3 ?_
  refine xr_set (y := nI (16 * P)) (pk_mul _ _) ?_
  refine lv_istore_n (lv' := [(3, .int (nI (16 * P))), (0, .ref (a 0)), (1, .int (nI P)), (2, .int v)]) hx hb dX1_isSent_4 rfl hl (by decide) rfl (fun ls hl => ?_)
  have loop : ∀ (q : Nat) (k : Nat), fb_ct (S P) 64 < k + q → (k ≤ fb_ct (S P) 64) → (∀ j, j < k → snt (16 * P + j) ≠ v) → ∀ (ls : Array Slot), lv_has ls 4 [(3, .int (nI (16 * P + k))), (0, .ref (a 0)), (1, .int (nI P)), (2, .int v)] → W p l e (headSpec (ws_ yX1_isSent cX1_isSent 4 (some .boolean)) ({ frames := 0, cells := 0, slots := 0, locals := 0 } : Room)).room s m ([.ref (a 0), .int (nI P), .int v] : List Value).toArray below meth c s.heap [] 0 0 (MQ below (vp_Si (fun r => (r = nI 1 ∧ ∃ j, j < fb_ct (S P) 64 ∧ snt (16 * P + j) = v) ∨ (r = nI 0 ∧ ∀ j, j < fb_ct (S P) 64 → snt (16 * P + j) ≠ v))) ([.ref (a 0), .int (nI P), .int v] : List Value).toArray s 0 0 (fun _ => False)) (F0 m 5 ls []) := by
    intro q
    induction q with
    | zero =>
      intro k hq hk hno
      exact absurd hq (by omega)
    | succ q ih =>
      intro k hq hk hno ls hl
      refine lv_iload_n hx hb dX1_isSent_5 rfl (lv_at hl 0 rfl) ?_
      refine lv_bipush (v := nI 16) hx hb dX1_isSent_6 (by decide) ?_
      refine lv_iload_n hx hb dX1_isSent_8 rfl (lv_at hl 2 rfl) ?_
      refine lv_imul hx hb dX1_isSent_9 ?_
      refine xr_set (y := nI (16 * P)) (pk_mul _ _) ?_
      refine lv_aload_n hx hb dX1_isSent_10 rfl (lv_at hl 1 rfl) ?_
      refine xg_szs hx hb hts hown hK hP dX1_isSent_11 ?_
      refine lv_iload_n hx hb dX1_isSent_14 rfl (lv_at hl 2 rfl) ?_
      refine xl_szs hx hb hK hP (j := P) (by omega) dX1_isSent_15 ?_
      refine xr_set (y := nI (fb_ct (S P) 64)) hs ?_
      refine lv_iadd hx hb dX1_isSent_16 ?_
      refine xr_set (y := nI ((16 * P) + (fb_ct (S P) 64))) (nI_add _ _) ?_
      refine xb_ge (tgt := 38) hx hb dX1_isSent_17 (by decide) (by omega) (by omega) (fun c1 => ?_) (fun c1 => ?_)
      · refine lv_iconst (v := nI 0) hx hb dX1_isSent_38 (by decide) ?_
        exact W.zret (v := nI 0) hx hb hr rfl (fun t_ ht_ hW_ => ⟨_, rfl, Or.inr ⟨rfl, fun j hj => hno j (by omega)⟩, ht_⟩) (fun _ h => absurd h List.not_mem_nil) dX1_isSent_39
      · refine lv_aload_n hx hb dX1_isSent_20 rfl (lv_at hl 1 rfl) ?_
        refine xg_snt hx hb hts hown hK hP dX1_isSent_21 ?_
        refine lv_iload_n hx hb dX1_isSent_24 rfl (lv_at hl 0 rfl) ?_
        refine xl_snt hx hb hK hP (j := (16 * P + k)) (by omega) dX1_isSent_25 ?_
        refine lv_iload_n hx hb dX1_isSent_26 rfl (lv_at hl 3 rfl) ?_
        refine lv_icmp_ne (tgt := 32) hx hb dX1_isSent_27 (by decide) (fun c2 => ?_) (fun c2 => ?_)
        · refine lv_iinc (v := nI ((16 * P + k) + 1)) (lv' := [(3, .int (nI ((16 * P + k) + 1))), (0, .ref (a 0)), (1, .int (nI P)), (2, .int v)]) hx hb dX1_isSent_32 hl (k := 0) rfl (nI_1 _) (by decide) rfl (fun ls hl => ?_)
          refine lv_goto (tgt := 5) hx hb dX1_isSent_35 (by decide) ?_
          exact ih (k + 1) (by omega) (by omega) (fun j hj => by
            rcases Nat.lt_or_ge j k with q1 | q1
            · exact hno j q1
            · rw [show j = k by omega]
              exact c2) ls (lv_sub hl [0, 1, 2, 3] rfl)
        · refine lv_iconst (v := nI 1) hx hb dX1_isSent_30 (by decide) ?_
          exact W.zret (v := nI 1) hx hb hr rfl (fun t_ ht_ hW_ => ⟨_, rfl, Or.inl ⟨rfl, k, by omega, c2⟩, ht_⟩) (fun _ h => absurd h List.not_mem_nil) dX1_isSent_31
  exact loop (fb_ct (S P) 64 + 1) 0 (by omega) (Nat.zero_le _) (fun j hj => absurd hj (Nat.not_lt_zero j)) ls (lv_sub hl [0, 1, 2, 3] rfl)
set_option maxHeartbeats 4000000 in
set_option maxRecDepth 100000 in
theorem met_raise (l : Launch) (sz : Nat) (D : va_G) (a : Nat → Nat) (d : Nat → ClassId) (its wts szs exs snt org hit : Nat → Int32) (rnd lt : Int32) (S : Nat → Nat → Bool) (w : Nat → Nat → Int32) (P Q E e0 : Nat) (hP3 : P < 3) (hQ3 : Q < 3) (hi : XI S w its wts szs) (hsn : Snt (S P) E (16 * P) snt org) (he : exs Q = nI e0) (he2 : e0 ≤ 1018) : Met l yX1_raise (ws_ yX1_raise cX1_raise 4 none) ({ frames := 1, cells := 0, slots := 0, locals := 40 } : Room) (va_Pc [.ref (a 0), .int (nI P), .int (nI Q)] (fun U => U.heap.size = sz ∧ va_P D vwCl (wX a d its wts szs exs snt org hit rnd lt) U.heap ∧ va_K D vwCl (tyX d) U ∧ va_D (fun _ => True) (wX a d its wts szs exs snt org hit rnd lt))) (QXv D d (va_A (wX a d its wts szs exs snt org hit rnd lt) sz) (fun u : Nat → Int32 => wX a d its wts szs exs u org hit rnd lt) (fun u => u = rsd snt e0 (16 * P) (16 * P + fb_ct (S P) 64))) 0 0 (va_A (wX a d its wts szs exs snt org hit rnd lt) sz) := by
  refine Met.ofW (cc := cX1_raise) (maxL := 4) (ret := none) (by decide) rfl ?_
  intro p e s m args below meth c s₁ B hml hv
  obtain ⟨rfl, hsz, hP, hK, hD0⟩ := hv
  have hx := B.exec
  have hb := B.bytes
  have hr := B.returns
  have hlocks := B.notSynchronized
  have hts := atoms_spec (ws := ws_ yX1_raise cX1_raise 4 none) B.pre
  have hts : ∀ w ∈ lw_all, w.before _ s = true := fun w h => hts w (List.mem_cons_of_mem _ h)
  have hown : s.vm.findClass RX1 = some m.cls := findClass_of_methodNamed B.named
  subst hsz
  have hD := hD0.self (sz := s.heap.size)
  generalize hAe : va_A (wX a d its wts szs exs snt org hit rnd lt) s.heap.size = A at hD ⊢
  have hA : ∀ q : Nat, s.heap.size ≤ q → A q := fun q h => by rw [← hAe]; exact Or.inr h
  have hS : va_S A s.heap s.heap [] := va_S.rf
  have hl := lv_entry ([.ref (a 0), .int (nI P), .int (nI Q)]) (n := 4) (Nat.le_of_ble_eq_true rfl)
  rw [lg_entry_eq]
  generalize (lg_sl ([.ref (a 0), .int (nI P), .int (nI Q)]) ++ List.replicate (4 - (lg_sl ([.ref (a 0), .int (nI P), .int (nI Q)])).length) Slot.unset).toArray = ls at hl ⊢
  have hl : lv_has ls 4 [(0, .ref (a 0)), (1, .int (nI P)), (2, .int (nI Q))] := hl
  obtain ⟨hs, h16, hf⟩ := hi P hP3
  refine lv_bipush (v := nI 16) hx hb dX1_raise_0 (by decide) ?_
  refine lv_iload_n hx hb dX1_raise_2 rfl (lv_at hl 1 rfl) ?_
  refine lv_imul hx hb dX1_raise_3 ?_
  refine xr_set (y := nI (16 * P)) (pk_mul _ _) ?_
  refine lv_istore_n (lv' := [(3, .int (nI (16 * P))), (0, .ref (a 0)), (1, .int (nI P)), (2, .int (nI Q))]) hx hb dX1_raise_4 rfl hl (by decide) rfl (fun ls hl => ?_)
  have loop : ∀ (q : Nat) (k : Nat) (f : Nat → Int32), fb_ct (S P) 64 < k + q → (k ≤ fb_ct (S P) 64) → (f = rsd snt e0 (16 * P) (16 * P + k)) → ∀ (H : Heap) (locs : List Loc), va_P D vwCl (wX a d its wts szs exs f org hit rnd lt) H → va_D A (wX a d its wts szs exs f org hit rnd lt) → va_S A s.heap H locs → ∀ (ls : Array Slot), lv_has ls 4 [(3, .int (nI (16 * P + k))), (0, .ref (a 0)), (1, .int (nI P)), (2, .int (nI Q))] → W p l e (headSpec (ws_ yX1_raise cX1_raise 4 none) ({ frames := 1, cells := 0, slots := 0, locals := 40 } : Room)).room s m ([.ref (a 0), .int (nI P), .int (nI Q)] : List Value).toArray below meth c H locs 0 0 (MQ below (QXv D d A (fun u : Nat → Int32 => wX a d its wts szs exs u org hit rnd lt) (fun u => u = rsd snt e0 (16 * P) (16 * P + fb_ct (S P) 64))) ([.ref (a 0), .int (nI P), .int (nI Q)] : List Value).toArray s 0 0 A) (F0 m 5 ls []) := by
    intro q
    induction q with
    | zero =>
      intro k f hq hk ef
      exact absurd hq (by omega)
    | succ q ih =>
      intro k f hq hk ef H locs hP hD hS ls hl
      refine lv_iload_n hx hb dX1_raise_5 rfl (lv_at hl 0 rfl) ?_
      refine lv_bipush (v := nI 16) hx hb dX1_raise_6 (by decide) ?_
      refine lv_iload_n hx hb dX1_raise_8 rfl (lv_at hl 2 rfl) ?_
      refine lv_imul hx hb dX1_raise_9 ?_
      refine xr_set (y := nI (16 * P)) (pk_mul _ _) ?_
      refine lv_aload_n hx hb dX1_raise_10 rfl (lv_at hl 1 rfl) ?_
      refine xg_szs hx hb hts hown hK hP dX1_raise_11 ?_
      refine lv_iload_n hx hb dX1_raise_14 rfl (lv_at hl 2 rfl) ?_
      refine xl_szs hx hb hK hP (j := P) (by omega) dX1_raise_15 ?_
      refine xr_set (y := nI (fb_ct (S P) 64)) hs ?_
      refine lv_iadd hx hb dX1_raise_16 ?_
      refine xr_set (y := nI ((16 * P) + (fb_ct (S P) 64))) (nI_add _ _) ?_
      refine xb_ge (tgt := 47) hx hb dX1_raise_17 (by decide) (by omega) (by omega) (fun c1 => ?_) (fun c1 => ?_)
      · exact W.vret hx hb hr (fun t_ ht_ hW_ => ⟨⟨f, rfl, by rw [ef, show k = fb_ct (S P) 64 by omega], by rw [ht_]; exact hP, va_K.moved hW_.alike hK, hD⟩, hS.F ht_⟩) hS.2.2 dX1_raise_47
      · obtain ⟨i, -, -, -, hg⟩ := hsn.1 k (by omega)
        have hfi : f (16 * P + k) = nI (gg E i) := by rw [ef, rsd_hi (Or.inl (Nat.le_refl _))]; exact hg
        have hgl := gg_lt E i
        refine lv_aload_n hx hb dX1_raise_20 rfl (lv_at hl 1 rfl) ?_
        refine xg_snt hx hb hts hown hK hP dX1_raise_21 ?_
        refine lv_iload_n hx hb dX1_raise_24 rfl (lv_at hl 0 rfl) ?_
        refine lv_aload_n hx hb dX1_raise_25 rfl (lv_at hl 1 rfl) ?_
        refine xg_snt hx hb hts hown hK hP dX1_raise_26 ?_
        refine lv_iload_n hx hb dX1_raise_29 rfl (lv_at hl 0 rfl) ?_
        refine xl_snt hx hb hK hP (j := (16 * P + k)) (by omega) dX1_raise_30 ?_
        refine xr_set (y := nI (gg E i)) hfi ?_
        refine lv_aload_n hx hb dX1_raise_31 rfl (lv_at hl 1 rfl) ?_
        refine xg_exs hx hb hts hown hK hP dX1_raise_32 ?_
        refine lv_iload_n hx hb dX1_raise_35 rfl (lv_at hl 3 rfl) ?_
        refine xl_exs hx hb hK hP (j := Q) (by omega) dX1_raise_36 ?_
        refine xr_set (y := nI e0) he ?_
        refine cs_S (As := [.int (nI (gg E i)), .int (nI e0)]) (rest := [.int (nI (16 * P + k)), .ref (a 5)]) ⟨hx, hb, hml, hown, hts⟩ (met_power l (gg E i) e0 hgl (by omega)) (va_cwS 2 hts (lw_S q115 q116 q20 q117) rfl rfl rfl (by decide +kernel) ⟨Nat.le_of_ble_eq_true rfl, Nat.le_of_ble_eq_true rfl⟩) rfl hl.1 rfl (Nat.le_of_ble_eq_true rfl) dX1_raise_37 ⟨Nat.zero_le _, Nat.zero_le _⟩ (fun r hw => ?_)
        subst hw
        refine xs_snt hx hb hK hP hD hS (j := (16 * P + k)) (by omega) dX1_raise_40 (fun H locs hP hD hS => ?_)
        refine lv_iinc (v := nI ((16 * P + k) + 1)) (lv' := [(3, .int (nI ((16 * P + k) + 1))), (0, .ref (a 0)), (1, .int (nI P)), (2, .int (nI Q))]) hx hb dX1_raise_41 hl (k := 0) rfl (nI_1 _) (by decide) rfl (fun ls hl => ?_)
        refine lv_goto (tgt := 5) hx hb dX1_raise_44 (by decide) ?_
        exact ih (k + 1) _ (by omega) (by omega) (by rw [ef]; have := rsd_step snt (e := e0) (show 16 * P ≤ 16 * P + k by omega); rw [hg, nI_clamp (by omega)] at this; exact this) H locs hP hD hS ls (lv_sub hl [0, 1, 2, 3] rfl)
  exact loop (fb_ct (S P) 64 + 1) 0 snt (by omega) (Nat.zero_le _) (rsd_0 _ _ _).symm _ _ hP hD hS ls (lv_sub hl [0, 1, 2, 3] rfl)
set_option maxHeartbeats 4000000 in
set_option maxRecDepth 100000 in
theorem met_send (l : Launch) (sz : Nat) (D : va_G) (a : Nat → Nat) (d : Nat → ClassId) (its wts szs exs snt org hit : Nat → Int32) (rnd lt : Int32) (S : Nat → Nat → Bool) (w : Nat → Nat → Int32) (P e0 : Nat) (hP3 : P < 3) (hi : XI S w its wts szs) (he : exs P = nI e0) (he2 : e0 ≤ 1018) : Met l yX1_send (ws_ yX1_send cX1_send 7 none) ({ frames := 1, cells := 0, slots := 0, locals := 40 } : Room) (va_Pc [.ref (a 0), .int (nI P)] (fun U => U.heap.size = sz ∧ va_P D vwCl (wX a d its wts szs exs snt org hit rnd lt) U.heap ∧ va_K D vwCl (tyX d) U ∧ va_D (fun _ => True) (wX a d its wts szs exs snt org hit rnd lt))) (QXv D d (va_A (wX a d its wts szs exs snt org hit rnd lt) sz) (fun u : (Nat → Int32) × (Nat → Int32) × Int32 => wX a d its wts szs exs u.1 u.2.1 hit u.2.2 lt) (fun u => match u with | (f, g, _) => Snt (S P) e0 (16 * P) f g ∧ ∀ j, (j < 16 * P ∨ 16 * P + fb_ct (S P) 64 ≤ j) → f j = snt j ∧ g j = org j)) 0 0 (va_A (wX a d its wts szs exs snt org hit rnd lt) sz) := by
  refine Met.ofW (cc := cX1_send) (maxL := 7) (ret := none) (by decide) rfl ?_
  intro p e s m args below meth c s₁ B hml hv
  obtain ⟨rfl, hsz, hP, hK, hD0⟩ := hv
  have hx := B.exec
  have hb := B.bytes
  have hr := B.returns
  have hlocks := B.notSynchronized
  have hts := atoms_spec (ws := ws_ yX1_send cX1_send 7 none) B.pre
  have hts : ∀ w ∈ lw_all, w.before _ s = true := fun w h => hts w (List.mem_cons_of_mem _ h)
  have hown : s.vm.findClass RX1 = some m.cls := findClass_of_methodNamed B.named
  subst hsz
  have hD := hD0.self (sz := s.heap.size)
  generalize hAe : va_A (wX a d its wts szs exs snt org hit rnd lt) s.heap.size = A at hD ⊢
  have hA : ∀ q : Nat, s.heap.size ≤ q → A q := fun q h => by rw [← hAe]; exact Or.inr h
  have hS : va_S A s.heap s.heap [] := va_S.rf
  have hl := lv_entry ([.ref (a 0), .int (nI P)]) (n := 7) (Nat.le_of_ble_eq_true rfl)
  rw [lg_entry_eq]
  generalize (lg_sl ([.ref (a 0), .int (nI P)]) ++ List.replicate (7 - (lg_sl ([.ref (a 0), .int (nI P)])).length) Slot.unset).toArray = ls at hl ⊢
  have hl : lv_has ls 7 [(0, .ref (a 0)), (1, .int (nI P))] := hl
  obtain ⟨hs, h16, hf⟩ := hi P hP3
  refine lv_bipush (v := nI 16) hx hb dX1_send_0 (by decide) ?_
  refine lv_iload_n hx hb dX1_send_2 rfl (lv_at hl 1 rfl) ?_
  refine lv_imul hx hb dX1_send_3 ?_
  refine xr_set (y := nI (16 * P)) (pk_mul _ _) ?_
  refine lv_istore_n (lv' := [(2, .int (nI (16 * P))), (0, .ref (a 0)), (1, .int (nI P))]) hx hb dX1_send_4 rfl hl (by decide) rfl (fun ls hl => ?_)
  refine lv_iconst (v := nI 0) hx hb dX1_send_5 (by decide) ?_
  refine lv_istore_n (lv' := [(3, .int (nI 0)), (2, .int (nI (16 * P))), (0, .ref (a 0)), (1, .int (nI P))]) hx hb dX1_send_6 rfl hl (by decide) rfl (fun ls hl => ?_)
  have loop2 : ∀ (q : Nat) (k : Nat) (f g : Nat → Int32) (z : Int32), k < q → (k ≤ fb_ct (S P) 64) → (Snt (S P) e0 (16 * P) f g) → (∀ j, (j < 16 * P ∨ 16 * P + fb_ct (S P) 64 ≤ j) → f j = snt j ∧ g j = org j) → ∀ (H : Heap) (locs : List Loc), va_P D vwCl (wX a d its wts szs exs f g hit z lt) H → va_D A (wX a d its wts szs exs f g hit z lt) → va_S A s.heap H locs → ∀ (ls : Array Slot), lv_has ls 7 [(3, .int (nI k - nI 1)), (2, .int (nI (16 * P))), (0, .ref (a 0)), (1, .int (nI P))] → W p l e (headSpec (ws_ yX1_send cX1_send 7 none) ({ frames := 1, cells := 0, slots := 0, locals := 40 } : Room)).room s m ([.ref (a 0), .int (nI P)] : List Value).toArray below meth c H locs 0 0 (MQ below (QXv D d A (fun u : (Nat → Int32) × (Nat → Int32) × Int32 => wX a d its wts szs exs u.1 u.2.1 hit u.2.2 lt) (fun u => match u with | (f, g, _) => Snt (S P) e0 (16 * P) f g ∧ ∀ j, (j < 16 * P ∨ 16 * P + fb_ct (S P) 64 ≤ j) → f j = snt j ∧ g j = org j)) ([.ref (a 0), .int (nI P)] : List Value).toArray s 0 0 A) (F0 m 87 ls []) := by
    intro q
    induction q with
    | zero =>
      intro k f g z hq hk hsn hout
      exact absurd hq (by omega)
    | succ q ih =>
      intro k f g z hq hk hsn hout H locs hP hD hS ls hl
      refine lv_iload_n hx hb dX1_send_87 rfl (lv_at hl 0 rfl) ?_
      refine lv_if_le (tgt := 176) hx hb dX1_send_88 (by decide) (fun c1 => ?_) (fun c1 => ?_)
      · exact W.vret hx hb hr (fun t_ ht_ hW_ => ⟨⟨(f, g, z), rfl, ⟨hsn, hout⟩, by rw [ht_]; exact hP, va_K.moved hW_.alike hK, hD⟩, hS.F ht_⟩) hS.2.2 dX1_send_176
      · have hk2 : 2 ≤ k := by
          rcases Nat.lt_or_ge k 2 with q1 | q1
          · exact absurd (snd_le k q1) c1
          · exact q1
        obtain ⟨x, rfl⟩ : ∃ x, k = x + 1 := ⟨k - 1, by omega⟩
        have hl : lv_has ls 7 [(3, .int (nI x)), (2, .int (nI (16 * P))), (0, .ref (a 0)), (1, .int (nI P))] := by
          rw [← nI_pred x]
          exact hl
        refine lv_iload_n hx hb dX1_send_91 rfl (lv_at hl 1 rfl) ?_
        refine lv_aload_n hx hb dX1_send_92 rfl (lv_at hl 2 rfl) ?_
        refine lv_iload_n hx hb dX1_send_93 rfl (lv_at hl 0 rfl) ?_
        refine lv_iconst (v := nI 1) hx hb dX1_send_94 (by decide) ?_
        refine lv_iadd hx hb dX1_send_95 ?_
        refine xr_set (y := nI (x + 1)) (nI_add _ _) ?_
        refine cs_Wi (ci := 0) (As := [.int (nI (x + 1))]) (rest := [.int (nI (16 * P))]) ⟨hx, hb, hml, hown, hts⟩ (met_next l H.size D a d its wts szs exs f g hit z lt (x + 1) (by omega) (by omega)) (cwV 1 hts (lw_V q118 q120 qs4 q20 q121) rfl rfl rfl (by decide +kernel) ⟨Nat.le_of_ble_eq_true rfl, Nat.le_of_ble_eq_true rfl⟩) hK hP hD hS hA rfl rfl rfl hl.1 rfl (Nat.le_of_ble_eq_true rfl) dX1_send_96 ⟨Nat.zero_le _, Nat.zero_le _⟩ (fun r u H locs hw hP hD hS _ => ?_)
        obtain ⟨y, hy, rfl⟩ := hw
        refine lv_iadd hx hb dX1_send_99 ?_
        refine xr_set (y := nI ((16 * P) + y)) (nI_add _ _) ?_
        refine lv_istore (lv' := [(4, .int (nI ((16 * P) + y))), (3, .int (nI x)), (2, .int (nI (16 * P))), (0, .ref (a 0)), (1, .int (nI P))]) hx hb dX1_send_100 hl (by decide) rfl (fun ls hl => ?_)
        refine lv_aload_n hx hb dX1_send_102 rfl (lv_at hl 3 rfl) ?_
        refine xg_snt hx hb hts hown hK hP dX1_send_103 ?_
        refine lv_iload_n hx hb dX1_send_106 rfl (lv_at hl 2 rfl) ?_
        refine lv_iload_n hx hb dX1_send_107 rfl (lv_at hl 1 rfl) ?_
        refine lv_iadd hx hb dX1_send_108 ?_
        refine xr_set (y := nI ((16 * P) + x)) (nI_add _ _) ?_
        refine xl_snt hx hb hK hP (j := ((16 * P) + x)) (by omega) dX1_send_109 ?_
        refine lv_topi (fun v1 ev1 => ?_)
        refine lv_istore (lv' := [(5, .int v1), (4, .int (nI ((16 * P) + y))), (3, .int (nI x)), (2, .int (nI (16 * P))), (0, .ref (a 0)), (1, .int (nI P))]) hx hb dX1_send_110 hl (by decide) rfl (fun ls hl => ?_)
        refine lv_aload_n hx hb dX1_send_112 rfl (lv_at hl 4 rfl) ?_
        refine xg_org hx hb hts hown hK hP dX1_send_113 ?_
        refine lv_iload_n hx hb dX1_send_116 rfl (lv_at hl 3 rfl) ?_
        refine lv_iload_n hx hb dX1_send_117 rfl (lv_at hl 2 rfl) ?_
        refine lv_iadd hx hb dX1_send_118 ?_
        refine xr_set (y := nI ((16 * P) + x)) (nI_add _ _) ?_
        refine xl_org hx hb hK hP (j := ((16 * P) + x)) (by omega) dX1_send_119 ?_
        refine lv_topi (fun v2 ev2 => ?_)
        refine lv_istore (lv' := [(6, .int v2), (5, .int v1), (4, .int (nI ((16 * P) + y))), (3, .int (nI x)), (2, .int (nI (16 * P))), (0, .ref (a 0)), (1, .int (nI P))]) hx hb dX1_send_120 hl (by decide) rfl (fun ls hl => ?_)
        refine lv_aload_n hx hb dX1_send_122 rfl (lv_at hl 5 rfl) ?_
        refine xg_snt hx hb hts hown hK hP dX1_send_123 ?_
        refine lv_iload_n hx hb dX1_send_126 rfl (lv_at hl 4 rfl) ?_
        refine lv_iload_n hx hb dX1_send_127 rfl (lv_at hl 3 rfl) ?_
        refine lv_iadd hx hb dX1_send_128 ?_
        refine xr_set (y := nI ((16 * P) + x)) (nI_add _ _) ?_
        refine lv_aload_n hx hb dX1_send_129 rfl (lv_at hl 5 rfl) ?_
        refine xg_snt hx hb hts hown hK hP dX1_send_130 ?_
        refine lv_iload hx hb dX1_send_133 (lv_at hl 2 rfl) ?_
        refine xl_snt hx hb hK hP (j := ((16 * P) + y)) (by omega) dX1_send_135 ?_
        refine xs_snt hx hb hK hP hD hS (j := ((16 * P) + x)) (by omega) dX1_send_136 (fun H locs hP hD hS => ?_)
        refine lv_aload_n hx hb dX1_send_137 rfl (lv_at hl 5 rfl) ?_
        refine xg_org hx hb hts hown hK hP dX1_send_138 ?_
        refine lv_iload_n hx hb dX1_send_141 rfl (lv_at hl 4 rfl) ?_
        refine lv_iload_n hx hb dX1_send_142 rfl (lv_at hl 3 rfl) ?_
        refine lv_iadd hx hb dX1_send_143 ?_
        refine xr_set (y := nI ((16 * P) + x)) (nI_add _ _) ?_
        refine lv_aload_n hx hb dX1_send_144 rfl (lv_at hl 5 rfl) ?_
        refine xg_org hx hb hts hown hK hP dX1_send_145 ?_
        refine lv_iload hx hb dX1_send_148 (lv_at hl 2 rfl) ?_
        refine xl_org hx hb hK hP (j := ((16 * P) + y)) (by omega) dX1_send_150 ?_
        refine xs_org hx hb hK hP hD hS (j := ((16 * P) + x)) (by omega) dX1_send_151 (fun H locs hP hD hS => ?_)
        refine lv_aload_n hx hb dX1_send_152 rfl (lv_at hl 5 rfl) ?_
        refine xg_snt hx hb hts hown hK hP dX1_send_153 ?_
        refine lv_iload hx hb dX1_send_156 (lv_at hl 2 rfl) ?_
        refine lv_iload hx hb dX1_send_158 (lv_at hl 1 rfl) ?_
        refine xs_snt hx hb hK hP hD hS (j := ((16 * P) + y)) (by omega) dX1_send_160 (fun H locs hP hD hS => ?_)
        refine lv_aload_n hx hb dX1_send_161 rfl (lv_at hl 5 rfl) ?_
        refine xg_org hx hb hts hown hK hP dX1_send_162 ?_
        refine lv_iload hx hb dX1_send_165 (lv_at hl 2 rfl) ?_
        refine lv_iload hx hb dX1_send_167 (lv_at hl 0 rfl) ?_
        refine xs_org hx hb hK hP hD hS (j := ((16 * P) + y)) (by omega) dX1_send_169 (fun H locs hP hD hS => ?_)
        refine lv_iinc (v := nI x - nI 1) (lv' := [(3, .int (nI x - nI 1)), (6, .int v2), (5, .int v1), (4, .int (nI ((16 * P) + y))), (2, .int (nI (16 * P))), (0, .ref (a 0)), (1, .int (nI P))]) hx hb dX1_send_170 hl (k := 3) rfl (dec_i _) (by decide) rfl (fun ls hl => ?_)
        refine lv_goto (tgt := 87) hx hb dX1_send_173 (by decide) ?_
        exact ih x _ _ _ (by omega) (by omega) (snd_sw hsn (show x < fb_ct (S P) 64 by omega) (show y < fb_ct (S P) 64 by omega) ev1 ev2) (fun j hj => by
          obtain ⟨a1, a2⟩ := hout j hj
          rw [upd_no (by omega), upd_no (by omega), upd_no (by omega), upd_no (by omega)]
          exact ⟨a1, a2⟩) H locs hP hD hS ls (lv_sub hl [0, 4, 5, 6] rfl)
  have loop1 : ∀ (q : Nat) (k : Nat) (f g : Nat → Int32), fb_ct (S P) 64 < k + q → (k ≤ fb_ct (S P) 64) → (f = fil snt (fun j => nI (gg e0 (its (16 * P + j)).toNatClampNeg)) (16 * P) k) → (g = fil org (fun j => nI j) (16 * P) k) → ∀ (H : Heap) (locs : List Loc), va_P D vwCl (wX a d its wts szs exs f g hit rnd lt) H → va_D A (wX a d its wts szs exs f g hit rnd lt) → va_S A s.heap H locs → ∀ (ls : Array Slot), lv_has ls 7 [(3, .int (nI k)), (2, .int (nI (16 * P))), (0, .ref (a 0)), (1, .int (nI P))] → W p l e (headSpec (ws_ yX1_send cX1_send 7 none) ({ frames := 1, cells := 0, slots := 0, locals := 40 } : Room)).room s m ([.ref (a 0), .int (nI P)] : List Value).toArray below meth c H locs 0 0 (MQ below (QXv D d A (fun u : (Nat → Int32) × (Nat → Int32) × Int32 => wX a d its wts szs exs u.1 u.2.1 hit u.2.2 lt) (fun u => match u with | (f, g, _) => Snt (S P) e0 (16 * P) f g ∧ ∀ j, (j < 16 * P ∨ 16 * P + fb_ct (S P) 64 ≤ j) → f j = snt j ∧ g j = org j)) ([.ref (a 0), .int (nI P)] : List Value).toArray s 0 0 A) (F0 m 7 ls []) := by
    intro q
    induction q with
    | zero =>
      intro k f g hq hk ef eg
      exact absurd hq (by omega)
    | succ q ih =>
      intro k f g hq hk ef eg H locs hP hD hS ls hl
      refine lv_iload_n hx hb dX1_send_7 rfl (lv_at hl 0 rfl) ?_
      refine lv_aload_n hx hb dX1_send_8 rfl (lv_at hl 2 rfl) ?_
      refine xg_szs hx hb hts hown hK hP dX1_send_9 ?_
      refine lv_iload_n hx hb dX1_send_12 rfl (lv_at hl 3 rfl) ?_
      refine xl_szs hx hb hK hP (j := P) (by omega) dX1_send_13 ?_
      refine xr_set (y := nI (fb_ct (S P) 64)) hs ?_
      refine xb_ge (tgt := 78) hx hb dX1_send_14 (by decide) (by omega) (by omega) (fun c1 => ?_) (fun c1 => ?_)
      · have ek : k = fb_ct (S P) 64 := by omega
        refine lv_aload_n hx hb dX1_send_78 rfl (lv_at hl 2 rfl) ?_
        refine xg_szs hx hb hts hown hK hP dX1_send_79 ?_
        refine lv_iload_n hx hb dX1_send_82 rfl (lv_at hl 3 rfl) ?_
        refine xl_szs hx hb hK hP (j := P) (by omega) dX1_send_83 ?_
        refine xr_set (y := nI (fb_ct (S P) 64)) hs ?_
        refine lv_iconst (v := nI 1) hx hb dX1_send_84 (by decide) ?_
        refine lv_isub hx hb dX1_send_85 ?_
        refine lv_istore_n (lv' := [(3, .int ((nI (fb_ct (S P) 64)) - (nI 1))), (2, .int (nI (16 * P))), (0, .ref (a 0)), (1, .int (nI P))]) hx hb dX1_send_86 rfl hl (by decide) rfl (fun ls hl => ?_)
        exact loop2 (fb_ct (S P) 64 + 1) (fb_ct (S P) 64) f g rnd (by omega) (Nat.le_refl _) (by rw [ef, eg, ek]; exact Snt_fil (fun i h1 h2 => (hf i h1 h2).1)) (fun j hj => by
          rw [ef, eg, fil_out (by omega), fil_out (by omega)]
          exact ⟨rfl, rfl⟩) H locs hP hD hS ls (lv_sub hl [0, 1, 2, 3] rfl)
      · obtain ⟨i, hi64, hSi, hci⟩ := fb_ct_kth c1
        have hii : its (16 * P + k) = nI i := by rw [← hci]; exact (hf i hi64 hSi).1
        have hii2 : (i + 1) * (i + 1) < 2 ^ 31 := Nat.lt_of_le_of_lt (Nat.mul_le_mul (show i + 1 ≤ 64 by omega) (show i + 1 ≤ 64 by omega)) (by decide)
        refine lv_aload_n hx hb dX1_send_17 rfl (lv_at hl 2 rfl) ?_
        refine xg_its hx hb hts hown hK hP dX1_send_18 ?_
        refine lv_iload_n hx hb dX1_send_21 rfl (lv_at hl 1 rfl) ?_
        refine lv_iload_n hx hb dX1_send_22 rfl (lv_at hl 0 rfl) ?_
        refine lv_iadd hx hb dX1_send_23 ?_
        refine xr_set (y := nI ((16 * P) + k)) (nI_add _ _) ?_
        refine xl_its hx hb hK hP (j := ((16 * P) + k)) (by omega) dX1_send_24 ?_
        refine xr_set (y := nI i) hii ?_
        refine lv_iconst (v := nI 1) hx hb dX1_send_25 (by decide) ?_
        refine lv_iadd hx hb dX1_send_26 ?_
        refine xr_set (y := nI (i + 1)) (nI_add _ _) ?_
        refine lv_aload_n hx hb dX1_send_27 rfl (lv_at hl 2 rfl) ?_
        refine xg_its hx hb hts hown hK hP dX1_send_28 ?_
        refine lv_iload_n hx hb dX1_send_31 rfl (lv_at hl 1 rfl) ?_
        refine lv_iload_n hx hb dX1_send_32 rfl (lv_at hl 0 rfl) ?_
        refine lv_iadd hx hb dX1_send_33 ?_
        refine xr_set (y := nI ((16 * P) + k)) (nI_add _ _) ?_
        refine xl_its hx hb hK hP (j := ((16 * P) + k)) (by omega) dX1_send_34 ?_
        refine xr_set (y := nI i) hii ?_
        refine lv_iconst (v := nI 1) hx hb dX1_send_35 (by decide) ?_
        refine lv_iadd hx hb dX1_send_36 ?_
        refine xr_set (y := nI (i + 1)) (nI_add _ _) ?_
        refine lv_imul hx hb dX1_send_37 ?_
        refine xr_set (y := nI ((i + 1) * (i + 1))) (pk_mul _ _) ?_
        refine lv_sipush (v := nI 2039) hx hb dX1_send_38 (by decide) ?_
        refine lv_irem hx hb dX1_send_41 (by decide) ?_
        refine xr_set (y := nI (((i + 1) * (i + 1)) % 2039)) (pk_rem (by omega) (by omega) (by omega)) ?_
        refine lv_istore (lv' := [(4, .int (nI (((i + 1) * (i + 1)) % 2039))), (3, .int (nI k)), (2, .int (nI (16 * P))), (0, .ref (a 0)), (1, .int (nI P))]) hx hb dX1_send_42 hl (by decide) rfl (fun ls hl => ?_)
        refine lv_aload_n hx hb dX1_send_44 rfl (lv_at hl 3 rfl) ?_
        refine xg_snt hx hb hts hown hK hP dX1_send_45 ?_
        refine lv_iload_n hx hb dX1_send_48 rfl (lv_at hl 2 rfl) ?_
        refine lv_iload_n hx hb dX1_send_49 rfl (lv_at hl 1 rfl) ?_
        refine lv_iadd hx hb dX1_send_50 ?_
        refine xr_set (y := nI ((16 * P) + k)) (nI_add _ _) ?_
        refine lv_iload hx hb dX1_send_51 (lv_at hl 0 rfl) ?_
        refine lv_aload_n hx hb dX1_send_53 rfl (lv_at hl 3 rfl) ?_
        refine xg_exs hx hb hts hown hK hP dX1_send_54 ?_
        refine lv_iload_n hx hb dX1_send_57 rfl (lv_at hl 4 rfl) ?_
        refine xl_exs hx hb hK hP (j := P) (by omega) dX1_send_58 ?_
        refine xr_set (y := nI e0) he ?_
        refine cs_S (As := [.int (nI (((i + 1) * (i + 1)) % 2039)), .int (nI e0)]) (rest := [.int (nI ((16 * P) + k)), .ref (a 5)]) ⟨hx, hb, hml, hown, hts⟩ (met_power l ((i + 1) * (i + 1) % 2039) e0 (Nat.mod_lt _ (by decide)) (by omega)) (va_cwS 2 hts (lw_S q115 q116 q20 q117) rfl rfl rfl (by decide +kernel) ⟨Nat.le_of_ble_eq_true rfl, Nat.le_of_ble_eq_true rfl⟩) rfl hl.1 rfl (Nat.le_of_ble_eq_true rfl) dX1_send_59 ⟨Nat.zero_le _, Nat.zero_le _⟩ (fun r hw => ?_)
        rw [gg_base] at hw
        subst hw
        refine xs_snt hx hb hK hP hD hS (j := ((16 * P) + k)) (by omega) dX1_send_62 (fun H locs hP hD hS => ?_)
        refine lv_aload_n hx hb dX1_send_63 rfl (lv_at hl 3 rfl) ?_
        refine xg_org hx hb hts hown hK hP dX1_send_64 ?_
        refine lv_iload_n hx hb dX1_send_67 rfl (lv_at hl 2 rfl) ?_
        refine lv_iload_n hx hb dX1_send_68 rfl (lv_at hl 1 rfl) ?_
        refine lv_iadd hx hb dX1_send_69 ?_
        refine xr_set (y := nI ((16 * P) + k)) (nI_add _ _) ?_
        refine lv_iload_n hx hb dX1_send_70 rfl (lv_at hl 1 rfl) ?_
        refine xs_org hx hb hK hP hD hS (j := ((16 * P) + k)) (by omega) dX1_send_71 (fun H locs hP hD hS => ?_)
        refine lv_iinc (v := nI (k + 1)) (lv' := [(3, .int (nI (k + 1))), (4, .int (nI (((i + 1) * (i + 1)) % 2039))), (2, .int (nI (16 * P))), (0, .ref (a 0)), (1, .int (nI P))]) hx hb dX1_send_72 hl (k := 1) rfl (nI_1 _) (by decide) rfl (fun ls hl => ?_)
        refine lv_goto (tgt := 7) hx hb dX1_send_75 (by decide) ?_
        exact ih (k + 1) _ _ (by omega) (by omega) (by rw [ef]; exact fil_step _ _ _ _ (by show nI (gg e0 (its (16 * P + k)).toNatClampNeg) = _; rw [hii, nI_clamp (by omega)])) (by rw [eg]; exact fil_step _ _ _ _ rfl) H locs hP hD hS ls (lv_sub hl [0, 2, 3, 4] rfl)
  exact loop1 (fb_ct (S P) 64 + 1) 0 snt org (by omega) (Nat.zero_le _) (fil_0 _ _ _).symm (fil_0 _ _ _).symm _ _ hP hD hS ls (lv_sub hl [0, 1, 2, 3] rfl)
end
section
theorem hb_y {hit : Nat → Int32} {k : Nat} (h : ¬ hit k = 0) : hb_ hit k = true := decide_eq_true h
theorem hb_n {hit : Nat → Int32} {k : Nat} (h : hit k = 0) : hb_ hit k = false := decide_eq_false (fun q => q h)
theorem ln_dec {x i : Int32} {c : Nat} (h : x = i - nI c) : x - nI 1 = i - nI (c + 1) := by
  rw [h, nI_succ c, show nI 1 = 1 from rfl]
  grind
theorem ln_0 {i : Int32} {c : Nat} (h : (0 : Int32) = i - nI c) : nI c = i := by grind
set_option maxHeartbeats 4000000 in
set_option maxRecDepth 100000 in
theorem met_hits (l : Launch) (D : va_G) (a : Nat → Nat) (d : Nat → ClassId) (its wts szs exs snt org hit : Nat → Int32) (rnd lt : Int32) (S : Nat → Nat → Bool) (w : Nat → Nat → Int32) (P : Nat) (hP3 : P < 3) (hi : XI S w its wts szs) : Met l yX1_hits (ws_ yX1_hits cX1_hits 4 (some .int)) ({ frames := 0, cells := 0, slots := 0, locals := 0 } : Room) (va_Pc [.ref (a 0), .int (nI P)] (fun U => va_P D vwCl (wX a d its wts szs exs snt org hit rnd lt) U.heap ∧ va_K D vwCl (tyX d) U)) (vp_Si (fun r => r = nI (fb_ct (hb_ hit) (fb_ct (S P) 64)))) 0 0 (fun _ => False) := by
  refine Met.ofW (cc := cX1_hits) (maxL := 4) (ret := (some .int)) (by decide) rfl ?_
  intro p e s m args below meth c s₁ B hml hv
  obtain ⟨rfl, hP, hK⟩ := hv
  have hx := B.exec
  have hb := B.bytes
  have hr := B.returns
  have hlocks := B.notSynchronized
  have hts := atoms_spec (ws := ws_ yX1_hits cX1_hits 4 (some .int)) B.pre
  have hts : ∀ w ∈ lw_all, w.before _ s = true := fun w h => hts w (List.mem_cons_of_mem _ h)
  have hown : s.vm.findClass RX1 = some m.cls := findClass_of_methodNamed B.named
  have hl := lv_entry ([.ref (a 0), .int (nI P)]) (n := 4) (Nat.le_of_ble_eq_true rfl)
  rw [lg_entry_eq]
  generalize (lg_sl ([.ref (a 0), .int (nI P)]) ++ List.replicate (4 - (lg_sl ([.ref (a 0), .int (nI P)])).length) Slot.unset).toArray = ls at hl ⊢
  have hl : lv_has ls 4 [(0, .ref (a 0)), (1, .int (nI P))] := hl
  obtain ⟨hs, h16, hf⟩ := hi P hP3
  refine lv_iconst (v := nI 0) hx hb dX1_hits_0 (by decide) ?_
  refine lv_istore_n (lv' := [(2, .int (nI 0)), (0, .ref (a 0)), (1, .int (nI P))]) hx hb dX1_hits_1 rfl hl (by decide) rfl (fun ls hl => ?_)
  refine lv_iconst (v := nI 0) hx hb dX1_hits_2 (by decide) ?_
  refine lv_istore_n (lv' := [(3, .int (nI 0)), (2, .int (nI 0)), (0, .ref (a 0)), (1, .int (nI P))]) hx hb dX1_hits_3 rfl hl (by decide) rfl (fun ls hl => ?_)
  have loop : ∀ (q : Nat) (k : Nat), fb_ct (S P) 64 < k + q → (k ≤ fb_ct (S P) 64) → ∀ (ls : Array Slot), lv_has ls 4 [(3, .int (nI k)), (2, .int (nI (fb_ct (hb_ hit) k))), (0, .ref (a 0)), (1, .int (nI P))] → W p l e (headSpec (ws_ yX1_hits cX1_hits 4 (some .int)) ({ frames := 0, cells := 0, slots := 0, locals := 0 } : Room)).room s m ([.ref (a 0), .int (nI P)] : List Value).toArray below meth c s.heap [] 0 0 (MQ below (vp_Si (fun r => r = nI (fb_ct (hb_ hit) (fb_ct (S P) 64)))) ([.ref (a 0), .int (nI P)] : List Value).toArray s 0 0 (fun _ => False)) (F0 m 4 ls []) := by
    intro q
    induction q with
    | zero =>
      intro k hq hk
      exact absurd hq (by omega)
    | succ q ih =>
      intro k hq hk ls hl
      refine lv_iload_n hx hb dX1_hits_4 rfl (lv_at hl 0 rfl) ?_
      refine lv_aload_n hx hb dX1_hits_5 rfl (lv_at hl 2 rfl) ?_
      refine xg_szs hx hb hts hown hK hP dX1_hits_6 ?_
      refine lv_iload_n hx hb dX1_hits_9 rfl (lv_at hl 3 rfl) ?_
      refine xl_szs hx hb hK hP (j := P) (by omega) dX1_hits_10 ?_
      refine xr_set (y := nI (fb_ct (S P) 64)) hs ?_
      refine xb_ge (tgt := 37) hx hb dX1_hits_11 (by decide) (by omega) (by omega) (fun c1 => ?_) (fun c1 => ?_)
      · refine lv_iload_n hx hb dX1_hits_37 rfl (lv_at hl 1 rfl) ?_
        exact W.iret (v := nI (fb_ct (hb_ hit) k)) hx hb hr (fun t_ ht_ hW_ => ⟨_, rfl, by rw [show k = fb_ct (S P) 64 by omega], ht_⟩) (fun _ h => absurd h List.not_mem_nil) dX1_hits_38
      · refine lv_iload_n hx hb dX1_hits_14 rfl (lv_at hl 1 rfl) ?_
        refine lv_aload_n hx hb dX1_hits_15 rfl (lv_at hl 2 rfl) ?_
        refine xg_hit hx hb hts hown hK hP dX1_hits_16 ?_
        refine lv_iload_n hx hb dX1_hits_19 rfl (lv_at hl 0 rfl) ?_
        refine xl_hit hx hb hK hP (j := k) (by omega) dX1_hits_20 ?_
        refine lv_if_eq (tgt := 28) hx hb dX1_hits_21 (by decide) (fun c2 => ?_) (fun c2 => ?_)
        · refine lv_iconst (v := nI 0) hx hb dX1_hits_28 (by decide) ?_
          refine lv_iadd hx hb dX1_hits_29 ?_
          refine xr_set (y := nI (fb_ct (hb_ hit) (k + 1))) (by rw [ct_n (hb_n c2)]; exact nI_add _ 0) ?_
          refine lv_istore_n (lv' := [(2, .int (nI (fb_ct (hb_ hit) (k + 1)))), (3, .int (nI k)), (0, .ref (a 0)), (1, .int (nI P))]) hx hb dX1_hits_30 rfl hl (by decide) rfl (fun ls hl => ?_)
          refine lv_iinc (v := nI (k + 1)) (lv' := [(3, .int (nI (k + 1))), (2, .int (nI (fb_ct (hb_ hit) (k + 1)))), (0, .ref (a 0)), (1, .int (nI P))]) hx hb dX1_hits_31 hl (k := 1) rfl (nI_1 _) (by decide) rfl (fun ls hl => ?_)
          refine lv_goto (tgt := 4) hx hb dX1_hits_34 (by decide) ?_
          exact ih (k + 1) (by omega) (by omega) ls (lv_sub hl [0, 1, 2, 3] rfl)
        · refine lv_iconst (v := nI 1) hx hb dX1_hits_24 (by decide) ?_
          refine lv_goto (tgt := 29) hx hb dX1_hits_25 (by decide) ?_
          refine lv_iadd hx hb dX1_hits_29 ?_
          refine xr_set (y := nI (fb_ct (hb_ hit) (k + 1))) (by rw [ct_y (hb_y c2)]; exact nI_add _ 1) ?_
          refine lv_istore_n (lv' := [(2, .int (nI (fb_ct (hb_ hit) (k + 1)))), (3, .int (nI k)), (0, .ref (a 0)), (1, .int (nI P))]) hx hb dX1_hits_30 rfl hl (by decide) rfl (fun ls hl => ?_)
          refine lv_iinc (v := nI (k + 1)) (lv' := [(3, .int (nI (k + 1))), (2, .int (nI (fb_ct (hb_ hit) (k + 1)))), (0, .ref (a 0)), (1, .int (nI P))]) hx hb dX1_hits_31 hl (k := 1) rfl (nI_1 _) (by decide) rfl (fun ls hl => ?_)
          refine lv_goto (tgt := 4) hx hb dX1_hits_34 (by decide) ?_
          exact ih (k + 1) (by omega) (by omega) ls (lv_sub hl [0, 1, 2, 3] rfl)
  exact loop (fb_ct (S P) 64 + 1) 0 (by omega) (Nat.zero_le _) ls (lv_sub hl [0, 1, 2, 3] rfl)
set_option maxHeartbeats 4000000 in
set_option maxRecDepth 100000 in
theorem met_hitNumber (l : Launch) (D : va_G) (a : Nat → Nat) (d : Nat → ClassId) (its wts szs exs snt org hit : Nat → Int32) (rnd lt : Int32) (S : Nat → Nat → Bool) (w : Nat → Nat → Int32) (P : Nat) (i : Int32) (hP3 : P < 3) (hi : XI S w its wts szs) : Met l yX1_hitNumber (ws_ yX1_hitNumber cX1_hitNumber 5 (some .int)) ({ frames := 0, cells := 0, slots := 0, locals := 0 } : Room) (va_Pc [.ref (a 0), .int (nI P), .int i] (fun U => va_P D vwCl (wX a d its wts szs exs snt org hit rnd lt) U.heap ∧ va_K D vwCl (tyX d) U)) (vp_Si (fun r => r = opt (pick (hb_ hit) i (fb_ct (S P) 64)) (-1))) 0 0 (fun _ => False) := by
  refine Met.ofW (cc := cX1_hitNumber) (maxL := 5) (ret := (some .int)) (by decide) rfl ?_
  intro p e s m args below meth c s₁ B hml hv
  obtain ⟨rfl, hP, hK⟩ := hv
  have hx := B.exec
  have hb := B.bytes
  have hr := B.returns
  have hlocks := B.notSynchronized
  have hts := atoms_spec (ws := ws_ yX1_hitNumber cX1_hitNumber 5 (some .int)) B.pre
  have hts : ∀ w ∈ lw_all, w.before _ s = true := fun w h => hts w (List.mem_cons_of_mem _ h)
  have hown : s.vm.findClass RX1 = some m.cls := findClass_of_methodNamed B.named
  have hl := lv_entry ([.ref (a 0), .int (nI P), .int i]) (n := 5) (Nat.le_of_ble_eq_true rfl)
  rw [lg_entry_eq]
  generalize (lg_sl ([.ref (a 0), .int (nI P), .int i]) ++ List.replicate (5 - (lg_sl ([.ref (a 0), .int (nI P), .int i])).length) Slot.unset).toArray = ls at hl ⊢
  have hl : lv_has ls 5 [(0, .ref (a 0)), (1, .int (nI P)), (2, .int i)] := hl
  obtain ⟨hs, h16, hf⟩ := hi P hP3
  refine lv_iload_n hx hb dX1_hitNumber_0 rfl (lv_at hl 2 rfl) ?_
  refine lv_istore_n (lv' := [(3, .int i), (0, .ref (a 0)), (1, .int (nI P)), (2, .int i)]) hx hb dX1_hitNumber_1 rfl hl (by decide) rfl (fun ls hl => ?_)
  refine lv_iconst (v := nI 0) hx hb dX1_hitNumber_2 (by decide) ?_
  refine lv_istore (lv' := [(4, .int (nI 0)), (3, .int i), (0, .ref (a 0)), (1, .int (nI P)), (2, .int i)]) hx hb dX1_hitNumber_3 hl (by decide) rfl (fun ls hl => ?_)
  have loop : ∀ (q : Nat) (k : Nat) (x : Int32), fb_ct (S P) 64 < k + q → (k ≤ fb_ct (S P) 64) → (x = i - nI (fb_ct (hb_ hit) k)) → (∀ j, j < k → hb_ hit j = true → nI (fb_ct (hb_ hit) j) ≠ i) → ∀ (ls : Array Slot), lv_has ls 5 [(4, .int (nI k)), (3, .int x), (0, .ref (a 0)), (1, .int (nI P)), (2, .int i)] → W p l e (headSpec (ws_ yX1_hitNumber cX1_hitNumber 5 (some .int)) ({ frames := 0, cells := 0, slots := 0, locals := 0 } : Room)).room s m ([.ref (a 0), .int (nI P), .int i] : List Value).toArray below meth c s.heap [] 0 0 (MQ below (vp_Si (fun r => r = opt (pick (hb_ hit) i (fb_ct (S P) 64)) (-1))) ([.ref (a 0), .int (nI P), .int i] : List Value).toArray s 0 0 (fun _ => False)) (F0 m 5 ls []) := by
    intro q
    induction q with
    | zero =>
      intro k x hq hk ex hno
      exact absurd hq (by omega)
    | succ q ih =>
      intro k x hq hk ex hno ls hl
      refine lv_iload hx hb dX1_hitNumber_5 (lv_at hl 0 rfl) ?_
      refine lv_aload_n hx hb dX1_hitNumber_7 rfl (lv_at hl 2 rfl) ?_
      refine xg_szs hx hb hts hown hK hP dX1_hitNumber_8 ?_
      refine lv_iload_n hx hb dX1_hitNumber_11 rfl (lv_at hl 3 rfl) ?_
      refine xl_szs hx hb hK hP (j := P) (by omega) dX1_hitNumber_12 ?_
      refine xr_set (y := nI (fb_ct (S P) 64)) hs ?_
      refine xb_ge (tgt := 42) hx hb dX1_hitNumber_13 (by decide) (by omega) (by omega) (fun c1 => ?_) (fun c1 => ?_)
      · refine lv_iconst (v := (-1)) hx hb dX1_hitNumber_42 (by decide) ?_
        exact W.iret (v := (-1)) hx hb hr (fun t_ ht_ hW_ => ⟨_, rfl, by
          rw [← show k = fb_ct (S P) 64 by omega, pick_no hno]
          rfl, ht_⟩) (fun _ h => absurd h List.not_mem_nil) dX1_hitNumber_43
      · refine lv_aload_n hx hb dX1_hitNumber_16 rfl (lv_at hl 2 rfl) ?_
        refine xg_hit hx hb hts hown hK hP dX1_hitNumber_17 ?_
        refine lv_iload hx hb dX1_hitNumber_20 (lv_at hl 0 rfl) ?_
        refine xl_hit hx hb hK hP (j := k) (by omega) dX1_hitNumber_22 ?_
        refine lv_if_eq (tgt := 36) hx hb dX1_hitNumber_23 (by decide) (fun c2 => ?_) (fun c2 => ?_)
        · refine lv_iinc (v := nI (k + 1)) (lv' := [(4, .int (nI (k + 1))), (3, .int x), (0, .ref (a 0)), (1, .int (nI P)), (2, .int i)]) hx hb dX1_hitNumber_36 hl (k := 0) rfl (nI_1 _) (by decide) rfl (fun ls hl => ?_)
          refine lv_goto (tgt := 5) hx hb dX1_hitNumber_39 (by decide) ?_
          exact ih (k + 1) x (by omega) (by omega) (by rw [ct_n (hb_n c2)]; exact ex) (fun j hj hjb => by
            rcases Nat.lt_or_ge j k with q1 | q1
            · exact hno j q1 hjb
            · have ej : j = k := by omega
              subst ej
              rw [hb_n c2] at hjb
              cases hjb) ls (lv_sub hl [0, 1, 2, 3, 4] rfl)
        · refine lv_iload_n hx hb dX1_hitNumber_26 rfl (lv_at hl 1 rfl) ?_
          refine lv_if_ne (tgt := 33) hx hb dX1_hitNumber_27 (by decide) (fun c3 => ?_) (fun c3 => ?_)
          · refine lv_iinc (v := x - nI 1) (lv' := [(3, .int (x - nI 1)), (4, .int (nI k)), (0, .ref (a 0)), (1, .int (nI P)), (2, .int i)]) hx hb dX1_hitNumber_33 hl (k := 1) rfl (dec_i _) (by decide) rfl (fun ls hl => ?_)
            refine lv_iinc (v := nI (k + 1)) (lv' := [(4, .int (nI (k + 1))), (3, .int (x - nI 1)), (0, .ref (a 0)), (1, .int (nI P)), (2, .int i)]) hx hb dX1_hitNumber_36 hl (k := 1) rfl (nI_1 _) (by decide) rfl (fun ls hl => ?_)
            refine lv_goto (tgt := 5) hx hb dX1_hitNumber_39 (by decide) ?_
            exact ih (k + 1) (x - nI 1) (by omega) (by omega) (by rw [ct_y (hb_y c2)]; exact ln_dec ex) (fun j hj hjb => by
              rcases Nat.lt_or_ge j k with q1 | q1
              · exact hno j q1 hjb
              · have ej : j = k := by omega
                subst ej
                intro e1
                rw [e1] at ex
                exact c3 (ex.trans (Int32.sub_self i))) ls (lv_sub hl [0, 1, 2, 3, 4] rfl)
          · refine lv_iload hx hb dX1_hitNumber_30 (lv_at hl 0 rfl) ?_
            exact W.iret (v := nI k) hx hb hr (fun t_ ht_ hW_ => ⟨_, rfl, by
              rw [c3] at ex
              rw [pick_yes (hb_y c2) (ln_0 ex) c1 (by omega)]
              rfl, ht_⟩) (fun _ h => absurd h List.not_mem_nil) dX1_hitNumber_32
  exact loop (fb_ct (S P) 64 + 1) 0 i (by omega) (Nat.zero_le _) (by show i = i - 0; grind) (fun j hj => absurd hj (Nat.not_lt_zero j)) ls (lv_sub hl [0, 1, 2, 3, 4] rfl)
set_option maxHeartbeats 4000000 in
set_option maxRecDepth 100000 in
theorem met_compareTwo (l : Launch) (sz : Nat) (D : va_G) (a : Nat → Nat) (d : Nat → ClassId) (its wts szs exs snt org hit : Nat → Int32) (rnd lt : Int32) (S : Nat → Nat → Bool) (w : Nat → Nat → Int32) (P Q : Nat) (hP3 : P < 3) (hQ3 : Q < 3) (hi : XI S w its wts szs) (he : EI exs) : Met l yX1_compareTwo (ws_ yX1_compareTwo cX1_compareTwo 5 none) ({ frames := 2, cells := 0, slots := 0, locals := 80 } : Room) (va_Pc [.ref (a 0), .int (nI P), .int (nI Q)] (fun U => U.heap.size = sz ∧ va_P D vwCl (wX a d its wts szs exs snt org hit rnd lt) U.heap ∧ va_K D vwCl (tyX d) U ∧ va_D (fun _ => True) (wX a d its wts szs exs snt org hit rnd lt))) (QXv D d (va_A (wX a d its wts szs exs snt org hit rnd lt) sz) (fun u : (Nat → Int32) × (Nat → Int32) × (Nat → Int32) × Int32 × Int32 => wX a d its wts szs exs u.1 u.2.1 u.2.2.1 u.2.2.2.1 u.2.2.2.2) (fun u => match u with | (_, _, h, _, y) => HitOk (S P) (S Q) h ∧ y = trf S P Q lt)) 0 0 (va_A (wX a d its wts szs exs snt org hit rnd lt) sz) := by
  refine Met.ofW (cc := cX1_compareTwo) (maxL := 5) (ret := none) (by decide) rfl ?_
  intro p e s m args below meth c s₁ B hml hv
  obtain ⟨rfl, hsz, hP, hK, hD0⟩ := hv
  have hx := B.exec
  have hb := B.bytes
  have hr := B.returns
  have hlocks := B.notSynchronized
  have hts := atoms_spec (ws := ws_ yX1_compareTwo cX1_compareTwo 5 none) B.pre
  have hts : ∀ w ∈ lw_all, w.before _ s = true := fun w h => hts w (List.mem_cons_of_mem _ h)
  have hown : s.vm.findClass RX1 = some m.cls := findClass_of_methodNamed B.named
  subst hsz
  have hD := hD0.self (sz := s.heap.size)
  generalize hAe : va_A (wX a d its wts szs exs snt org hit rnd lt) s.heap.size = A at hD ⊢
  have hA : ∀ q : Nat, s.heap.size ≤ q → A q := fun q h => by rw [← hAe]; exact Or.inr h
  have hS : va_S A s.heap s.heap [] := va_S.rf
  have hl := lv_entry ([.ref (a 0), .int (nI P), .int (nI Q)]) (n := 5) (Nat.le_of_ble_eq_true rfl)
  rw [lg_entry_eq]
  generalize (lg_sl ([.ref (a 0), .int (nI P), .int (nI Q)]) ++ List.replicate (5 - (lg_sl ([.ref (a 0), .int (nI P), .int (nI Q)])).length) Slot.unset).toArray = ls at hl ⊢
  have hl : lv_has ls 5 [(0, .ref (a 0)), (1, .int (nI P)), (2, .int (nI Q))] := hl
  obtain ⟨hs, h16, hf⟩ := hi P hP3
  obtain ⟨hsq, h16q, hfq⟩ := hi Q hQ3
  obtain ⟨e1, he1a, he1b, he1⟩ := he P hP3
  obtain ⟨e2, he2a, he2b, he2⟩ := he Q hQ3
  refine lv_iconst (v := nI 0) hx hb dX1_compareTwo_0 (by decide) ?_
  refine lv_istore_n (lv' := [(3, .int (nI 0)), (0, .ref (a 0)), (1, .int (nI P)), (2, .int (nI Q))]) hx hb dX1_compareTwo_1 rfl hl (by decide) rfl (fun ls hl => ?_)
  have loop : ∀ (q : Nat) (k : Nat) (h : Nat → Int32), 16 < k + q → (k ≤ 16) → (∀ j, j < k → h j = bI (decide (P = Q))) → ∀ (H : Heap) (locs : List Loc), va_P D vwCl (wX a d its wts szs exs snt org h rnd lt) H → va_D A (wX a d its wts szs exs snt org h rnd lt) → va_S A s.heap H locs → ∀ (ls : Array Slot), lv_has ls 5 [(3, .int (nI k)), (0, .ref (a 0)), (1, .int (nI P)), (2, .int (nI Q))] → W p l e (headSpec (ws_ yX1_compareTwo cX1_compareTwo 5 none) ({ frames := 2, cells := 0, slots := 0, locals := 80 } : Room)).room s m ([.ref (a 0), .int (nI P), .int (nI Q)] : List Value).toArray below meth c H locs 0 0 (MQ below (QXv D d A (fun u : (Nat → Int32) × (Nat → Int32) × (Nat → Int32) × Int32 × Int32 => wX a d its wts szs exs u.1 u.2.1 u.2.2.1 u.2.2.2.1 u.2.2.2.2) (fun u => match u with | (_, _, h, _, y) => HitOk (S P) (S Q) h ∧ y = trf S P Q lt)) ([.ref (a 0), .int (nI P), .int (nI Q)] : List Value).toArray s 0 0 A) (F0 m 2 ls []) := by
    intro q
    induction q with
    | zero =>
      intro k h hq hk hh
      exact absurd hq (by omega)
    | succ q ih =>
      intro k h hq hk hh H locs hP hD hS ls hl
      refine lv_iload_n hx hb dX1_compareTwo_2 rfl (lv_at hl 0 rfl) ?_
      refine lv_bipush (v := nI 16) hx hb dX1_compareTwo_3 (by decide) ?_
      refine xb_ge (tgt := 30) hx hb dX1_compareTwo_5 (by decide) (by omega) (by omega) (fun c1 => ?_) (fun c1 => ?_)
      · refine lv_iload_n hx hb dX1_compareTwo_30 rfl (lv_at hl 2 rfl) ?_
        refine lv_iload_n hx hb dX1_compareTwo_31 rfl (lv_at hl 3 rfl) ?_
        refine xb_ne (tgt := 36) hx hb dX1_compareTwo_32 (by decide) (by omega) (by omega) (fun c2 => ?_) (fun c2 => ?_)
        · refine lv_aload_n hx hb dX1_compareTwo_36 rfl (lv_at hl 1 rfl) ?_
          refine lv_iload_n hx hb dX1_compareTwo_37 rfl (lv_at hl 2 rfl) ?_
          refine cs_Wv (ci := 0) (As := [.int (nI P)]) (rest := []) ⟨hx, hb, hml, hown, hts⟩ (met_send l H.size D a d its wts szs exs snt org h rnd lt S w P e1 hP3 hi he1 he1b) (cwV 1 hts (lw_V q111 q113 qs3 q20 q114) rfl rfl rfl (by decide +kernel) ⟨Nat.le_of_ble_eq_true rfl, Nat.le_of_ble_eq_true rfl⟩) hK hP hD hS hA rfl rfl rfl hl.1 rfl (Nat.le_of_ble_eq_true rfl) dX1_compareTwo_38 ⟨Nat.zero_le _, Nat.zero_le _⟩ (fun u H locs hw hP hD hS _ => ?_)
          obtain ⟨f1, g1, z1⟩ := u
          obtain ⟨hsn1, -⟩ := hw
          refine lv_aload_n hx hb dX1_compareTwo_41 rfl (lv_at hl 1 rfl) ?_
          refine lv_iload_n hx hb dX1_compareTwo_42 rfl (lv_at hl 3 rfl) ?_
          refine cs_Wv (ci := 0) (As := [.int (nI Q)]) (rest := []) ⟨hx, hb, hml, hown, hts⟩ (met_send l H.size D a d its wts szs exs f1 g1 h z1 lt S w Q e2 hQ3 hi he2 he2b) (cwV 1 hts (lw_V q111 q113 qs3 q20 q114) rfl rfl rfl (by decide +kernel) ⟨Nat.le_of_ble_eq_true rfl, Nat.le_of_ble_eq_true rfl⟩) hK hP hD hS hA rfl rfl rfl hl.1 rfl (Nat.le_of_ble_eq_true rfl) dX1_compareTwo_43 ⟨Nat.zero_le _, Nat.zero_le _⟩ (fun u H locs hw hP hD hS _ => ?_)
          obtain ⟨f2, g2, z2⟩ := u
          obtain ⟨hsn2, hout⟩ := hw
          have hsn1 : Snt (S P) e1 (16 * P) f2 g2 := Snt_cong hsn1 (fun j hj => (hout _ (by omega)).1) (fun j hj => (hout _ (by omega)).2)
          refine lv_aload_n hx hb dX1_compareTwo_46 rfl (lv_at hl 1 rfl) ?_
          refine lv_iload_n hx hb dX1_compareTwo_47 rfl (lv_at hl 2 rfl) ?_
          refine lv_iload_n hx hb dX1_compareTwo_48 rfl (lv_at hl 3 rfl) ?_
          refine cs_Wv (ci := 0) (As := [.int (nI P), .int (nI Q)]) (rest := []) ⟨hx, hb, hml, hown, hts⟩ (met_raise l H.size D a d its wts szs exs f2 g2 h z2 lt S w P Q e1 e2 hP3 hQ3 hi hsn1 he2 he2b) (cwV 2 hts (lw_V q123 q125 qs5 q20 q126) rfl rfl rfl (by decide +kernel) ⟨Nat.le_of_ble_eq_true rfl, Nat.le_of_ble_eq_true rfl⟩) hK hP hD hS hA rfl rfl rfl hl.1 rfl (Nat.le_of_ble_eq_true rfl) dX1_compareTwo_49 ⟨Nat.zero_le _, Nat.zero_le _⟩ (fun u H locs hw hP hD hS _ => ?_)
          obtain ⟨f3, ef3⟩ : ∃ f3, f3 = u := ⟨_, rfl⟩
          rw [← ef3] at hw hP hD
          have hsn1 : Snt (S P) (e1 * e2) (16 * P) f3 g2 := by rw [hw]; exact Snt_rsd hsn1
          have hsn2 : Snt (S Q) e2 (16 * Q) f3 g2 := Snt_cong hsn2 (fun j hj => by rw [hw]; exact rsd_hi (by omega)) (fun _ _ => rfl)
          refine lv_aload_n hx hb dX1_compareTwo_52 rfl (lv_at hl 1 rfl) ?_
          refine lv_iload_n hx hb dX1_compareTwo_53 rfl (lv_at hl 3 rfl) ?_
          refine lv_iload_n hx hb dX1_compareTwo_54 rfl (lv_at hl 2 rfl) ?_
          refine cs_Wv (ci := 0) (As := [.int (nI Q), .int (nI P)]) (rest := []) ⟨hx, hb, hml, hown, hts⟩ (met_raise l H.size D a d its wts szs exs f3 g2 h z2 lt S w Q P e2 e1 hQ3 hP3 hi hsn2 he1 he1b) (cwV 2 hts (lw_V q123 q125 qs5 q20 q126) rfl rfl rfl (by decide +kernel) ⟨Nat.le_of_ble_eq_true rfl, Nat.le_of_ble_eq_true rfl⟩) hK hP hD hS hA rfl rfl rfl hl.1 rfl (Nat.le_of_ble_eq_true rfl) dX1_compareTwo_55 ⟨Nat.zero_le _, Nat.zero_le _⟩ (fun u H locs hw2 hP hD hS _ => ?_)
          obtain ⟨f4, ef4⟩ : ∃ f4, f4 = u := ⟨_, rfl⟩
          rw [← ef4] at hw2 hP hD
          have hsn1 : Snt (S P) (e1 * e2) (16 * P) f4 g2 := Snt_cong hsn1 (fun j hj => by rw [hw2]; exact rsd_hi (by omega)) (fun _ _ => rfl)
          have hsn2 : Snt (S Q) (e1 * e2) (16 * Q) f4 g2 := by rw [hw2, Nat.mul_comm e1 e2]; exact Snt_rsd hsn2
          have hgE : gd (e1 * e2) := gd_mul (gd_of he1a he1b) (gd_of he2a he2b)
          generalize e1 * e2 = E at hsn1 hsn2 hgE
          refine lv_iconst (v := nI 0) hx hb dX1_compareTwo_58 (by decide) ?_
          refine lv_istore_n (lv' := [(3, .int (nI 0)), (0, .ref (a 0)), (1, .int (nI P)), (2, .int (nI Q))]) hx hb dX1_compareTwo_59 rfl hl (by decide) rfl (fun ls hl => ?_)
          have loop2 : ∀ (q : Nat) (k2 : Nat) (h2 : Nat → Int32), fb_ct (S P) 64 < k2 + q → (k2 ≤ fb_ct (S P) 64) → (HitTo (S P) (S Q) (16 * P) k2 g2 h2) → ∀ (H : Heap) (locs : List Loc), va_P D vwCl (wX a d its wts szs exs f4 g2 h2 z2 lt) H → va_D A (wX a d its wts szs exs f4 g2 h2 z2 lt) → va_S A s.heap H locs → ∀ (ls : Array Slot), lv_has ls 5 [(3, .int (nI k2)), (0, .ref (a 0)), (1, .int (nI P)), (2, .int (nI Q))] → W p l e (headSpec (ws_ yX1_compareTwo cX1_compareTwo 5 none) ({ frames := 2, cells := 0, slots := 0, locals := 80 } : Room)).room s m ([.ref (a 0), .int (nI P), .int (nI Q)] : List Value).toArray below meth c H locs 0 0 (MQ below (QXv D d A (fun u : (Nat → Int32) × (Nat → Int32) × (Nat → Int32) × Int32 × Int32 => wX a d its wts szs exs u.1 u.2.1 u.2.2.1 u.2.2.2.1 u.2.2.2.2) (fun u => match u with | (_, _, h, _, y) => HitOk (S P) (S Q) h ∧ y = trf S P Q lt)) ([.ref (a 0), .int (nI P), .int (nI Q)] : List Value).toArray s 0 0 A) (F0 m 60 ls []) := by
            intro q
            induction q with
            | zero =>
              intro k2 h2 hq hk2 hto
              exact absurd hq (by omega)
            | succ q ih =>
              intro k2 h2 hq hk2 hto H locs hP hD hS ls hl
              refine lv_iload_n hx hb dX1_compareTwo_60 rfl (lv_at hl 0 rfl) ?_
              refine lv_aload_n hx hb dX1_compareTwo_61 rfl (lv_at hl 1 rfl) ?_
              refine xg_szs hx hb hts hown hK hP dX1_compareTwo_62 ?_
              refine lv_iload_n hx hb dX1_compareTwo_65 rfl (lv_at hl 2 rfl) ?_
              refine xl_szs hx hb hK hP (j := P) (by omega) dX1_compareTwo_66 ?_
              refine xr_set (y := nI (fb_ct (S P) 64)) hs ?_
              refine xb_ge (tgt := 112) hx hb dX1_compareTwo_67 (by decide) (by omega) (by omega) (fun c3 => ?_) (fun c3 => ?_)
              · have hok : HitOk (S P) (S Q) h2 := HitTo_ok (E := E) (snt := f4) (by rw [← show k2 = fb_ct (S P) 64 by omega]; exact hto) hsn1
                refine lv_aload_n hx hb dX1_compareTwo_112 rfl (lv_at hl 1 rfl) ?_
                refine lv_aload_n hx hb dX1_compareTwo_113 rfl (lv_at hl 1 rfl) ?_
                refine xg_szs hx hb hts hown hK hP dX1_compareTwo_114 ?_
                refine lv_iload_n hx hb dX1_compareTwo_117 rfl (lv_at hl 2 rfl) ?_
                refine xl_szs hx hb hK hP (j := P) (by omega) dX1_compareTwo_118 ?_
                refine xr_set (y := nI (fb_ct (S P) 64)) hs ?_
                refine lv_aload_n hx hb dX1_compareTwo_119 rfl (lv_at hl 1 rfl) ?_
                refine xg_szs hx hb hts hown hK hP dX1_compareTwo_120 ?_
                refine lv_iload_n hx hb dX1_compareTwo_123 rfl (lv_at hl 3 rfl) ?_
                refine xl_szs hx hb hK hP (j := Q) (by omega) dX1_compareTwo_124 ?_
                refine xr_set (y := nI (fb_ct (S Q) 64)) hsq ?_
                refine lv_iadd hx hb dX1_compareTwo_125 ?_
                refine xr_set (y := nI ((fb_ct (S P) 64) + (fb_ct (S Q) 64))) (nI_add _ _) ?_
                refine lv_aload_n hx hb dX1_compareTwo_126 rfl (lv_at hl 1 rfl) ?_
                refine lv_iload_n hx hb dX1_compareTwo_127 rfl (lv_at hl 2 rfl) ?_
                refine cs_R (ci := 0) (As := [.int (nI P)]) (rest := [.int (nI ((fb_ct (S P) 64) + (fb_ct (S Q) 64))), .ref (a 0)]) ⟨hx, hb, hml, hown, hts⟩ (met_hits l D a d its wts szs exs f4 g2 h2 z2 lt S w P hP3 hi) (cwV 1 hts (lw_V q131 q133 qs7 q20 q134) rfl rfl rfl (by decide +kernel) ⟨Nat.le_of_ble_eq_true rfl, Nat.le_of_ble_eq_true rfl⟩) hK hP rfl rfl rfl hl.1 rfl (Nat.le_of_ble_eq_true rfl) dX1_compareTwo_128 ⟨Nat.zero_le _, Nat.zero_le _⟩ (fun r hw3 => ?_)
                rw [hit_ct hok 64 (Nat.le_refl _)] at hw3
                refine lv_isub hx hb dX1_compareTwo_131 ?_
                refine xp_lt hx hb hts hown hK hP hD hS dX1_compareTwo_132 (fun H locs hP hD hS => ?_)
                exact W.vret hx hb hr (fun t_ ht_ hW_ => ⟨⟨(f4, g2, h2, z2, (nI ((fb_ct (S P) 64) + (fb_ct (S Q) 64))) - r), rfl, ⟨hok, by rw [hw3, ← nI_add]; exact (if_neg c2).symm⟩, by rw [ht_]; exact hP, va_K.moved hW_.alike hK, hD⟩, hS.F ht_⟩) hS.2.2 dX1_compareTwo_135
              · obtain ⟨i, hi64, hSi, horg, hsnt⟩ := hsn1.1 k2 c3
                have hcl := ct_lt hSi hi64
                refine lv_aload_n hx hb dX1_compareTwo_70 rfl (lv_at hl 1 rfl) ?_
                refine lv_iload_n hx hb dX1_compareTwo_71 rfl (lv_at hl 3 rfl) ?_
                refine lv_aload_n hx hb dX1_compareTwo_72 rfl (lv_at hl 1 rfl) ?_
                refine xg_snt hx hb hts hown hK hP dX1_compareTwo_73 ?_
                refine lv_bipush (v := nI 16) hx hb dX1_compareTwo_76 (by decide) ?_
                refine lv_iload_n hx hb dX1_compareTwo_78 rfl (lv_at hl 2 rfl) ?_
                refine lv_imul hx hb dX1_compareTwo_79 ?_
                refine xr_set (y := nI (16 * P)) (pk_mul _ _) ?_
                refine lv_iload_n hx hb dX1_compareTwo_80 rfl (lv_at hl 0 rfl) ?_
                refine lv_iadd hx hb dX1_compareTwo_81 ?_
                refine xr_set (y := nI ((16 * P) + k2)) (nI_add _ _) ?_
                refine xl_snt hx hb hK hP (j := ((16 * P) + k2)) (by omega) dX1_compareTwo_82 ?_
                refine xr_set (y := nI (gg E i)) hsnt ?_
                refine cs_R (ci := 0) (As := [.int (nI Q), .int (nI (gg E i))]) (rest := []) ⟨hx, hb, hml, hown, hts⟩ (met_isSent l D a d its wts szs exs f4 g2 h2 z2 lt S w Q (nI (gg E i)) hQ3 hi) (cwV 2 hts (lw_V q127 q129 qs6 q20 q130) rfl rfl rfl (by decide +kernel) ⟨Nat.le_of_ble_eq_true rfl, Nat.le_of_ble_eq_true rfl⟩) hK hP rfl rfl rfl hl.1 rfl (Nat.le_of_ble_eq_true rfl) dX1_compareTwo_83 ⟨Nat.zero_le _, Nat.zero_le _⟩ (fun r3 hw => ?_)
                have hr_ : r3 = bI (S Q i) := by
                  rcases hw with ⟨e1, e2⟩ | ⟨e1, e2⟩
                  · rw [e1, (Snt_mem hsn2 hgE hi64).mp e2]
                    rfl
                  · have e3 : S Q i = false := by
                      cases q1 : S Q i
                      · rfl
                      · obtain ⟨j, a1, a2⟩ := (Snt_mem hsn2 hgE hi64).mpr q1
                        exact absurd a2 (e2 j a1)
                    rw [e1, e3]
                    rfl
                subst hr_
                refine lv_istore (lv' := [(4, .int (bI (S Q i))), (3, .int (nI k2)), (0, .ref (a 0)), (1, .int (nI P)), (2, .int (nI Q))]) hx hb dX1_compareTwo_86 hl (by decide) rfl (fun ls hl => ?_)
                refine lv_aload_n hx hb dX1_compareTwo_88 rfl (lv_at hl 2 rfl) ?_
                refine xg_hit hx hb hts hown hK hP dX1_compareTwo_89 ?_
                refine lv_aload_n hx hb dX1_compareTwo_92 rfl (lv_at hl 2 rfl) ?_
                refine xg_org hx hb hts hown hK hP dX1_compareTwo_93 ?_
                refine lv_bipush (v := nI 16) hx hb dX1_compareTwo_96 (by decide) ?_
                refine lv_iload_n hx hb dX1_compareTwo_98 rfl (lv_at hl 3 rfl) ?_
                refine lv_imul hx hb dX1_compareTwo_99 ?_
                refine xr_set (y := nI (16 * P)) (pk_mul _ _) ?_
                refine lv_iload_n hx hb dX1_compareTwo_100 rfl (lv_at hl 1 rfl) ?_
                refine lv_iadd hx hb dX1_compareTwo_101 ?_
                refine xr_set (y := nI ((16 * P) + k2)) (nI_add _ _) ?_
                refine xl_org hx hb hK hP (j := ((16 * P) + k2)) (by omega) dX1_compareTwo_102 ?_
                refine xr_set (y := nI (fb_ct (S P) i)) horg ?_
                refine lv_iload hx hb dX1_compareTwo_103 (lv_at hl 0 rfl) ?_
                refine xs_hit hx hb hK hP hD hS (j := (fb_ct (S P) i)) (b := (S Q i)) (by omega) dX1_compareTwo_105 (fun H locs hP hD hS => ?_)
                refine lv_iinc (v := nI (k2 + 1)) (lv' := [(3, .int (nI (k2 + 1))), (4, .int (bI (S Q i))), (0, .ref (a 0)), (1, .int (nI P)), (2, .int (nI Q))]) hx hb dX1_compareTwo_106 hl (k := 1) rfl (nI_1 _) (by decide) rfl (fun ls hl => ?_)
                refine lv_goto (tgt := 60) hx hb dX1_compareTwo_109 (by decide) ?_
                exact ih (k2 + 1) _ (by omega) (by omega) (HitTo_step hto hi64 hSi horg rfl) H locs hP hD hS ls (lv_sub hl [0, 2, 3, 4] rfl)
          exact loop2 (fb_ct (S P) 64 + 1) 0 h (by omega) (Nat.zero_le _) HitTo_0 H locs hP hD hS ls (lv_sub hl [0, 1, 2, 3] rfl)
        · subst c2
          exact W.vret hx hb hr (fun t_ ht_ hW_ => ⟨⟨(snt, org, h, rnd, lt), rfl, ⟨fun i a1 a2 => by
            have a3 := ct_lt a2 a1
            rw [hh _ (by omega), a2, decide_eq_true rfl], (if_pos rfl).symm⟩, by rw [ht_]; exact hP, va_K.moved hW_.alike hK, hD⟩, hS.F ht_⟩) hS.2.2 dX1_compareTwo_35
      · refine lv_aload_n hx hb dX1_compareTwo_8 rfl (lv_at hl 1 rfl) ?_
        refine xg_hit hx hb hts hown hK hP dX1_compareTwo_9 ?_
        refine lv_iload_n hx hb dX1_compareTwo_12 rfl (lv_at hl 0 rfl) ?_
        refine lv_iload_n hx hb dX1_compareTwo_13 rfl (lv_at hl 2 rfl) ?_
        refine lv_iload_n hx hb dX1_compareTwo_14 rfl (lv_at hl 3 rfl) ?_
        refine xb_ne (tgt := 22) hx hb dX1_compareTwo_15 (by decide) (by omega) (by omega) (fun c2 => ?_) (fun c2 => ?_)
        · refine lv_iconst (v := nI 0) hx hb dX1_compareTwo_22 (by decide) ?_
          refine xr_set (y := bI (decide (P = Q))) (by rw [decide_eq_false c2]; rfl) ?_
          refine xs_hit hx hb hK hP hD hS (j := k) (b := (decide (P = Q))) (by omega) dX1_compareTwo_23 (fun H locs hP hD hS => ?_)
          refine lv_iinc (v := nI (k + 1)) (lv' := [(3, .int (nI (k + 1))), (0, .ref (a 0)), (1, .int (nI P)), (2, .int (nI Q))]) hx hb dX1_compareTwo_24 hl (k := 0) rfl (nI_1 _) (by decide) rfl (fun ls hl => ?_)
          refine lv_goto (tgt := 2) hx hb dX1_compareTwo_27 (by decide) ?_
          exact ih (k + 1) _ (by omega) (by omega) (fun j hj => by
            rcases Nat.lt_or_ge j k with q1 | q1
            · rw [upd_no (by omega)]
              exact hh j q1
            · rw [show j = k by omega, upd_at]) H locs hP hD hS ls (lv_sub hl [0, 1, 2, 3] rfl)
        · refine lv_iconst (v := nI 1) hx hb dX1_compareTwo_18 (by decide) ?_
          refine lv_goto (tgt := 23) hx hb dX1_compareTwo_19 (by decide) ?_
          refine xr_set (y := bI (decide (P = Q))) (by rw [decide_eq_true c2]; rfl) ?_
          refine xs_hit hx hb hK hP hD hS (j := k) (b := (decide (P = Q))) (by omega) dX1_compareTwo_23 (fun H locs hP hD hS => ?_)
          refine lv_iinc (v := nI (k + 1)) (lv' := [(3, .int (nI (k + 1))), (0, .ref (a 0)), (1, .int (nI P)), (2, .int (nI Q))]) hx hb dX1_compareTwo_24 hl (k := 0) rfl (nI_1 _) (by decide) rfl (fun ls hl => ?_)
          refine lv_goto (tgt := 2) hx hb dX1_compareTwo_27 (by decide) ?_
          exact ih (k + 1) _ (by omega) (by omega) (fun j hj => by
            rcases Nat.lt_or_ge j k with q1 | q1
            · rw [upd_no (by omega)]
              exact hh j q1
            · rw [show j = k by omega, upd_at]) H locs hP hD hS ls (lv_sub hl [0, 1, 2, 3] rfl)
  exact loop 17 0 hit (by omega) (by omega) (fun j hj => absurd hj (Nat.not_lt_zero j)) _ _ hP hD hS ls (lv_sub hl [0, 1, 2, 3] rfl)
set_option maxHeartbeats 4000000 in
set_option maxRecDepth 100000 in
theorem met_pairCount (l : Launch) (sz : Nat) (D : va_G) (a : Nat → Nat) (d : Nat → ClassId) (its wts szs exs snt org hit : Nat → Int32) (rnd lt : Int32) (S : Nat → Nat → Bool) (w : Nat → Nat → Int32) (P Q : Nat) (hP3 : P < 3) (hQ3 : Q < 3) (hi : XI S w its wts szs) (he : EI exs) : Met l yX1_pairCount (ws_ yX1_pairCount cX1_pairCount 4 (some .int)) ({ frames := 3, cells := 0, slots := 0, locals := 120 } : Room) (va_Pc [.ref (a 0), .int (nI P), .int (nI Q)] (fun U => U.heap.size = sz ∧ va_P D vwCl (wX a d its wts szs exs snt org hit rnd lt) U.heap ∧ va_K D vwCl (tyX d) U ∧ va_D (fun _ => True) (wX a d its wts szs exs snt org hit rnd lt))) (QXi D d (va_A (wX a d its wts szs exs snt org hit rnd lt) sz) (fun u : (Nat → Int32) × (Nat → Int32) × (Nat → Int32) × Int32 => wX a d its wts szs exs u.1 u.2.1 u.2.2.1 u.2.2.2 lt) (fun r _ => r = nI (fb_ct (an (S P) (S Q)) 64))) 0 0 (va_A (wX a d its wts szs exs snt org hit rnd lt) sz) := by
  refine Met.ofW (cc := cX1_pairCount) (maxL := 4) (ret := (some .int)) (by decide) rfl ?_
  intro p e s m args below meth c s₁ B hml hv
  obtain ⟨rfl, hsz, hP, hK, hD0⟩ := hv
  have hx := B.exec
  have hb := B.bytes
  have hr := B.returns
  have hlocks := B.notSynchronized
  have hts := atoms_spec (ws := ws_ yX1_pairCount cX1_pairCount 4 (some .int)) B.pre
  have hts : ∀ w ∈ lw_all, w.before _ s = true := fun w h => hts w (List.mem_cons_of_mem _ h)
  have hown : s.vm.findClass RX1 = some m.cls := findClass_of_methodNamed B.named
  subst hsz
  have hD := hD0.self (sz := s.heap.size)
  generalize hAe : va_A (wX a d its wts szs exs snt org hit rnd lt) s.heap.size = A at hD ⊢
  have hA : ∀ q : Nat, s.heap.size ≤ q → A q := fun q h => by rw [← hAe]; exact Or.inr h
  have hS : va_S A s.heap s.heap [] := va_S.rf
  have hl := lv_entry ([.ref (a 0), .int (nI P), .int (nI Q)]) (n := 4) (Nat.le_of_ble_eq_true rfl)
  rw [lg_entry_eq]
  generalize (lg_sl ([.ref (a 0), .int (nI P), .int (nI Q)]) ++ List.replicate (4 - (lg_sl ([.ref (a 0), .int (nI P), .int (nI Q)])).length) Slot.unset).toArray = ls at hl ⊢
  have hl : lv_has ls 4 [(0, .ref (a 0)), (1, .int (nI P)), (2, .int (nI Q))] := hl
  refine lv_aload_n hx hb dX1_pairCount_0 rfl (lv_at hl 0 rfl) ?_
  refine xg_lt hx hb hts hown hK hP dX1_pairCount_1 ?_
  refine lv_istore_n (lv' := [(3, .int lt), (0, .ref (a 0)), (1, .int (nI P)), (2, .int (nI Q))]) hx hb dX1_pairCount_4 rfl hl (by decide) rfl (fun ls hl => ?_)
  refine lv_aload_n hx hb dX1_pairCount_5 rfl (lv_at hl 1 rfl) ?_
  refine lv_iload_n hx hb dX1_pairCount_6 rfl (lv_at hl 2 rfl) ?_
  refine lv_iload_n hx hb dX1_pairCount_7 rfl (lv_at hl 3 rfl) ?_
  refine cs_Wv (ci := 0) (As := [.int (nI P), .int (nI Q)]) (rest := []) ⟨hx, hb, hml, hown, hts⟩ (met_compareTwo l s.heap.size D a d its wts szs exs snt org hit rnd lt S w P Q hP3 hQ3 hi he) (cwV 2 hts (lw_V q107 q109 qs2 q20 q110) rfl rfl rfl (by decide +kernel) ⟨Nat.le_of_ble_eq_true rfl, Nat.le_of_ble_eq_true rfl⟩) hK hP hD hS hA rfl rfl rfl hl.1 rfl (Nat.le_of_ble_eq_true rfl) dX1_pairCount_8 ⟨Nat.zero_le _, Nat.zero_le _⟩ (fun u H locs hw hP hD hS _ => ?_)
  obtain ⟨f, g, h, z, y⟩ := u
  obtain ⟨hok, -⟩ := hw
  refine lv_aload_n hx hb dX1_pairCount_11 rfl (lv_at hl 1 rfl) ?_
  refine lv_iload_n hx hb dX1_pairCount_12 rfl (lv_at hl 0 rfl) ?_
  refine xp_lt hx hb hts hown hK hP hD hS dX1_pairCount_13 (fun H locs hP hD hS => ?_)
  refine lv_aload_n hx hb dX1_pairCount_16 rfl (lv_at hl 1 rfl) ?_
  refine lv_iload_n hx hb dX1_pairCount_17 rfl (lv_at hl 2 rfl) ?_
  refine cs_R (ci := 0) (As := [.int (nI P)]) (rest := []) ⟨hx, hb, hml, hown, hts⟩ (met_hits l D a d its wts szs exs f g h z lt S w P hP3 hi) (cwV 1 hts (lw_V q131 q133 qs7 q20 q134) rfl rfl rfl (by decide +kernel) ⟨Nat.le_of_ble_eq_true rfl, Nat.le_of_ble_eq_true rfl⟩) hK hP rfl rfl rfl hl.1 rfl (Nat.le_of_ble_eq_true rfl) dX1_pairCount_18 ⟨Nat.zero_le _, Nat.zero_le _⟩ (fun r hw => ?_)
  rw [hit_ct hok 64 (Nat.le_refl _)] at hw
  exact W.iret (v := r) hx hb hr (fun t_ ht_ hW_ => ⟨⟨_, (f, g, h, z), rfl, hw, by rw [ht_]; exact hP, va_K.moved hW_.alike hK, hD⟩, hS.F ht_⟩) hS.2.2 dX1_pairCount_21
set_option maxHeartbeats 4000000 in
set_option maxRecDepth 100000 in
theorem met_compareThree (l : Launch) (sz : Nat) (D : va_G) (a : Nat → Nat) (d : Nat → ClassId) (its wts szs exs snt org hit : Nat → Int32) (rnd lt : Int32) (S : Nat → Nat → Bool) (w : Nat → Nat → Int32) (P : Nat) (hP3 : P < 3) (hi : XI S w its wts szs) (he : EI exs) : Met l yX1_compareThree (ws_ yX1_compareThree cX1_compareThree 7 none) ({ frames := 2, cells := 0, slots := 0, locals := 80 } : Room) (va_Pc [.ref (a 0), .int (nI P)] (fun U => U.heap.size = sz ∧ va_P D vwCl (wX a d its wts szs exs snt org hit rnd lt) U.heap ∧ va_K D vwCl (tyX d) U ∧ va_D (fun _ => True) (wX a d its wts szs exs snt org hit rnd lt))) (QXv D d (va_A (wX a d its wts szs exs snt org hit rnd lt) sz) (fun u : (Nat → Int32) × (Nat → Int32) × (Nat → Int32) × Int32 => wX a d its wts szs exs u.1 u.2.1 u.2.2.1 u.2.2.2 lt) (fun u => match u with | (_, _, h, _) => HitOk (S P) (an (S (oq P)) (S (or_ P))) h)) 0 0 (va_A (wX a d its wts szs exs snt org hit rnd lt) sz) := by
  refine Met.ofW (cc := cX1_compareThree) (maxL := 7) (ret := none) (by decide) rfl ?_
  intro p e s m args below meth c s₁ B hml hv
  obtain ⟨rfl, hsz, hP, hK, hD0⟩ := hv
  have hx := B.exec
  have hb := B.bytes
  have hr := B.returns
  have hlocks := B.notSynchronized
  have hts := atoms_spec (ws := ws_ yX1_compareThree cX1_compareThree 7 none) B.pre
  have hts : ∀ w ∈ lw_all, w.before _ s = true := fun w h => hts w (List.mem_cons_of_mem _ h)
  have hown : s.vm.findClass RX1 = some m.cls := findClass_of_methodNamed B.named
  subst hsz
  have hD := hD0.self (sz := s.heap.size)
  generalize hAe : va_A (wX a d its wts szs exs snt org hit rnd lt) s.heap.size = A at hD ⊢
  have hA : ∀ q : Nat, s.heap.size ≤ q → A q := fun q h => by rw [← hAe]; exact Or.inr h
  have hS : va_S A s.heap s.heap [] := va_S.rf
  have hl := lv_entry ([.ref (a 0), .int (nI P)]) (n := 7) (Nat.le_of_ble_eq_true rfl)
  rw [lg_entry_eq]
  generalize (lg_sl ([.ref (a 0), .int (nI P)]) ++ List.replicate (7 - (lg_sl ([.ref (a 0), .int (nI P)])).length) Slot.unset).toArray = ls at hl ⊢
  have hl : lv_has ls 7 [(0, .ref (a 0)), (1, .int (nI P))] := hl
  obtain ⟨e0, he0a, he0b, he0⟩ := he 0 (by decide)
  have h160 := (hi 0 (by decide)).2.1
  obtain ⟨e1, he1a, he1b, he1⟩ := he 1 (by decide)
  have h161 := (hi 1 (by decide)).2.1
  obtain ⟨e2, he2a, he2b, he2⟩ := he 2 (by decide)
  have h162 := (hi 2 (by decide)).2.1
  obtain ⟨hs, h16, hf⟩ := hi P hP3
  refine lv_iconst (v := nI 0) hx hb dX1_compareThree_0 (by decide) ?_
  refine lv_istore_n (lv' := [(2, .int (nI 0)), (0, .ref (a 0)), (1, .int (nI P))]) hx hb dX1_compareThree_1 rfl hl (by decide) rfl (fun ls hl => ?_)
  refine lv_iload_n hx hb dX1_compareThree_2 rfl (lv_at hl 0 rfl) ?_
  refine lv_iconst (v := nI 3) hx hb dX1_compareThree_3 (by decide) ?_
  refine xb_ge (tgt := 42) hx hb dX1_compareThree_4 (by decide) (by decide) (by decide) (fun c => absurd c (by decide)) (fun _ => ?_)
  refine lv_aload_n hx hb dX1_compareThree_7 rfl (lv_at hl 1 rfl) ?_
  refine lv_iload_n hx hb dX1_compareThree_8 rfl (lv_at hl 0 rfl) ?_
  refine cs_Wv (ci := 0) (As := [.int (nI 0)]) (rest := []) ⟨hx, hb, hml, hown, hts⟩ (met_send l s.heap.size D a d its wts szs exs snt org hit rnd lt S w 0 e0 (by decide) hi he0 he0b) (cwV 1 hts (lw_V q111 q113 qs3 q20 q114) rfl rfl rfl (by decide +kernel) ⟨Nat.le_of_ble_eq_true rfl, Nat.le_of_ble_eq_true rfl⟩) hK hP hD hS hA rfl rfl rfl hl.1 rfl (Nat.le_of_ble_eq_true rfl) dX1_compareThree_9 ⟨Nat.zero_le _, Nat.zero_le _⟩ (fun u H locs hw hP hD hS _ => ?_)
  obtain ⟨f0, g0, z0⟩ := u
  obtain ⟨hsn0, hout⟩ := hw
  refine lv_iconst (v := nI 0) hx hb dX1_compareThree_12 (by decide) ?_
  refine lv_istore_n (lv' := [(3, .int (nI 0)), (2, .int (nI 0)), (0, .ref (a 0)), (1, .int (nI P))]) hx hb dX1_compareThree_13 rfl hl (by decide) rfl (fun ls hl => ?_)
  refine lv_iload_n hx hb dX1_compareThree_14 rfl (lv_at hl 0 rfl) ?_
  refine lv_iconst (v := nI 3) hx hb dX1_compareThree_15 (by decide) ?_
  refine xb_ge (tgt := 36) hx hb dX1_compareThree_16 (by decide) (by decide) (by decide) (fun c => absurd c (by decide)) (fun _ => ?_)
  refine lv_iload_n hx hb dX1_compareThree_19 rfl (lv_at hl 0 rfl) ?_
  refine lv_iload_n hx hb dX1_compareThree_20 rfl (lv_at hl 1 rfl) ?_
  refine xb_eq (tgt := 30) hx hb dX1_compareThree_21 (by decide) (by decide) (by decide) (fun _ => ?_) (fun c => absurd c (by decide))
  refine lv_iinc (v := nI 1) (lv' := [(3, .int (nI 1)), (2, .int (nI 0)), (0, .ref (a 0)), (1, .int (nI P))]) hx hb dX1_compareThree_30 hl (k := 0) rfl (by decide) (by decide) rfl (fun ls hl => ?_)
  refine lv_goto (tgt := 14) hx hb dX1_compareThree_33 (by decide) ?_
  refine lv_iload_n hx hb dX1_compareThree_14 rfl (lv_at hl 0 rfl) ?_
  refine lv_iconst (v := nI 3) hx hb dX1_compareThree_15 (by decide) ?_
  refine xb_ge (tgt := 36) hx hb dX1_compareThree_16 (by decide) (by decide) (by decide) (fun c => absurd c (by decide)) (fun _ => ?_)
  refine lv_iload_n hx hb dX1_compareThree_19 rfl (lv_at hl 0 rfl) ?_
  refine lv_iload_n hx hb dX1_compareThree_20 rfl (lv_at hl 1 rfl) ?_
  refine xb_eq (tgt := 30) hx hb dX1_compareThree_21 (by decide) (by decide) (by decide) (fun c => absurd c (by decide)) (fun _ => ?_)
  refine lv_aload_n hx hb dX1_compareThree_24 rfl (lv_at hl 2 rfl) ?_
  refine lv_iload_n hx hb dX1_compareThree_25 rfl (lv_at hl 1 rfl) ?_
  refine lv_iload_n hx hb dX1_compareThree_26 rfl (lv_at hl 0 rfl) ?_
  refine cs_Wv (ci := 0) (As := [.int (nI 0), .int (nI 1)]) (rest := []) ⟨hx, hb, hml, hown, hts⟩ (met_raise l H.size D a d its wts szs exs f0 g0 hit z0 lt S w 0 1 (e0) e1 (by decide) (by decide) hi hsn0 he1 he1b) (cwV 2 hts (lw_V q123 q125 qs5 q20 q126) rfl rfl rfl (by decide +kernel) ⟨Nat.le_of_ble_eq_true rfl, Nat.le_of_ble_eq_true rfl⟩) hK hP hD hS hA rfl rfl rfl hl.1 rfl (Nat.le_of_ble_eq_true rfl) dX1_compareThree_27 ⟨Nat.zero_le _, Nat.zero_le _⟩ (fun u H locs hw hP hD hS _ => ?_)
  obtain ⟨f1, ef⟩ : ∃ v, v = u := ⟨_, rfl⟩
  rw [← ef] at hw hP hD
  have hsn0 : Snt (S 0) (e0 * e1) (16 * 0) f1 g0 := by rw [hw]; exact Snt_rsd hsn0
  refine lv_iinc (v := nI 2) (lv' := [(3, .int (nI 2)), (2, .int (nI 0)), (0, .ref (a 0)), (1, .int (nI P))]) hx hb dX1_compareThree_30 hl (k := 0) rfl (by decide) (by decide) rfl (fun ls hl => ?_)
  refine lv_goto (tgt := 14) hx hb dX1_compareThree_33 (by decide) ?_
  refine lv_iload_n hx hb dX1_compareThree_14 rfl (lv_at hl 0 rfl) ?_
  refine lv_iconst (v := nI 3) hx hb dX1_compareThree_15 (by decide) ?_
  refine xb_ge (tgt := 36) hx hb dX1_compareThree_16 (by decide) (by decide) (by decide) (fun c => absurd c (by decide)) (fun _ => ?_)
  refine lv_iload_n hx hb dX1_compareThree_19 rfl (lv_at hl 0 rfl) ?_
  refine lv_iload_n hx hb dX1_compareThree_20 rfl (lv_at hl 1 rfl) ?_
  refine xb_eq (tgt := 30) hx hb dX1_compareThree_21 (by decide) (by decide) (by decide) (fun c => absurd c (by decide)) (fun _ => ?_)
  refine lv_aload_n hx hb dX1_compareThree_24 rfl (lv_at hl 2 rfl) ?_
  refine lv_iload_n hx hb dX1_compareThree_25 rfl (lv_at hl 1 rfl) ?_
  refine lv_iload_n hx hb dX1_compareThree_26 rfl (lv_at hl 0 rfl) ?_
  refine cs_Wv (ci := 0) (As := [.int (nI 0), .int (nI 2)]) (rest := []) ⟨hx, hb, hml, hown, hts⟩ (met_raise l H.size D a d its wts szs exs f1 g0 hit z0 lt S w 0 2 (e0 * e1) e2 (by decide) (by decide) hi hsn0 he2 he2b) (cwV 2 hts (lw_V q123 q125 qs5 q20 q126) rfl rfl rfl (by decide +kernel) ⟨Nat.le_of_ble_eq_true rfl, Nat.le_of_ble_eq_true rfl⟩) hK hP hD hS hA rfl rfl rfl hl.1 rfl (Nat.le_of_ble_eq_true rfl) dX1_compareThree_27 ⟨Nat.zero_le _, Nat.zero_le _⟩ (fun u H locs hw hP hD hS _ => ?_)
  obtain ⟨f2, ef⟩ : ∃ v, v = u := ⟨_, rfl⟩
  rw [← ef] at hw hP hD
  have hsn0 : Snt (S 0) (e0 * e1 * e2) (16 * 0) f2 g0 := by rw [hw]; exact Snt_rsd hsn0
  refine lv_iinc (v := nI 3) (lv' := [(3, .int (nI 3)), (2, .int (nI 0)), (0, .ref (a 0)), (1, .int (nI P))]) hx hb dX1_compareThree_30 hl (k := 0) rfl (by decide) (by decide) rfl (fun ls hl => ?_)
  refine lv_goto (tgt := 14) hx hb dX1_compareThree_33 (by decide) ?_
  refine lv_iload_n hx hb dX1_compareThree_14 rfl (lv_at hl 0 rfl) ?_
  refine lv_iconst (v := nI 3) hx hb dX1_compareThree_15 (by decide) ?_
  refine xb_ge (tgt := 36) hx hb dX1_compareThree_16 (by decide) (by decide) (by decide) (fun _ => ?_) (fun c => absurd c (by decide))
  refine lv_iinc (v := nI 1) (lv' := [(2, .int (nI 1)), (3, .int (nI 3)), (0, .ref (a 0)), (1, .int (nI P))]) hx hb dX1_compareThree_36 hl (k := 1) rfl (by decide) (by decide) rfl (fun ls hl => ?_)
  refine lv_goto (tgt := 2) hx hb dX1_compareThree_39 (by decide) ?_
  refine lv_iload_n hx hb dX1_compareThree_2 rfl (lv_at hl 0 rfl) ?_
  refine lv_iconst (v := nI 3) hx hb dX1_compareThree_3 (by decide) ?_
  refine xb_ge (tgt := 42) hx hb dX1_compareThree_4 (by decide) (by decide) (by decide) (fun c => absurd c (by decide)) (fun _ => ?_)
  refine lv_aload_n hx hb dX1_compareThree_7 rfl (lv_at hl 2 rfl) ?_
  refine lv_iload_n hx hb dX1_compareThree_8 rfl (lv_at hl 0 rfl) ?_
  refine cs_Wv (ci := 0) (As := [.int (nI 1)]) (rest := []) ⟨hx, hb, hml, hown, hts⟩ (met_send l H.size D a d its wts szs exs f2 g0 hit z0 lt S w 1 e1 (by decide) hi he1 he1b) (cwV 1 hts (lw_V q111 q113 qs3 q20 q114) rfl rfl rfl (by decide +kernel) ⟨Nat.le_of_ble_eq_true rfl, Nat.le_of_ble_eq_true rfl⟩) hK hP hD hS hA rfl rfl rfl hl.1 rfl (Nat.le_of_ble_eq_true rfl) dX1_compareThree_9 ⟨Nat.zero_le _, Nat.zero_le _⟩ (fun u H locs hw hP hD hS _ => ?_)
  obtain ⟨f3, g3, z3⟩ := u
  obtain ⟨hsn1, hout⟩ := hw
  have hsn0 : Snt (S 0) (e0 * e1 * e2) (16 * 0) f3 g3 := Snt_cong hsn0 (fun j hj => (hout _ (by omega)).1) (fun j hj => (hout _ (by omega)).2)
  refine lv_iconst (v := nI 0) hx hb dX1_compareThree_12 (by decide) ?_
  refine lv_istore_n (lv' := [(3, .int (nI 0)), (2, .int (nI 1)), (0, .ref (a 0)), (1, .int (nI P))]) hx hb dX1_compareThree_13 rfl hl (by decide) rfl (fun ls hl => ?_)
  refine lv_iload_n hx hb dX1_compareThree_14 rfl (lv_at hl 0 rfl) ?_
  refine lv_iconst (v := nI 3) hx hb dX1_compareThree_15 (by decide) ?_
  refine xb_ge (tgt := 36) hx hb dX1_compareThree_16 (by decide) (by decide) (by decide) (fun c => absurd c (by decide)) (fun _ => ?_)
  refine lv_iload_n hx hb dX1_compareThree_19 rfl (lv_at hl 0 rfl) ?_
  refine lv_iload_n hx hb dX1_compareThree_20 rfl (lv_at hl 1 rfl) ?_
  refine xb_eq (tgt := 30) hx hb dX1_compareThree_21 (by decide) (by decide) (by decide) (fun c => absurd c (by decide)) (fun _ => ?_)
  refine lv_aload_n hx hb dX1_compareThree_24 rfl (lv_at hl 2 rfl) ?_
  refine lv_iload_n hx hb dX1_compareThree_25 rfl (lv_at hl 1 rfl) ?_
  refine lv_iload_n hx hb dX1_compareThree_26 rfl (lv_at hl 0 rfl) ?_
  refine cs_Wv (ci := 0) (As := [.int (nI 1), .int (nI 0)]) (rest := []) ⟨hx, hb, hml, hown, hts⟩ (met_raise l H.size D a d its wts szs exs f3 g3 hit z3 lt S w 1 0 (e1) e0 (by decide) (by decide) hi hsn1 he0 he0b) (cwV 2 hts (lw_V q123 q125 qs5 q20 q126) rfl rfl rfl (by decide +kernel) ⟨Nat.le_of_ble_eq_true rfl, Nat.le_of_ble_eq_true rfl⟩) hK hP hD hS hA rfl rfl rfl hl.1 rfl (Nat.le_of_ble_eq_true rfl) dX1_compareThree_27 ⟨Nat.zero_le _, Nat.zero_le _⟩ (fun u H locs hw hP hD hS _ => ?_)
  obtain ⟨f4, ef⟩ : ∃ v, v = u := ⟨_, rfl⟩
  rw [← ef] at hw hP hD
  have hsn0 : Snt (S 0) (e0 * e1 * e2) (16 * 0) f4 g3 := Snt_cong hsn0 (fun j hj => by rw [hw]; exact rsd_hi (by omega)) (fun _ _ => rfl)
  have hsn1 : Snt (S 1) (e1 * e0) (16 * 1) f4 g3 := by rw [hw]; exact Snt_rsd hsn1
  refine lv_iinc (v := nI 1) (lv' := [(3, .int (nI 1)), (2, .int (nI 1)), (0, .ref (a 0)), (1, .int (nI P))]) hx hb dX1_compareThree_30 hl (k := 0) rfl (by decide) (by decide) rfl (fun ls hl => ?_)
  refine lv_goto (tgt := 14) hx hb dX1_compareThree_33 (by decide) ?_
  refine lv_iload_n hx hb dX1_compareThree_14 rfl (lv_at hl 0 rfl) ?_
  refine lv_iconst (v := nI 3) hx hb dX1_compareThree_15 (by decide) ?_
  refine xb_ge (tgt := 36) hx hb dX1_compareThree_16 (by decide) (by decide) (by decide) (fun c => absurd c (by decide)) (fun _ => ?_)
  refine lv_iload_n hx hb dX1_compareThree_19 rfl (lv_at hl 0 rfl) ?_
  refine lv_iload_n hx hb dX1_compareThree_20 rfl (lv_at hl 1 rfl) ?_
  refine xb_eq (tgt := 30) hx hb dX1_compareThree_21 (by decide) (by decide) (by decide) (fun _ => ?_) (fun c => absurd c (by decide))
  refine lv_iinc (v := nI 2) (lv' := [(3, .int (nI 2)), (2, .int (nI 1)), (0, .ref (a 0)), (1, .int (nI P))]) hx hb dX1_compareThree_30 hl (k := 0) rfl (by decide) (by decide) rfl (fun ls hl => ?_)
  refine lv_goto (tgt := 14) hx hb dX1_compareThree_33 (by decide) ?_
  refine lv_iload_n hx hb dX1_compareThree_14 rfl (lv_at hl 0 rfl) ?_
  refine lv_iconst (v := nI 3) hx hb dX1_compareThree_15 (by decide) ?_
  refine xb_ge (tgt := 36) hx hb dX1_compareThree_16 (by decide) (by decide) (by decide) (fun c => absurd c (by decide)) (fun _ => ?_)
  refine lv_iload_n hx hb dX1_compareThree_19 rfl (lv_at hl 0 rfl) ?_
  refine lv_iload_n hx hb dX1_compareThree_20 rfl (lv_at hl 1 rfl) ?_
  refine xb_eq (tgt := 30) hx hb dX1_compareThree_21 (by decide) (by decide) (by decide) (fun c => absurd c (by decide)) (fun _ => ?_)
  refine lv_aload_n hx hb dX1_compareThree_24 rfl (lv_at hl 2 rfl) ?_
  refine lv_iload_n hx hb dX1_compareThree_25 rfl (lv_at hl 1 rfl) ?_
  refine lv_iload_n hx hb dX1_compareThree_26 rfl (lv_at hl 0 rfl) ?_
  refine cs_Wv (ci := 0) (As := [.int (nI 1), .int (nI 2)]) (rest := []) ⟨hx, hb, hml, hown, hts⟩ (met_raise l H.size D a d its wts szs exs f4 g3 hit z3 lt S w 1 2 (e1 * e0) e2 (by decide) (by decide) hi hsn1 he2 he2b) (cwV 2 hts (lw_V q123 q125 qs5 q20 q126) rfl rfl rfl (by decide +kernel) ⟨Nat.le_of_ble_eq_true rfl, Nat.le_of_ble_eq_true rfl⟩) hK hP hD hS hA rfl rfl rfl hl.1 rfl (Nat.le_of_ble_eq_true rfl) dX1_compareThree_27 ⟨Nat.zero_le _, Nat.zero_le _⟩ (fun u H locs hw hP hD hS _ => ?_)
  obtain ⟨f5, ef⟩ : ∃ v, v = u := ⟨_, rfl⟩
  rw [← ef] at hw hP hD
  have hsn0 : Snt (S 0) (e0 * e1 * e2) (16 * 0) f5 g3 := Snt_cong hsn0 (fun j hj => by rw [hw]; exact rsd_hi (by omega)) (fun _ _ => rfl)
  have hsn1 : Snt (S 1) (e1 * e0 * e2) (16 * 1) f5 g3 := by rw [hw]; exact Snt_rsd hsn1
  refine lv_iinc (v := nI 3) (lv' := [(3, .int (nI 3)), (2, .int (nI 1)), (0, .ref (a 0)), (1, .int (nI P))]) hx hb dX1_compareThree_30 hl (k := 0) rfl (by decide) (by decide) rfl (fun ls hl => ?_)
  refine lv_goto (tgt := 14) hx hb dX1_compareThree_33 (by decide) ?_
  refine lv_iload_n hx hb dX1_compareThree_14 rfl (lv_at hl 0 rfl) ?_
  refine lv_iconst (v := nI 3) hx hb dX1_compareThree_15 (by decide) ?_
  refine xb_ge (tgt := 36) hx hb dX1_compareThree_16 (by decide) (by decide) (by decide) (fun _ => ?_) (fun c => absurd c (by decide))
  refine lv_iinc (v := nI 2) (lv' := [(2, .int (nI 2)), (3, .int (nI 3)), (0, .ref (a 0)), (1, .int (nI P))]) hx hb dX1_compareThree_36 hl (k := 1) rfl (by decide) (by decide) rfl (fun ls hl => ?_)
  refine lv_goto (tgt := 2) hx hb dX1_compareThree_39 (by decide) ?_
  refine lv_iload_n hx hb dX1_compareThree_2 rfl (lv_at hl 0 rfl) ?_
  refine lv_iconst (v := nI 3) hx hb dX1_compareThree_3 (by decide) ?_
  refine xb_ge (tgt := 42) hx hb dX1_compareThree_4 (by decide) (by decide) (by decide) (fun c => absurd c (by decide)) (fun _ => ?_)
  refine lv_aload_n hx hb dX1_compareThree_7 rfl (lv_at hl 2 rfl) ?_
  refine lv_iload_n hx hb dX1_compareThree_8 rfl (lv_at hl 0 rfl) ?_
  refine cs_Wv (ci := 0) (As := [.int (nI 2)]) (rest := []) ⟨hx, hb, hml, hown, hts⟩ (met_send l H.size D a d its wts szs exs f5 g3 hit z3 lt S w 2 e2 (by decide) hi he2 he2b) (cwV 1 hts (lw_V q111 q113 qs3 q20 q114) rfl rfl rfl (by decide +kernel) ⟨Nat.le_of_ble_eq_true rfl, Nat.le_of_ble_eq_true rfl⟩) hK hP hD hS hA rfl rfl rfl hl.1 rfl (Nat.le_of_ble_eq_true rfl) dX1_compareThree_9 ⟨Nat.zero_le _, Nat.zero_le _⟩ (fun u H locs hw hP hD hS _ => ?_)
  obtain ⟨f6, g6, z6⟩ := u
  obtain ⟨hsn2, hout⟩ := hw
  have hsn0 : Snt (S 0) (e0 * e1 * e2) (16 * 0) f6 g6 := Snt_cong hsn0 (fun j hj => (hout _ (by omega)).1) (fun j hj => (hout _ (by omega)).2)
  have hsn1 : Snt (S 1) (e1 * e0 * e2) (16 * 1) f6 g6 := Snt_cong hsn1 (fun j hj => (hout _ (by omega)).1) (fun j hj => (hout _ (by omega)).2)
  refine lv_iconst (v := nI 0) hx hb dX1_compareThree_12 (by decide) ?_
  refine lv_istore_n (lv' := [(3, .int (nI 0)), (2, .int (nI 2)), (0, .ref (a 0)), (1, .int (nI P))]) hx hb dX1_compareThree_13 rfl hl (by decide) rfl (fun ls hl => ?_)
  refine lv_iload_n hx hb dX1_compareThree_14 rfl (lv_at hl 0 rfl) ?_
  refine lv_iconst (v := nI 3) hx hb dX1_compareThree_15 (by decide) ?_
  refine xb_ge (tgt := 36) hx hb dX1_compareThree_16 (by decide) (by decide) (by decide) (fun c => absurd c (by decide)) (fun _ => ?_)
  refine lv_iload_n hx hb dX1_compareThree_19 rfl (lv_at hl 0 rfl) ?_
  refine lv_iload_n hx hb dX1_compareThree_20 rfl (lv_at hl 1 rfl) ?_
  refine xb_eq (tgt := 30) hx hb dX1_compareThree_21 (by decide) (by decide) (by decide) (fun c => absurd c (by decide)) (fun _ => ?_)
  refine lv_aload_n hx hb dX1_compareThree_24 rfl (lv_at hl 2 rfl) ?_
  refine lv_iload_n hx hb dX1_compareThree_25 rfl (lv_at hl 1 rfl) ?_
  refine lv_iload_n hx hb dX1_compareThree_26 rfl (lv_at hl 0 rfl) ?_
  refine cs_Wv (ci := 0) (As := [.int (nI 2), .int (nI 0)]) (rest := []) ⟨hx, hb, hml, hown, hts⟩ (met_raise l H.size D a d its wts szs exs f6 g6 hit z6 lt S w 2 0 (e2) e0 (by decide) (by decide) hi hsn2 he0 he0b) (cwV 2 hts (lw_V q123 q125 qs5 q20 q126) rfl rfl rfl (by decide +kernel) ⟨Nat.le_of_ble_eq_true rfl, Nat.le_of_ble_eq_true rfl⟩) hK hP hD hS hA rfl rfl rfl hl.1 rfl (Nat.le_of_ble_eq_true rfl) dX1_compareThree_27 ⟨Nat.zero_le _, Nat.zero_le _⟩ (fun u H locs hw hP hD hS _ => ?_)
  obtain ⟨f7, ef⟩ : ∃ v, v = u := ⟨_, rfl⟩
  rw [← ef] at hw hP hD
  have hsn0 : Snt (S 0) (e0 * e1 * e2) (16 * 0) f7 g6 := Snt_cong hsn0 (fun j hj => by rw [hw]; exact rsd_hi (by omega)) (fun _ _ => rfl)
  have hsn1 : Snt (S 1) (e1 * e0 * e2) (16 * 1) f7 g6 := Snt_cong hsn1 (fun j hj => by rw [hw]; exact rsd_hi (by omega)) (fun _ _ => rfl)
  have hsn2 : Snt (S 2) (e2 * e0) (16 * 2) f7 g6 := by rw [hw]; exact Snt_rsd hsn2
  refine lv_iinc (v := nI 1) (lv' := [(3, .int (nI 1)), (2, .int (nI 2)), (0, .ref (a 0)), (1, .int (nI P))]) hx hb dX1_compareThree_30 hl (k := 0) rfl (by decide) (by decide) rfl (fun ls hl => ?_)
  refine lv_goto (tgt := 14) hx hb dX1_compareThree_33 (by decide) ?_
  refine lv_iload_n hx hb dX1_compareThree_14 rfl (lv_at hl 0 rfl) ?_
  refine lv_iconst (v := nI 3) hx hb dX1_compareThree_15 (by decide) ?_
  refine xb_ge (tgt := 36) hx hb dX1_compareThree_16 (by decide) (by decide) (by decide) (fun c => absurd c (by decide)) (fun _ => ?_)
  refine lv_iload_n hx hb dX1_compareThree_19 rfl (lv_at hl 0 rfl) ?_
  refine lv_iload_n hx hb dX1_compareThree_20 rfl (lv_at hl 1 rfl) ?_
  refine xb_eq (tgt := 30) hx hb dX1_compareThree_21 (by decide) (by decide) (by decide) (fun c => absurd c (by decide)) (fun _ => ?_)
  refine lv_aload_n hx hb dX1_compareThree_24 rfl (lv_at hl 2 rfl) ?_
  refine lv_iload_n hx hb dX1_compareThree_25 rfl (lv_at hl 1 rfl) ?_
  refine lv_iload_n hx hb dX1_compareThree_26 rfl (lv_at hl 0 rfl) ?_
  refine cs_Wv (ci := 0) (As := [.int (nI 2), .int (nI 1)]) (rest := []) ⟨hx, hb, hml, hown, hts⟩ (met_raise l H.size D a d its wts szs exs f7 g6 hit z6 lt S w 2 1 (e2 * e0) e1 (by decide) (by decide) hi hsn2 he1 he1b) (cwV 2 hts (lw_V q123 q125 qs5 q20 q126) rfl rfl rfl (by decide +kernel) ⟨Nat.le_of_ble_eq_true rfl, Nat.le_of_ble_eq_true rfl⟩) hK hP hD hS hA rfl rfl rfl hl.1 rfl (Nat.le_of_ble_eq_true rfl) dX1_compareThree_27 ⟨Nat.zero_le _, Nat.zero_le _⟩ (fun u H locs hw hP hD hS _ => ?_)
  obtain ⟨f8, ef⟩ : ∃ v, v = u := ⟨_, rfl⟩
  rw [← ef] at hw hP hD
  have hsn0 : Snt (S 0) (e0 * e1 * e2) (16 * 0) f8 g6 := Snt_cong hsn0 (fun j hj => by rw [hw]; exact rsd_hi (by omega)) (fun _ _ => rfl)
  have hsn1 : Snt (S 1) (e1 * e0 * e2) (16 * 1) f8 g6 := Snt_cong hsn1 (fun j hj => by rw [hw]; exact rsd_hi (by omega)) (fun _ _ => rfl)
  have hsn2 : Snt (S 2) (e2 * e0 * e1) (16 * 2) f8 g6 := by rw [hw]; exact Snt_rsd hsn2
  refine lv_iinc (v := nI 2) (lv' := [(3, .int (nI 2)), (2, .int (nI 2)), (0, .ref (a 0)), (1, .int (nI P))]) hx hb dX1_compareThree_30 hl (k := 0) rfl (by decide) (by decide) rfl (fun ls hl => ?_)
  refine lv_goto (tgt := 14) hx hb dX1_compareThree_33 (by decide) ?_
  refine lv_iload_n hx hb dX1_compareThree_14 rfl (lv_at hl 0 rfl) ?_
  refine lv_iconst (v := nI 3) hx hb dX1_compareThree_15 (by decide) ?_
  refine xb_ge (tgt := 36) hx hb dX1_compareThree_16 (by decide) (by decide) (by decide) (fun c => absurd c (by decide)) (fun _ => ?_)
  refine lv_iload_n hx hb dX1_compareThree_19 rfl (lv_at hl 0 rfl) ?_
  refine lv_iload_n hx hb dX1_compareThree_20 rfl (lv_at hl 1 rfl) ?_
  refine xb_eq (tgt := 30) hx hb dX1_compareThree_21 (by decide) (by decide) (by decide) (fun _ => ?_) (fun c => absurd c (by decide))
  refine lv_iinc (v := nI 3) (lv' := [(3, .int (nI 3)), (2, .int (nI 2)), (0, .ref (a 0)), (1, .int (nI P))]) hx hb dX1_compareThree_30 hl (k := 0) rfl (by decide) (by decide) rfl (fun ls hl => ?_)
  refine lv_goto (tgt := 14) hx hb dX1_compareThree_33 (by decide) ?_
  refine lv_iload_n hx hb dX1_compareThree_14 rfl (lv_at hl 0 rfl) ?_
  refine lv_iconst (v := nI 3) hx hb dX1_compareThree_15 (by decide) ?_
  refine xb_ge (tgt := 36) hx hb dX1_compareThree_16 (by decide) (by decide) (by decide) (fun _ => ?_) (fun c => absurd c (by decide))
  refine lv_iinc (v := nI 3) (lv' := [(2, .int (nI 3)), (3, .int (nI 3)), (0, .ref (a 0)), (1, .int (nI P))]) hx hb dX1_compareThree_36 hl (k := 1) rfl (by decide) (by decide) rfl (fun ls hl => ?_)
  refine lv_goto (tgt := 2) hx hb dX1_compareThree_39 (by decide) ?_
  refine lv_iload_n hx hb dX1_compareThree_2 rfl (lv_at hl 0 rfl) ?_
  refine lv_iconst (v := nI 3) hx hb dX1_compareThree_3 (by decide) ?_
  refine xb_ge (tgt := 42) hx hb dX1_compareThree_4 (by decide) (by decide) (by decide) (fun _ => ?_) (fun c => absurd c (by decide))
  have hgE : gd (e0 * e1 * e2) := gd_mul (gd_mul (gd_of he0a he0b) (gd_of he1a he1b)) (gd_of he2a he2b)
  have hall : ∀ L, L < 3 → Snt (S L) (e0 * e1 * e2) (16 * L) f8 g6 := by
    intro L hL
    rcases (show L = 0 ∨ L = 1 ∨ L = 2 by omega) with q1 | q1 | q1
    · subst q1
      exact hsn0
    · subst q1
      rw [Nat.mul_comm e0 e1]
      exact hsn1
    · subst q1
      rw [show e0 * e1 * e2 = e2 * e0 * e1 by rw [Nat.mul_comm (e0 * e1) e2, Nat.mul_assoc]]
      exact hsn2
  generalize e0 * e1 * e2 = E at hall hgE
  have hoq : oq P < 3 := by unfold oq; split <;> omega
  have hor : or_ P < 3 := by unfold or_ oq; split <;> omega
  have hoP : P + oq P ≤ 3 := by unfold oq; split <;> omega
  have rest : W p l e (headSpec (ws_ yX1_compareThree cX1_compareThree 7 none) ({ frames := 2, cells := 0, slots := 0, locals := 80 } : Room)).room s m ([.ref (a 0), .int (nI P)] : List Value).toArray below meth c H locs 0 0 (MQ below (QXv D d A (fun u : (Nat → Int32) × (Nat → Int32) × (Nat → Int32) × Int32 => wX a d its wts szs exs u.1 u.2.1 u.2.2.1 u.2.2.2 lt) (fun u => match u with | (_, _, h, _) => HitOk (S P) (an (S (oq P)) (S (or_ P))) h)) ([.ref (a 0), .int (nI P)] : List Value).toArray s 0 0 A) (F0 m 51 ls [.int (nI (oq P))]) := by
    refine lv_istore_n (lv' := [(2, .int (nI (oq P))), (3, .int (nI 3)), (0, .ref (a 0)), (1, .int (nI P))]) hx hb dX1_compareThree_51 rfl hl (by decide) rfl (fun ls hl => ?_)
    refine lv_iconst (v := nI 3) hx hb dX1_compareThree_52 (by decide) ?_
    refine lv_iload_n hx hb dX1_compareThree_53 rfl (lv_at hl 3 rfl) ?_
    refine lv_isub hx hb dX1_compareThree_54 ?_
    refine xr_set (y := nI (3 - P)) (pk_sub (by omega)) ?_
    refine lv_iload_n hx hb dX1_compareThree_55 rfl (lv_at hl 0 rfl) ?_
    refine lv_isub hx hb dX1_compareThree_56 ?_
    refine xr_set (y := nI ((3 - P) - (oq P))) (pk_sub (by omega)) ?_
    refine xr_set (y := nI (or_ P)) rfl ?_
    refine lv_istore_n (lv' := [(3, .int (nI (or_ P))), (2, .int (nI (oq P))), (0, .ref (a 0)), (1, .int (nI P))]) hx hb dX1_compareThree_57 rfl hl (by decide) rfl (fun ls hl => ?_)
    refine lv_iconst (v := nI 0) hx hb dX1_compareThree_58 (by decide) ?_
    refine lv_istore (lv' := [(4, .int (nI 0)), (3, .int (nI (or_ P))), (2, .int (nI (oq P))), (0, .ref (a 0)), (1, .int (nI P))]) hx hb dX1_compareThree_59 hl (by decide) rfl (fun ls hl => ?_)
    have loopB : ∀ (q : Nat) (k : Nat) (h : Nat → Int32), fb_ct (S P) 64 < k + q → (k ≤ fb_ct (S P) 64) → (HitTo (S P) (an (S (oq P)) (S (or_ P))) (16 * P) k g6 h) → ∀ (H : Heap) (locs : List Loc), va_P D vwCl (wX a d its wts szs exs f8 g6 h z6 lt) H → va_D A (wX a d its wts szs exs f8 g6 h z6 lt) → va_S A s.heap H locs → ∀ (ls : Array Slot), lv_has ls 7 [(4, .int (nI k)), (3, .int (nI (or_ P))), (2, .int (nI (oq P))), (0, .ref (a 0)), (1, .int (nI P))] → W p l e (headSpec (ws_ yX1_compareThree cX1_compareThree 7 none) ({ frames := 2, cells := 0, slots := 0, locals := 80 } : Room)).room s m ([.ref (a 0), .int (nI P)] : List Value).toArray below meth c H locs 0 0 (MQ below (QXv D d A (fun u : (Nat → Int32) × (Nat → Int32) × (Nat → Int32) × Int32 => wX a d its wts szs exs u.1 u.2.1 u.2.2.1 u.2.2.2 lt) (fun u => match u with | (_, _, h, _) => HitOk (S P) (an (S (oq P)) (S (or_ P))) h)) ([.ref (a 0), .int (nI P)] : List Value).toArray s 0 0 A) (F0 m 85 ls []) := by
      intro q
      induction q with
      | zero =>
        intro k h hq hk hto
        exact absurd hq (by omega)
      | succ q ih =>
        intro k h hq hk hto H locs hP hD hS ls hl
        refine lv_iload hx hb dX1_compareThree_85 (lv_at hl 0 rfl) ?_
        refine lv_aload_n hx hb dX1_compareThree_87 rfl (lv_at hl 3 rfl) ?_
        refine xg_szs hx hb hts hown hK hP dX1_compareThree_88 ?_
        refine lv_iload_n hx hb dX1_compareThree_91 rfl (lv_at hl 4 rfl) ?_
        refine xl_szs hx hb hK hP (j := P) (by omega) dX1_compareThree_92 ?_
        refine xr_set (y := nI (fb_ct (S P) 64)) hs ?_
        refine xb_ge (tgt := 162) hx hb dX1_compareThree_93 (by decide) (by omega) (by omega) (fun c3 => ?_) (fun c3 => ?_)
        · exact W.vret hx hb hr (fun t_ ht_ hW_ => ⟨⟨(f8, g6, h, z6), rfl, HitTo_ok (E := E) (snt := f8) (by rw [← show k = fb_ct (S P) 64 by omega]; exact hto) (hall P hP3), by rw [ht_]; exact hP, va_K.moved hW_.alike hK, hD⟩, hS.F ht_⟩) hS.2.2 dX1_compareThree_162
        · obtain ⟨i, hi64, hSi, horg, hsnt⟩ := (hall P hP3).1 k c3
          have hcl := ct_lt hSi hi64
          refine lv_aload_n hx hb dX1_compareThree_96 rfl (lv_at hl 3 rfl) ?_
          refine xg_snt hx hb hts hown hK hP dX1_compareThree_97 ?_
          refine lv_bipush (v := nI 16) hx hb dX1_compareThree_100 (by decide) ?_
          refine lv_iload_n hx hb dX1_compareThree_102 rfl (lv_at hl 4 rfl) ?_
          refine lv_imul hx hb dX1_compareThree_103 ?_
          refine xr_set (y := nI (16 * P)) (pk_mul _ _) ?_
          refine lv_iload hx hb dX1_compareThree_104 (lv_at hl 0 rfl) ?_
          refine lv_iadd hx hb dX1_compareThree_106 ?_
          refine xr_set (y := nI ((16 * P) + k)) (nI_add _ _) ?_
          refine xl_snt hx hb hK hP (j := ((16 * P) + k)) (by omega) dX1_compareThree_107 ?_
          refine xr_set (y := nI (gg E i)) hsnt ?_
          refine lv_istore (lv' := [(5, .int (nI (gg E i))), (4, .int (nI k)), (3, .int (nI (or_ P))), (2, .int (nI (oq P))), (0, .ref (a 0)), (1, .int (nI P))]) hx hb dX1_compareThree_108 hl (by decide) rfl (fun ls hl => ?_)
          have fin : W p l e (headSpec (ws_ yX1_compareThree cX1_compareThree 7 none) ({ frames := 2, cells := 0, slots := 0, locals := 80 } : Room)).room s m ([.ref (a 0), .int (nI P)] : List Value).toArray below meth c H locs 0 0 (MQ below (QXv D d A (fun u : (Nat → Int32) × (Nat → Int32) × (Nat → Int32) × Int32 => wX a d its wts szs exs u.1 u.2.1 u.2.2.1 u.2.2.2 lt) (fun u => match u with | (_, _, h, _) => HitOk (S P) (an (S (oq P)) (S (or_ P))) h)) ([.ref (a 0), .int (nI P)] : List Value).toArray s 0 0 A) (F0 m 135 ls [.int (bI (an (S (oq P)) (S (or_ P)) i))]) := by
            refine lv_istore (lv' := [(6, .int (bI (an (S (oq P)) (S (or_ P)) i))), (5, .int (nI (gg E i))), (4, .int (nI k)), (3, .int (nI (or_ P))), (2, .int (nI (oq P))), (0, .ref (a 0)), (1, .int (nI P))]) hx hb dX1_compareThree_135 hl (by decide) rfl (fun ls hl => ?_)
            refine lv_aload_n hx hb dX1_compareThree_137 rfl (lv_at hl 5 rfl) ?_
            refine xg_hit hx hb hts hown hK hP dX1_compareThree_138 ?_
            refine lv_aload_n hx hb dX1_compareThree_141 rfl (lv_at hl 5 rfl) ?_
            refine xg_org hx hb hts hown hK hP dX1_compareThree_142 ?_
            refine lv_bipush (v := nI 16) hx hb dX1_compareThree_145 (by decide) ?_
            refine lv_iload_n hx hb dX1_compareThree_147 rfl (lv_at hl 6 rfl) ?_
            refine lv_imul hx hb dX1_compareThree_148 ?_
            refine xr_set (y := nI (16 * P)) (pk_mul _ _) ?_
            refine lv_iload hx hb dX1_compareThree_149 (lv_at hl 2 rfl) ?_
            refine lv_iadd hx hb dX1_compareThree_151 ?_
            refine xr_set (y := nI ((16 * P) + k)) (nI_add _ _) ?_
            refine xl_org hx hb hK hP (j := ((16 * P) + k)) (by omega) dX1_compareThree_152 ?_
            refine xr_set (y := nI (fb_ct (S P) i)) horg ?_
            refine lv_iload hx hb dX1_compareThree_153 (lv_at hl 0 rfl) ?_
            refine xs_hit hx hb hK hP hD hS (j := (fb_ct (S P) i)) (b := (an (S (oq P)) (S (or_ P)) i)) (by omega) dX1_compareThree_155 (fun H locs hP hD hS => ?_)
            refine lv_iinc (v := nI (k + 1)) (lv' := [(4, .int (nI (k + 1))), (6, .int (bI (an (S (oq P)) (S (or_ P)) i))), (5, .int (nI (gg E i))), (3, .int (nI (or_ P))), (2, .int (nI (oq P))), (0, .ref (a 0)), (1, .int (nI P))]) hx hb dX1_compareThree_156 hl (k := 2) rfl (nI_1 _) (by decide) rfl (fun ls hl => ?_)
            refine lv_goto (tgt := 85) hx hb dX1_compareThree_159 (by decide) ?_
            exact ih (k + 1) _ (by omega) (by omega) (HitTo_step hto hi64 hSi horg rfl) H locs hP hD hS ls (lv_sub hl [0, 3, 4, 5, 6] rfl)
          refine lv_aload_n hx hb dX1_compareThree_110 rfl (lv_at hl 4 rfl) ?_
          refine lv_iload_n hx hb dX1_compareThree_111 rfl (lv_at hl 3 rfl) ?_
          refine lv_iload hx hb dX1_compareThree_112 (lv_at hl 0 rfl) ?_
          refine cs_R (ci := 0) (As := [.int (nI (oq P)), .int (nI (gg E i))]) (rest := []) ⟨hx, hb, hml, hown, hts⟩ (met_isSent l D a d its wts szs exs f8 g6 h z6 lt S w (oq P) (nI (gg E i)) hoq hi) (cwV 2 hts (lw_V q127 q129 qs6 q20 q130) rfl rfl rfl (by decide +kernel) ⟨Nat.le_of_ble_eq_true rfl, Nat.le_of_ble_eq_true rfl⟩) hK hP rfl rfl rfl hl.1 rfl (Nat.le_of_ble_eq_true rfl) dX1_compareThree_114 ⟨Nat.zero_le _, Nat.zero_le _⟩ (fun r3 hw => ?_)
          have hr_ : r3 = bI (S (oq P) i) := by
            rcases hw with ⟨e1, e2⟩ | ⟨e1, e2⟩
            · rw [e1, (Snt_mem (hall _ hoq) hgE hi64).mp e2]
              rfl
            · have e3 : S (oq P) i = false := by
                cases q1 : S (oq P) i
                · rfl
                · obtain ⟨j, a1, a2⟩ := (Snt_mem (hall _ hoq) hgE hi64).mpr q1
                  exact absurd a2 (e2 j a1)
              rw [e1, e3]
              rfl
          subst hr_
          refine lv_if_eq (tgt := 134) hx hb dX1_compareThree_117 (by decide) (fun c4 => ?_) (fun c4 => ?_)
          · refine lv_iconst (v := nI 0) hx hb dX1_compareThree_134 (by decide) ?_
            refine xr_set (y := bI (an (S (oq P)) (S (or_ P)) i)) (by unfold an; rw [bI_0.mp c4]; rfl) ?_
            exact fin
          · refine lv_aload_n hx hb dX1_compareThree_120 rfl (lv_at hl 4 rfl) ?_
            refine lv_iload_n hx hb dX1_compareThree_121 rfl (lv_at hl 2 rfl) ?_
            refine lv_iload hx hb dX1_compareThree_122 (lv_at hl 0 rfl) ?_
            refine cs_R (ci := 0) (As := [.int (nI (or_ P)), .int (nI (gg E i))]) (rest := []) ⟨hx, hb, hml, hown, hts⟩ (met_isSent l D a d its wts szs exs f8 g6 h z6 lt S w (or_ P) (nI (gg E i)) hor hi) (cwV 2 hts (lw_V q127 q129 qs6 q20 q130) rfl rfl rfl (by decide +kernel) ⟨Nat.le_of_ble_eq_true rfl, Nat.le_of_ble_eq_true rfl⟩) hK hP rfl rfl rfl hl.1 rfl (Nat.le_of_ble_eq_true rfl) dX1_compareThree_124 ⟨Nat.zero_le _, Nat.zero_le _⟩ (fun r4 hw => ?_)
            have hr_ : r4 = bI (S (or_ P) i) := by
              rcases hw with ⟨e1, e2⟩ | ⟨e1, e2⟩
              · rw [e1, (Snt_mem (hall _ hor) hgE hi64).mp e2]
                rfl
              · have e3 : S (or_ P) i = false := by
                  cases q1 : S (or_ P) i
                  · rfl
                  · obtain ⟨j, a1, a2⟩ := (Snt_mem (hall _ hor) hgE hi64).mpr q1
                    exact absurd a2 (e2 j a1)
                rw [e1, e3]
                rfl
            subst hr_
            refine lv_if_eq (tgt := 134) hx hb dX1_compareThree_127 (by decide) (fun c5 => ?_) (fun c5 => ?_)
            · refine lv_iconst (v := nI 0) hx hb dX1_compareThree_134 (by decide) ?_
              refine xr_set (y := bI (an (S (oq P)) (S (or_ P)) i)) (by unfold an; rw [bI_n0.mp c4, bI_0.mp c5]; rfl) ?_
              exact fin
            · refine lv_iconst (v := nI 1) hx hb dX1_compareThree_130 (by decide) ?_
              refine lv_goto (tgt := 135) hx hb dX1_compareThree_131 (by decide) ?_
              refine xr_set (y := bI (an (S (oq P)) (S (or_ P)) i)) (by unfold an; rw [bI_n0.mp c4, bI_n0.mp c5]; rfl) ?_
              exact fin
    have loopA : ∀ (q : Nat) (k : Nat) (h : Nat → Int32), 16 < k + q → (k ≤ 16) → ∀ (H : Heap) (locs : List Loc), va_P D vwCl (wX a d its wts szs exs f8 g6 h z6 lt) H → va_D A (wX a d its wts szs exs f8 g6 h z6 lt) → va_S A s.heap H locs → ∀ (ls : Array Slot), lv_has ls 7 [(4, .int (nI k)), (3, .int (nI (or_ P))), (2, .int (nI (oq P))), (0, .ref (a 0)), (1, .int (nI P))] → W p l e (headSpec (ws_ yX1_compareThree cX1_compareThree 7 none) ({ frames := 2, cells := 0, slots := 0, locals := 80 } : Room)).room s m ([.ref (a 0), .int (nI P)] : List Value).toArray below meth c H locs 0 0 (MQ below (QXv D d A (fun u : (Nat → Int32) × (Nat → Int32) × (Nat → Int32) × Int32 => wX a d its wts szs exs u.1 u.2.1 u.2.2.1 u.2.2.2 lt) (fun u => match u with | (_, _, h, _) => HitOk (S P) (an (S (oq P)) (S (or_ P))) h)) ([.ref (a 0), .int (nI P)] : List Value).toArray s 0 0 A) (F0 m 61 ls []) := by
      intro q
      induction q with
      | zero =>
        intro k h hq hk
        exact absurd hq (by omega)
      | succ q ih =>
        intro k h hq hk H locs hP hD hS ls hl
        refine lv_iload hx hb dX1_compareThree_61 (lv_at hl 0 rfl) ?_
        refine lv_bipush (v := nI 16) hx hb dX1_compareThree_63 (by decide) ?_
        refine xb_ge (tgt := 82) hx hb dX1_compareThree_65 (by decide) (by omega) (by omega) (fun c6 => ?_) (fun c6 => ?_)
        · refine lv_iconst (v := nI 0) hx hb dX1_compareThree_82 (by decide) ?_
          refine lv_istore (lv' := [(4, .int (nI 0)), (3, .int (nI (or_ P))), (2, .int (nI (oq P))), (0, .ref (a 0)), (1, .int (nI P))]) hx hb dX1_compareThree_83 hl (by decide) rfl (fun ls hl => ?_)
          exact loopB (fb_ct (S P) 64 + 1) 0 h (by omega) (Nat.zero_le _) HitTo_0 H locs hP hD hS ls (lv_sub hl [0, 1, 2, 3, 4] rfl)
        · refine lv_aload_n hx hb dX1_compareThree_68 rfl (lv_at hl 3 rfl) ?_
          refine xg_hit hx hb hts hown hK hP dX1_compareThree_69 ?_
          refine lv_iload hx hb dX1_compareThree_72 (lv_at hl 0 rfl) ?_
          refine lv_iconst (v := nI 0) hx hb dX1_compareThree_74 (by decide) ?_
          refine xr_set (y := bI false) rfl ?_
          refine xs_hit hx hb hK hP hD hS (j := k) (b := false) (by omega) dX1_compareThree_75 (fun H locs hP hD hS => ?_)
          refine lv_iinc (v := nI (k + 1)) (lv' := [(4, .int (nI (k + 1))), (3, .int (nI (or_ P))), (2, .int (nI (oq P))), (0, .ref (a 0)), (1, .int (nI P))]) hx hb dX1_compareThree_76 hl (k := 0) rfl (nI_1 _) (by decide) rfl (fun ls hl => ?_)
          refine lv_goto (tgt := 61) hx hb dX1_compareThree_79 (by decide) ?_
          exact ih (k + 1) _ (by omega) (by omega) H locs hP hD hS ls (lv_sub hl [0, 1, 2, 3, 4] rfl)
    exact loopA 17 0 hit (by omega) (by omega) H locs hP hD hS ls (lv_sub hl [0, 1, 2, 3, 4] rfl)
  refine lv_iload_n hx hb dX1_compareThree_42 rfl (lv_at hl 3 rfl) ?_
  refine lv_if_ne (tgt := 50) hx hb dX1_compareThree_43 (by decide) (fun c7 => ?_) (fun c7 => ?_)
  · refine lv_iconst (v := nI 0) hx hb dX1_compareThree_50 (by decide) ?_
    refine xr_set (y := nI (oq P)) (by unfold oq; rw [if_neg (fun q1 => c7 (by rw [q1]; rfl))]) ?_
    exact rest
  · refine lv_iconst (v := nI 1) hx hb dX1_compareThree_46 (by decide) ?_
    refine lv_goto (tgt := 51) hx hb dX1_compareThree_47 (by decide) ?_
    refine xr_set (y := nI (oq P)) (by unfold oq; rw [if_pos (nI_inj (by omega) (by decide) (show nI P = nI 0 from c7))]) ?_
    exact rest
end
section
abbrev wXu (a : Nat → Nat) (d : Nat → ClassId) (u : XS) : va_W := wX a d u.1 u.2.1 u.2.2.1 u.2.2.2.1 u.2.2.2.2.1 u.2.2.2.2.2.1 u.2.2.2.2.2.2.1 u.2.2.2.2.2.2.2.1 u.2.2.2.2.2.2.2.2
theorem XPost.mk {F : Int32 × AS} {r : Int32} {its wts szs exs snt org hit : Nat → Int32} {rnd lt : Int32} (A : AS) (h : F = (r, A)) (h1 : XI A.1 A.2.1 its wts szs) (h2 : EI exs) (h3 : lt = A.2.2) : XPost F r (its, wts, szs, exs, snt, org, hit, rnd, lt) := ⟨A, h, h1, h2, h3⟩
theorem sec_x (p : Int32) : -1018 < (p - p / nI 1018 * nI 1018).toInt ∧ (p - p / nI 1018 * nI 1018).toInt < 1018 := by
  have hq : (p / nI 1018).toInt = p.toInt.tdiv 1018 := Int32.toInt_div_of_ne_right _ _ (by decide)
  have h1 := Int.mul_tdiv_add_tmod p.toInt 1018
  have h2 := Int.tmod_lt_of_pos p.toInt (b := 1018) (by decide)
  have h3 := Int.lt_tmod_of_pos p.toInt (b := 1018) (by decide)
  have h4 : (p - p / nI 1018 * nI 1018).toInt = p.toInt.tmod 1018 := by
    rw [Int32.toInt_sub, Int32.toInt_mul, hq, show (nI 1018).toInt = 1018 from rfl, Int.sub_bmod_bmod, show p.toInt - p.toInt.tdiv 1018 * 1018 = p.toInt.tmod 1018 by omega]
    exact Int.bmod_eq_of_le (by omega) (by omega)
  rw [h4]
  exact ⟨h3, h2⟩
theorem i_ofz {x : Int32} {e : Nat} (he : e < 2 ^ 31) (h : x.toInt = (e : Int)) : x = nI e := Int32.toInt_inj.mp (by rw [h, nI_toInt he])
theorem i_add {x y : Int32} (h1 : -2147483648 ≤ x.toInt + y.toInt) (h2 : x.toInt + y.toInt < 2147483648) : (x + y).toInt = x.toInt + y.toInt := by
  rw [Int32.toInt_add, Int.bmod_eq_of_le (by omega) (by omega)]
theorem sec_neg {x : Int32} (h1 : -1018 < x.toInt) (h2 : ¬ 0 ≤ x) : ∃ e, 1 ≤ e ∧ e ≤ 1018 ∧ x + nI 1019 = nI e := by
  rw [i_le, i_0] at h2
  have hc : (nI 1019).toInt = 1019 := rfl
  refine ⟨(x.toInt + 1019).toNat, by omega, by omega, i_ofz (by omega) ?_⟩
  rw [i_add (by omega) (by omega), hc]
  omega
theorem sec_pos {x : Int32} (h1 : x.toInt < 1018) (h2 : 0 ≤ x) : ∃ e, 1 ≤ e ∧ e ≤ 1018 ∧ x + nI 1 = nI e := by
  rw [i_le, i_0] at h2
  have hc : (nI 1).toInt = 1 := rfl
  refine ⟨(x.toInt + 1).toNat, by omega, by omega, i_ofz (by omega) ?_⟩
  rw [i_add (by omega) (by omega), hc]
  omega
theorem s1_same {f : Nat → Bool} {I : Nat} {b : Bool} (h : f I = b) : s1 f I b = f := by
  funext k
  unfold s1
  by_cases e : k = I
  · rw [if_pos e, e, h]
  · rw [if_neg e]
theorem XI_set {S : Nat → Nat → Bool} {w : Nat → Nat → Int32} {its wts szs : Nat → Int32} {P I : Nat} (v : Int32) (h : XI S w its wts szs) (hP : P < 3) (hI : I < 64) (hf : S P I = true) : XI (sS S P I true) (sW w P I v) its (upd wts (16 * P + fb_ct (S P) I) v) szs := by
  have hk := ct_lt hf hI
  have hP2 := (h P hP).2.1
  intro k hk3
  obtain ⟨h1, h2, h3⟩ := h k hk3
  by_cases e : k = P
  · subst e
    rw [sS_at, s1_same hf]
    refine ⟨h1, h2, fun i hi hs => ?_⟩
    by_cases e2 : i = I
    · subst e2
      rw [upd_at]
      exact ⟨(h3 i hi hs).1, (if_pos ⟨rfl, rfl⟩).symm⟩
    · rw [upd_no (fun q => e2 (fb_ct_kth_one hs hf (by omega))), show sW w k I v k i = w k i from if_neg (fun q => e2 q.2)]
      exact h3 i hi hs
  · rw [sS_no _ _ _ e]
    refine ⟨h1, h2, fun i hi hs => ?_⟩
    have := ct_lt hs hi
    rw [upd_no (by omega), show sW w P I v k i = w k i from if_neg (fun q => e q.1)]
    exact h3 i hi hs
theorem hk3 (S : Nat → Nat → Bool) : hk S 3 = an (S 0) (an (S 1) (S 2)) := by
  funext i
  unfold hk an hold
  cases S 0 i <;> cases S 1 i <;> cases S 2 i <;> rfl
theorem hb_lo (A : AS) {k : Int32} (h : k < nI 1) : F_heldByJust A k = (-1, A) := by
  unfold F_heldByJust
  rcases pk_ix k (n := 4) (by decide) with q | q | ⟨j, hj, e⟩
  · exact onN_bad (by decide) (out_neg (by decide) q) _ _
  · exact onN_bad (by decide) (out_ge (by decide) q) _ _
  · subst e
    rw [onN_ok hj (by decide), if_pos]
    have := (nI_ltI (by omega) (by decide)).mp h
    omega
theorem hb_hi (A : AS) {k : Int32} (h : ¬ k ≤ nI 3) : F_heldByJust A k = (-1, A) := onN_bad (by decide) (out_gt (n := 3) (by decide) (i_nle h)) _ _
theorem hb_in {k : Int32} (h1 : ¬ k < nI 1) (h2 : k ≤ nI 3) : ∃ K, 1 ≤ K ∧ K ≤ 3 ∧ k = nI K := by
  rcases pk_ix k (n := 4) (by decide) with q | q | ⟨j, hj, e⟩
  · exact absurd (by
      rw [i_lt, i_0] at q
      rw [i_lt, show (nI 1).toInt = 1 from rfl]
      omega) h1
  · exact absurd h2 (by
      rw [i_le, show (nI 4).toInt = 4 from rfl] at q
      rw [i_le, show (nI 3).toInt = 3 from rfl]
      omega)
  · subst e
    refine ⟨j, ?_, by omega, rfl⟩
    rcases Nat.eq_zero_or_pos j with q | q
    · subst q
      exact absurd (by decide) h1
    · exact q
theorem hb_ok (A : AS) {K : Nat} (h1 : 1 ≤ K) (h2 : K ≤ 3) : F_heldByJust A (nI K) = (nI (fb_ct (hk A.1 K) 64), A) := by
  unfold F_heldByJust
  rw [onN_ok (by omega) (by decide), if_neg (by omega)]
theorem ring3 {a b c r : Nat} (h : a + c = r + b) : nI a - nI b + nI c = nI r := by
  have h1 := congrArg nI h
  rw [← nI_add, ← nI_add] at h1
  grind
theorem ring4 {a b c t r : Nat} (h : a + t = r + b + c) : nI a - nI b - nI c + nI t = nI r := by
  have h1 := congrArg nI h
  rw [← nI_add, ← nI_add, ← nI_add] at h1
  grind
set_option maxHeartbeats 4000000 in
set_option maxRecDepth 100000 in
theorem met_traffic (l : Launch) (sz : Nat) (D : va_G) (a : Nat → Nat) (d : Nat → ClassId) (its wts szs exs snt org hit : Nat → Int32) (rnd lt : Int32) (S : Nat → Nat → Bool) (w : Nat → Nat → Int32) (hi : XI S w its wts szs) (he : EI exs) : Met l yX1_traffic (ws_ yX1_traffic cX1_traffic 1 (some .int)) ({ frames := 0, cells := 0, slots := 0, locals := 0 } : Room) (va_Pc [.ref (a 0)] (fun U => U.heap.size = sz ∧ va_P D vwCl (wX a d its wts szs exs snt org hit rnd lt) U.heap ∧ va_K D vwCl (tyX d) U ∧ va_D (fun _ => True) (wX a d its wts szs exs snt org hit rnd lt))) (QXi D d (va_A (wX a d its wts szs exs snt org hit rnd lt) sz) (wXu a d) (XPost (F_traffic (S, w, lt)))) 0 0 (va_A (wX a d its wts szs exs snt org hit rnd lt) sz) := by
  refine Met.ofW (cc := cX1_traffic) (maxL := 1) (ret := (some .int)) (by decide) rfl ?_
  intro p e s m args below meth c s₁ B hml hv
  obtain ⟨rfl, hsz, hP, hK, hD0⟩ := hv
  have hx := B.exec
  have hb := B.bytes
  have hr := B.returns
  have hlocks := B.notSynchronized
  have hts := atoms_spec (ws := ws_ yX1_traffic cX1_traffic 1 (some .int)) B.pre
  have hts : ∀ w ∈ lw_all, w.before _ s = true := fun w h => hts w (List.mem_cons_of_mem _ h)
  have hown : s.vm.findClass RX1 = some m.cls := findClass_of_methodNamed B.named
  subst hsz
  have hD := hD0.self (sz := s.heap.size)
  generalize hAe : va_A (wX a d its wts szs exs snt org hit rnd lt) s.heap.size = A at hD ⊢
  have hA : ∀ q : Nat, s.heap.size ≤ q → A q := fun q h => by rw [← hAe]; exact Or.inr h
  have hS : va_S A s.heap s.heap [] := va_S.rf
  have hl := lv_entry ([.ref (a 0)]) (n := 1) (Nat.le_of_ble_eq_true rfl)
  rw [lg_entry_eq]
  generalize (lg_sl ([.ref (a 0)]) ++ List.replicate (1 - (lg_sl ([.ref (a 0)])).length) Slot.unset).toArray = ls at hl ⊢
  have hl : lv_has ls 1 [(0, .ref (a 0))] := hl
  refine lv_aload_n hx hb dX1_traffic_0 rfl (lv_at hl 0 rfl) ?_
  refine xg_lt hx hb hts hown hK hP dX1_traffic_1 ?_
  exact W.iret (v := lt) hx hb hr (fun t_ ht_ hW_ => ⟨⟨_, (its, wts, szs, exs, snt, org, hit, rnd, lt), rfl, XPost.mk (S, w, lt) (rfl) (hi) he rfl, by rw [ht_]; exact hP, va_K.moved hW_.alike hK, hD⟩, hS.F ht_⟩) hS.2.2 dX1_traffic_4
set_option maxHeartbeats 4000000 in
set_option maxRecDepth 100000 in
theorem met_held (l : Launch) (sz : Nat) (D : va_G) (a : Nat → Nat) (d : Nat → ClassId) (its wts szs exs snt org hit : Nat → Int32) (rnd lt : Int32) (S : Nat → Nat → Bool) (w : Nat → Nat → Int32) (p0 : Int32) (hi : XI S w its wts szs) (he : EI exs) : Met l yX1_held (ws_ yX1_held cX1_held 2 (some .int)) ({ frames := 1, cells := 0, slots := 0, locals := 40 } : Room) (va_Pc [.ref (a 0), .int p0] (fun U => U.heap.size = sz ∧ va_P D vwCl (wX a d its wts szs exs snt org hit rnd lt) U.heap ∧ va_K D vwCl (tyX d) U ∧ va_D (fun _ => True) (wX a d its wts szs exs snt org hit rnd lt))) (QXi D d (va_A (wX a d its wts szs exs snt org hit rnd lt) sz) (wXu a d) (XPost (F_held (S, w, lt) p0))) 0 0 (va_A (wX a d its wts szs exs snt org hit rnd lt) sz) := by
  refine Met.ofW (cc := cX1_held) (maxL := 2) (ret := (some .int)) (by decide) rfl ?_
  intro p e s m args below meth c s₁ B hml hv
  obtain ⟨rfl, hsz, hP, hK, hD0⟩ := hv
  have hx := B.exec
  have hb := B.bytes
  have hr := B.returns
  have hlocks := B.notSynchronized
  have hts := atoms_spec (ws := ws_ yX1_held cX1_held 2 (some .int)) B.pre
  have hts : ∀ w ∈ lw_all, w.before _ s = true := fun w h => hts w (List.mem_cons_of_mem _ h)
  have hown : s.vm.findClass RX1 = some m.cls := findClass_of_methodNamed B.named
  subst hsz
  have hD := hD0.self (sz := s.heap.size)
  generalize hAe : va_A (wX a d its wts szs exs snt org hit rnd lt) s.heap.size = A at hD ⊢
  have hA : ∀ q : Nat, s.heap.size ≤ q → A q := fun q h => by rw [← hAe]; exact Or.inr h
  have hS : va_S A s.heap s.heap [] := va_S.rf
  have hl := lv_entry ([.ref (a 0), .int p0]) (n := 2) (Nat.le_of_ble_eq_true rfl)
  rw [lg_entry_eq]
  generalize (lg_sl ([.ref (a 0), .int p0]) ++ List.replicate (2 - (lg_sl ([.ref (a 0), .int p0])).length) Slot.unset).toArray = ls at hl ⊢
  have hl : lv_has ls 2 [(0, .ref (a 0)), (1, .int p0)] := hl
  refine lv_iload_n hx hb dX1_held_0 rfl (lv_at hl 1 rfl) ?_
  refine cs_S (As := [.int p0]) (rest := []) ⟨hx, hb, hml, hown, hts⟩ (met_isParty l p0) (va_cwS 1 hts (lw_S q34 q35 q20 q36) rfl rfl rfl (by decide +kernel) ⟨Nat.le_of_ble_eq_true rfl, Nat.le_of_ble_eq_true rfl⟩) rfl hl.1 rfl (Nat.le_of_ble_eq_true rfl) dX1_held_1 ⟨Nat.zero_le _, Nat.zero_le _⟩ (fun r hw => ?_)
  rcases hw with ⟨rfl, P, hP3, rfl⟩ | ⟨rfl, hbad⟩
  · obtain ⟨hs, h16, hf⟩ := hi P hP3
    refine lv_if_eq (tgt := 16) hx hb dX1_held_4 (by decide) (fun c => absurd c (by decide)) (fun _ => ?_)
    refine lv_aload_n hx hb dX1_held_7 rfl (lv_at hl 0 rfl) ?_
    refine xg_szs hx hb hts hown hK hP dX1_held_8 ?_
    refine lv_iload_n hx hb dX1_held_11 rfl (lv_at hl 1 rfl) ?_
    refine xl_szs hx hb hK hP (j := P) (by omega) dX1_held_12 ?_
    refine xr_set (y := nI (fb_ct (S P) 64)) hs ?_
    refine lv_goto (tgt := 17) hx hb dX1_held_13 (by decide) ?_
    exact W.iret (v := nI (fb_ct (S P) 64)) hx hb hr (fun t_ ht_ hW_ => ⟨⟨_, (its, wts, szs, exs, snt, org, hit, rnd, lt), rfl, XPost.mk (S, w, lt) (onN_ok hP3 (by decide) _ _) (hi) he rfl, by rw [ht_]; exact hP, va_K.moved hW_.alike hK, hD⟩, hS.F ht_⟩) hS.2.2 dX1_held_17
  · refine lv_if_eq (tgt := 16) hx hb dX1_held_4 (by decide) (fun _ => ?_) (fun c => absurd c (by decide))
    refine lv_iconst (v := (-1)) hx hb dX1_held_16 (by decide) ?_
    exact W.iret (v := (-1)) hx hb hr (fun t_ ht_ hW_ => ⟨⟨_, (its, wts, szs, exs, snt, org, hit, rnd, lt), rfl, XPost.mk (S, w, lt) (onN_bad (by decide) hbad _ _) (hi) he rfl, by rw [ht_]; exact hP, va_K.moved hW_.alike hK, hD⟩, hS.F ht_⟩) hS.2.2 dX1_held_17
set_option maxHeartbeats 4000000 in
set_option maxRecDepth 100000 in
theorem met_clear (l : Launch) (sz : Nat) (D : va_G) (a : Nat → Nat) (d : Nat → ClassId) (its wts szs exs snt org hit : Nat → Int32) (rnd lt : Int32) (S : Nat → Nat → Bool) (w : Nat → Nat → Int32) (p0 : Int32) (hi : XI S w its wts szs) (he : EI exs) : Met l yX1_clear (ws_ yX1_clear cX1_clear 3 (some .int)) ({ frames := 1, cells := 0, slots := 0, locals := 40 } : Room) (va_Pc [.ref (a 0), .int p0] (fun U => U.heap.size = sz ∧ va_P D vwCl (wX a d its wts szs exs snt org hit rnd lt) U.heap ∧ va_K D vwCl (tyX d) U ∧ va_D (fun _ => True) (wX a d its wts szs exs snt org hit rnd lt))) (QXi D d (va_A (wX a d its wts szs exs snt org hit rnd lt) sz) (wXu a d) (XPost (F_clear (S, w, lt) p0))) 0 0 (va_A (wX a d its wts szs exs snt org hit rnd lt) sz) := by
  refine Met.ofW (cc := cX1_clear) (maxL := 3) (ret := (some .int)) (by decide) rfl ?_
  intro p e s m args below meth c s₁ B hml hv
  obtain ⟨rfl, hsz, hP, hK, hD0⟩ := hv
  have hx := B.exec
  have hb := B.bytes
  have hr := B.returns
  have hlocks := B.notSynchronized
  have hts := atoms_spec (ws := ws_ yX1_clear cX1_clear 3 (some .int)) B.pre
  have hts : ∀ w ∈ lw_all, w.before _ s = true := fun w h => hts w (List.mem_cons_of_mem _ h)
  have hown : s.vm.findClass RX1 = some m.cls := findClass_of_methodNamed B.named
  subst hsz
  have hD := hD0.self (sz := s.heap.size)
  generalize hAe : va_A (wX a d its wts szs exs snt org hit rnd lt) s.heap.size = A at hD ⊢
  have hA : ∀ q : Nat, s.heap.size ≤ q → A q := fun q h => by rw [← hAe]; exact Or.inr h
  have hS : va_S A s.heap s.heap [] := va_S.rf
  have hl := lv_entry ([.ref (a 0), .int p0]) (n := 3) (Nat.le_of_ble_eq_true rfl)
  rw [lg_entry_eq]
  generalize (lg_sl ([.ref (a 0), .int p0]) ++ List.replicate (3 - (lg_sl ([.ref (a 0), .int p0])).length) Slot.unset).toArray = ls at hl ⊢
  have hl : lv_has ls 3 [(0, .ref (a 0)), (1, .int p0)] := hl
  refine lv_iload_n hx hb dX1_clear_0 rfl (lv_at hl 1 rfl) ?_
  refine cs_S (As := [.int p0]) (rest := []) ⟨hx, hb, hml, hown, hts⟩ (met_isParty l p0) (va_cwS 1 hts (lw_S q34 q35 q20 q36) rfl rfl rfl (by decide +kernel) ⟨Nat.le_of_ble_eq_true rfl, Nat.le_of_ble_eq_true rfl⟩) rfl hl.1 rfl (Nat.le_of_ble_eq_true rfl) dX1_clear_1 ⟨Nat.zero_le _, Nat.zero_le _⟩ (fun r hw => ?_)
  rcases hw with ⟨rfl, P, hP3, rfl⟩ | ⟨rfl, hbad⟩
  · obtain ⟨hs, h16, hf⟩ := hi P hP3
    refine lv_if_ne (tgt := 9) hx hb dX1_clear_4 (by decide) (fun _ => ?_) (fun c => absurd c (by decide))
    refine lv_aload_n hx hb dX1_clear_9 rfl (lv_at hl 0 rfl) ?_
    refine xg_szs hx hb hts hown hK hP dX1_clear_10 ?_
    refine lv_iload_n hx hb dX1_clear_13 rfl (lv_at hl 1 rfl) ?_
    refine xl_szs hx hb hK hP (j := P) (by omega) dX1_clear_14 ?_
    refine xr_set (y := nI (fb_ct (S P) 64)) hs ?_
    refine lv_istore_n (lv' := [(2, .int (nI (fb_ct (S P) 64))), (0, .ref (a 0)), (1, .int (nI P))]) hx hb dX1_clear_15 rfl hl (by decide) rfl (fun ls hl => ?_)
    refine lv_aload_n hx hb dX1_clear_16 rfl (lv_at hl 1 rfl) ?_
    refine xg_szs hx hb hts hown hK hP dX1_clear_17 ?_
    refine lv_iload_n hx hb dX1_clear_20 rfl (lv_at hl 2 rfl) ?_
    refine lv_iconst (v := nI 0) hx hb dX1_clear_21 (by decide) ?_
    refine xs_szs hx hb hK hP hD hS (j := P) (by omega) dX1_clear_22 (fun H locs hP hD hS => ?_)
    refine lv_iload_n hx hb dX1_clear_23 rfl (lv_at hl 0 rfl) ?_
    exact W.iret (v := nI (fb_ct (S P) 64)) hx hb hr (fun t_ ht_ hW_ => ⟨⟨_, (its, wts, upd szs P (nI 0), exs, snt, org, hit, rnd, lt), rfl, XPost.mk (sC S P, w, lt) (onN_ok hP3 (by decide) _ _) (XI_clr hi) he rfl, by rw [ht_]; exact hP, va_K.moved hW_.alike hK, hD⟩, hS.F ht_⟩) hS.2.2 dX1_clear_24
  · refine lv_if_ne (tgt := 9) hx hb dX1_clear_4 (by decide) (fun c => absurd c (by decide)) (fun _ => ?_)
    refine lv_iconst (v := (-1)) hx hb dX1_clear_7 (by decide) ?_
    exact W.iret (v := (-1)) hx hb hr (fun t_ ht_ hW_ => ⟨⟨_, (its, wts, szs, exs, snt, org, hit, rnd, lt), rfl, XPost.mk (S, w, lt) (onN_bad (by decide) hbad _ _) (hi) he rfl, by rw [ht_]; exact hP, va_K.moved hW_.alike hK, hD⟩, hS.F ht_⟩) hS.2.2 dX1_clear_8
set_option maxHeartbeats 4000000 in
set_option maxRecDepth 100000 in
theorem met_secret (l : Launch) (sz : Nat) (D : va_G) (a : Nat → Nat) (d : Nat → ClassId) (its wts szs exs snt org hit : Nat → Int32) (rnd lt : Int32) (S : Nat → Nat → Bool) (w : Nat → Nat → Int32) (p0 : Int32) (p1 : Int32) (hi : XI S w its wts szs) (he : EI exs) : Met l yX1_secret (ws_ yX1_secret cX1_secret 4 (some .int)) ({ frames := 1, cells := 0, slots := 0, locals := 40 } : Room) (va_Pc [.ref (a 0), .int p0, .int p1] (fun U => U.heap.size = sz ∧ va_P D vwCl (wX a d its wts szs exs snt org hit rnd lt) U.heap ∧ va_K D vwCl (tyX d) U ∧ va_D (fun _ => True) (wX a d its wts szs exs snt org hit rnd lt))) (QXi D d (va_A (wX a d its wts szs exs snt org hit rnd lt) sz) (wXu a d) (XPost (F_secret (S, w, lt) p0 p1))) 0 0 (va_A (wX a d its wts szs exs snt org hit rnd lt) sz) := by
  refine Met.ofW (cc := cX1_secret) (maxL := 4) (ret := (some .int)) (by decide) rfl ?_
  intro p e s m args below meth c s₁ B hml hv
  obtain ⟨rfl, hsz, hP, hK, hD0⟩ := hv
  have hx := B.exec
  have hb := B.bytes
  have hr := B.returns
  have hlocks := B.notSynchronized
  have hts := atoms_spec (ws := ws_ yX1_secret cX1_secret 4 (some .int)) B.pre
  have hts : ∀ w ∈ lw_all, w.before _ s = true := fun w h => hts w (List.mem_cons_of_mem _ h)
  have hown : s.vm.findClass RX1 = some m.cls := findClass_of_methodNamed B.named
  subst hsz
  have hD := hD0.self (sz := s.heap.size)
  generalize hAe : va_A (wX a d its wts szs exs snt org hit rnd lt) s.heap.size = A at hD ⊢
  have hA : ∀ q : Nat, s.heap.size ≤ q → A q := fun q h => by rw [← hAe]; exact Or.inr h
  have hS : va_S A s.heap s.heap [] := va_S.rf
  have hl := lv_entry ([.ref (a 0), .int p0, .int p1]) (n := 4) (Nat.le_of_ble_eq_true rfl)
  rw [lg_entry_eq]
  generalize (lg_sl ([.ref (a 0), .int p0, .int p1]) ++ List.replicate (4 - (lg_sl ([.ref (a 0), .int p0, .int p1])).length) Slot.unset).toArray = ls at hl ⊢
  have hl : lv_has ls 4 [(0, .ref (a 0)), (1, .int p0), (2, .int p1)] := hl
  refine lv_iload_n hx hb dX1_secret_0 rfl (lv_at hl 1 rfl) ?_
  refine cs_S (As := [.int p0]) (rest := []) ⟨hx, hb, hml, hown, hts⟩ (met_isParty l p0) (va_cwS 1 hts (lw_S q34 q35 q20 q36) rfl rfl rfl (by decide +kernel) ⟨Nat.le_of_ble_eq_true rfl, Nat.le_of_ble_eq_true rfl⟩) rfl hl.1 rfl (Nat.le_of_ble_eq_true rfl) dX1_secret_1 ⟨Nat.zero_le _, Nat.zero_le _⟩ (fun r hw => ?_)
  rcases hw with ⟨rfl, P, hP3, rfl⟩ | ⟨rfl, hbad⟩
  · refine lv_if_ne (tgt := 9) hx hb dX1_secret_4 (by decide) (fun _ => ?_) (fun c => absurd c (by decide))
    refine lv_iload_n hx hb dX1_secret_9 rfl (lv_at hl 2 rfl) ?_
    refine lv_sipush (v := nI 1018) hx hb dX1_secret_10 (by decide) ?_
    refine lv_irem hx hb dX1_secret_13 (by decide) ?_
    refine lv_topi (fun x ex => ?_)
    obtain ⟨hx1, hx2⟩ := sec_x p1
    rw [← ex] at hx1 hx2
    refine lv_istore_n (lv' := [(3, .int x), (0, .ref (a 0)), (1, .int (nI P)), (2, .int p1)]) hx hb dX1_secret_14 rfl hl (by decide) rfl (fun ls hl => ?_)
    refine lv_aload_n hx hb dX1_secret_15 rfl (lv_at hl 1 rfl) ?_
    refine xg_exs hx hb hts hown hK hP dX1_secret_16 ?_
    refine lv_iload_n hx hb dX1_secret_19 rfl (lv_at hl 2 rfl) ?_
    refine lv_iload_n hx hb dX1_secret_20 rfl (lv_at hl 0 rfl) ?_
    refine lv_if_ge (tgt := 32) hx hb dX1_secret_21 (by decide) (fun c1 => ?_) (fun c1 => ?_)
    · refine lv_iload_n hx hb dX1_secret_32 rfl (lv_at hl 0 rfl) ?_
      refine lv_iconst (v := nI 1) hx hb dX1_secret_33 (by decide) ?_
      refine lv_iadd hx hb dX1_secret_34 ?_
      obtain ⟨e0, h1, h2, h3⟩ := sec_pos hx2 c1
      refine xr_set (y := nI e0) h3 ?_
      refine xs_exs hx hb hK hP hD hS (j := P) (by omega) dX1_secret_35 (fun H locs hP hD hS => ?_)
      refine lv_aload_n hx hb dX1_secret_36 rfl (lv_at hl 1 rfl) ?_
      refine lv_aload_n hx hb dX1_secret_37 rfl (lv_at hl 1 rfl) ?_
      refine xg_rnd hx hb hts hown hK hP dX1_secret_38 ?_
      refine lv_bipush (v := nI 31) hx hb dX1_secret_41 (by decide) ?_
      refine lv_imul hx hb dX1_secret_43 ?_
      refine lv_iload_n hx hb dX1_secret_44 rfl (lv_at hl 3 rfl) ?_
      refine lv_iadd hx hb dX1_secret_45 ?_
      refine xp_rnd hx hb hts hown hK hP hD hS dX1_secret_46 (fun H locs hP hD hS => ?_)
      refine lv_iconst (v := nI 0) hx hb dX1_secret_49 (by decide) ?_
      exact W.iret (v := nI 0) hx hb hr (fun t_ ht_ hW_ => ⟨⟨_, (its, wts, szs, upd exs P (nI e0), snt, org, hit, (rnd * (nI 31)) + p1, lt), rfl, XPost.mk (S, w, lt) (onN_ok hP3 (by decide) _ _) (hi) (EI_upd he h1 h2) rfl, by rw [ht_]; exact hP, va_K.moved hW_.alike hK, hD⟩, hS.F ht_⟩) hS.2.2 dX1_secret_50
    · refine lv_iload_n hx hb dX1_secret_24 rfl (lv_at hl 0 rfl) ?_
      refine lv_sipush (v := nI 1019) hx hb dX1_secret_25 (by decide) ?_
      refine lv_iadd hx hb dX1_secret_28 ?_
      refine lv_goto (tgt := 35) hx hb dX1_secret_29 (by decide) ?_
      obtain ⟨e0, h1, h2, h3⟩ := sec_neg hx1 c1
      refine xr_set (y := nI e0) h3 ?_
      refine xs_exs hx hb hK hP hD hS (j := P) (by omega) dX1_secret_35 (fun H locs hP hD hS => ?_)
      refine lv_aload_n hx hb dX1_secret_36 rfl (lv_at hl 1 rfl) ?_
      refine lv_aload_n hx hb dX1_secret_37 rfl (lv_at hl 1 rfl) ?_
      refine xg_rnd hx hb hts hown hK hP dX1_secret_38 ?_
      refine lv_bipush (v := nI 31) hx hb dX1_secret_41 (by decide) ?_
      refine lv_imul hx hb dX1_secret_43 ?_
      refine lv_iload_n hx hb dX1_secret_44 rfl (lv_at hl 3 rfl) ?_
      refine lv_iadd hx hb dX1_secret_45 ?_
      refine xp_rnd hx hb hts hown hK hP hD hS dX1_secret_46 (fun H locs hP hD hS => ?_)
      refine lv_iconst (v := nI 0) hx hb dX1_secret_49 (by decide) ?_
      exact W.iret (v := nI 0) hx hb hr (fun t_ ht_ hW_ => ⟨⟨_, (its, wts, szs, upd exs P (nI e0), snt, org, hit, (rnd * (nI 31)) + p1, lt), rfl, XPost.mk (S, w, lt) (onN_ok hP3 (by decide) _ _) (hi) (EI_upd he h1 h2) rfl, by rw [ht_]; exact hP, va_K.moved hW_.alike hK, hD⟩, hS.F ht_⟩) hS.2.2 dX1_secret_50
  · refine lv_if_ne (tgt := 9) hx hb dX1_secret_4 (by decide) (fun c => absurd c (by decide)) (fun _ => ?_)
    refine lv_iconst (v := (-1)) hx hb dX1_secret_7 (by decide) ?_
    exact W.iret (v := (-1)) hx hb hr (fun t_ ht_ hW_ => ⟨⟨_, (its, wts, szs, exs, snt, org, hit, rnd, lt), rfl, XPost.mk (S, w, lt) (onN_bad (by decide) hbad _ _) (hi) he rfl, by rw [ht_]; exact hP, va_K.moved hW_.alike hK, hD⟩, hS.F ht_⟩) hS.2.2 dX1_secret_8
set_option maxHeartbeats 4000000 in
set_option maxRecDepth 100000 in
theorem met_holds (l : Launch) (sz : Nat) (D : va_G) (a : Nat → Nat) (d : Nat → ClassId) (its wts szs exs snt org hit : Nat → Int32) (rnd lt : Int32) (S : Nat → Nat → Bool) (w : Nat → Nat → Int32) (p0 : Int32) (p1 : Int32) (hi : XI S w its wts szs) (he : EI exs) : Met l yX1_holds (ws_ yX1_holds cX1_holds 3 (some .int)) ({ frames := 1, cells := 0, slots := 0, locals := 40 } : Room) (va_Pc [.ref (a 0), .int p0, .int p1] (fun U => U.heap.size = sz ∧ va_P D vwCl (wX a d its wts szs exs snt org hit rnd lt) U.heap ∧ va_K D vwCl (tyX d) U ∧ va_D (fun _ => True) (wX a d its wts szs exs snt org hit rnd lt))) (QXi D d (va_A (wX a d its wts szs exs snt org hit rnd lt) sz) (wXu a d) (XPost (F_holds (S, w, lt) p0 p1))) 0 0 (va_A (wX a d its wts szs exs snt org hit rnd lt) sz) := by
  refine Met.ofW (cc := cX1_holds) (maxL := 3) (ret := (some .int)) (by decide) rfl ?_
  intro p e s m args below meth c s₁ B hml hv
  obtain ⟨rfl, hsz, hP, hK, hD0⟩ := hv
  have hx := B.exec
  have hb := B.bytes
  have hr := B.returns
  have hlocks := B.notSynchronized
  have hts := atoms_spec (ws := ws_ yX1_holds cX1_holds 3 (some .int)) B.pre
  have hts : ∀ w ∈ lw_all, w.before _ s = true := fun w h => hts w (List.mem_cons_of_mem _ h)
  have hown : s.vm.findClass RX1 = some m.cls := findClass_of_methodNamed B.named
  subst hsz
  have hD := hD0.self (sz := s.heap.size)
  generalize hAe : va_A (wX a d its wts szs exs snt org hit rnd lt) s.heap.size = A at hD ⊢
  have hA : ∀ q : Nat, s.heap.size ≤ q → A q := fun q h => by rw [← hAe]; exact Or.inr h
  have hS : va_S A s.heap s.heap [] := va_S.rf
  have hl := lv_entry ([.ref (a 0), .int p0, .int p1]) (n := 3) (Nat.le_of_ble_eq_true rfl)
  rw [lg_entry_eq]
  generalize (lg_sl ([.ref (a 0), .int p0, .int p1]) ++ List.replicate (3 - (lg_sl ([.ref (a 0), .int p0, .int p1])).length) Slot.unset).toArray = ls at hl ⊢
  have hl : lv_has ls 3 [(0, .ref (a 0)), (1, .int p0), (2, .int p1)] := hl
  refine lv_iload_n hx hb dX1_holds_0 rfl (lv_at hl 1 rfl) ?_
  refine cs_S (As := [.int p0]) (rest := []) ⟨hx, hb, hml, hown, hts⟩ (met_isParty l p0) (va_cwS 1 hts (lw_S q34 q35 q20 q36) rfl rfl rfl (by decide +kernel) ⟨Nat.le_of_ble_eq_true rfl, Nat.le_of_ble_eq_true rfl⟩) rfl hl.1 rfl (Nat.le_of_ble_eq_true rfl) dX1_holds_1 ⟨Nat.zero_le _, Nat.zero_le _⟩ (fun r hw => ?_)
  rcases hw with ⟨rfl, P, hP3, rfl⟩ | ⟨rfl, hbad⟩
  · refine lv_if_ne (tgt := 9) hx hb dX1_holds_4 (by decide) (fun _ => ?_) (fun c => absurd c (by decide))
    refine lv_iload_n hx hb dX1_holds_9 rfl (lv_at hl 2 rfl) ?_
    refine cs_S (As := [.int p1]) (rest := []) ⟨hx, hb, hml, hown, hts⟩ (met_isItem l p1) (va_cwS 1 hts (lw_S q72 q73 q20 q74) rfl rfl rfl (by decide +kernel) ⟨Nat.le_of_ble_eq_true rfl, Nat.le_of_ble_eq_true rfl⟩) rfl hl.1 rfl (Nat.le_of_ble_eq_true rfl) dX1_holds_10 ⟨Nat.zero_le _, Nat.zero_le _⟩ (fun r hw => ?_)
    rcases hw with ⟨rfl, I, hI, rfl⟩ | ⟨rfl, hbad⟩
    · obtain ⟨hs, h16, hf⟩ := hi P hP3
      refine lv_if_ne (tgt := 19) hx hb dX1_holds_13 (by decide) (fun _ => ?_) (fun c => absurd c (by decide))
      refine lv_aload_n hx hb dX1_holds_19 rfl (lv_at hl 0 rfl) ?_
      refine lv_iload_n hx hb dX1_holds_20 rfl (lv_at hl 1 rfl) ?_
      refine lv_iload_n hx hb dX1_holds_21 rfl (lv_at hl 2 rfl) ?_
      refine cs_R (ci := 0) (As := [.int (nI P), .int (nI I)]) (rest := []) ⟨hx, hb, hml, hown, hts⟩ (met_find l D a d its wts szs exs snt org hit rnd lt S w P I hP3 hI hi) (cwV 2 hts (lw_V q75 q77 qs0 q20 q78) rfl rfl rfl (by decide +kernel) ⟨Nat.le_of_ble_eq_true rfl, Nat.le_of_ble_eq_true rfl⟩) hK hP rfl rfl rfl hl.1 rfl (Nat.le_of_ble_eq_true rfl) dX1_holds_22 ⟨Nat.zero_le _, Nat.zero_le _⟩ (fun r hw => ?_)
      have hct : fb_ct (S P) I ≤ fb_ct (S P) 64 := fb_ct_mono _ (by omega)
      cases hSI : S P I with
      | false =>
        rw [hSI] at hw
        replace hw : r = -1 := hw
        subst hw
        refine lv_if_ge (tgt := 32) hx hb dX1_holds_25 (by decide) (fun c => absurd c (by decide)) (fun _ => ?_)
        refine lv_iconst (v := nI 0) hx hb dX1_holds_28 (by decide) ?_
        refine lv_goto (tgt := 33) hx hb dX1_holds_29 (by decide) ?_
        exact W.iret (v := nI 0) hx hb hr (fun t_ ht_ hW_ => ⟨⟨_, (its, wts, szs, exs, snt, org, hit, rnd, lt), rfl, XPost.mk (S, w, lt) ((onN_ok hP3 (by decide) _ _).trans ((onN_ok hI (by decide) _ _).trans (by show (bI (S P I), _) = _; rw [hSI]; rfl))) (hi) he rfl, by rw [ht_]; exact hP, va_K.moved hW_.alike hK, hD⟩, hS.F ht_⟩) hS.2.2 dX1_holds_33
      | true =>
        rw [hSI] at hw
        replace hw : r = nI (16 * P + fb_ct (S P) I) := hw
        subst hw
        have hcl := ct_lt hSI hI
        refine lv_if_ge (tgt := 32) hx hb dX1_holds_25 (by decide) (fun _ => ?_) (fun c => absurd c (fun h => h (nI_pos' (by omega))))
        refine lv_iconst (v := nI 1) hx hb dX1_holds_32 (by decide) ?_
        exact W.iret (v := nI 1) hx hb hr (fun t_ ht_ hW_ => ⟨⟨_, (its, wts, szs, exs, snt, org, hit, rnd, lt), rfl, XPost.mk (S, w, lt) ((onN_ok hP3 (by decide) _ _).trans ((onN_ok hI (by decide) _ _).trans (by show (bI (S P I), _) = _; rw [hSI]; rfl))) (hi) he rfl, by rw [ht_]; exact hP, va_K.moved hW_.alike hK, hD⟩, hS.F ht_⟩) hS.2.2 dX1_holds_33
    · refine lv_if_ne (tgt := 19) hx hb dX1_holds_13 (by decide) (fun c => absurd c (by decide)) (fun _ => ?_)
      refine lv_bipush (v := (-2)) hx hb dX1_holds_16 (by decide) ?_
      exact W.iret (v := (-2)) hx hb hr (fun t_ ht_ hW_ => ⟨⟨_, (its, wts, szs, exs, snt, org, hit, rnd, lt), rfl, XPost.mk (S, w, lt) ((onN_ok hP3 (by decide) _ _).trans (onN_bad (by decide) hbad _ _)) (hi) he rfl, by rw [ht_]; exact hP, va_K.moved hW_.alike hK, hD⟩, hS.F ht_⟩) hS.2.2 dX1_holds_18
  · refine lv_if_ne (tgt := 9) hx hb dX1_holds_4 (by decide) (fun c => absurd c (by decide)) (fun _ => ?_)
    refine lv_iconst (v := (-1)) hx hb dX1_holds_7 (by decide) ?_
    exact W.iret (v := (-1)) hx hb hr (fun t_ ht_ hW_ => ⟨⟨_, (its, wts, szs, exs, snt, org, hit, rnd, lt), rfl, XPost.mk (S, w, lt) (onN_bad (by decide) hbad _ _) (hi) he rfl, by rw [ht_]; exact hP, va_K.moved hW_.alike hK, hD⟩, hS.F ht_⟩) hS.2.2 dX1_holds_8
set_option maxHeartbeats 4000000 in
set_option maxRecDepth 100000 in
theorem met_give (l : Launch) (sz : Nat) (D : va_G) (a : Nat → Nat) (d : Nat → ClassId) (its wts szs exs snt org hit : Nat → Int32) (rnd lt : Int32) (S : Nat → Nat → Bool) (w : Nat → Nat → Int32) (p0 : Int32) (p1 : Int32) (p2 : Int32) (hi : XI S w its wts szs) (he : EI exs) : Met l yX1_give (ws_ yX1_give cX1_give 5 (some .int)) ({ frames := 1, cells := 0, slots := 0, locals := 40 } : Room) (va_Pc [.ref (a 0), .int p0, .int p1, .int p2] (fun U => U.heap.size = sz ∧ va_P D vwCl (wX a d its wts szs exs snt org hit rnd lt) U.heap ∧ va_K D vwCl (tyX d) U ∧ va_D (fun _ => True) (wX a d its wts szs exs snt org hit rnd lt))) (QXi D d (va_A (wX a d its wts szs exs snt org hit rnd lt) sz) (wXu a d) (XPost (F_give (S, w, lt) p0 p1 p2))) 0 0 (va_A (wX a d its wts szs exs snt org hit rnd lt) sz) := by
  refine Met.ofW (cc := cX1_give) (maxL := 5) (ret := (some .int)) (by decide) rfl ?_
  intro p e s m args below meth c s₁ B hml hv
  obtain ⟨rfl, hsz, hP, hK, hD0⟩ := hv
  have hx := B.exec
  have hb := B.bytes
  have hr := B.returns
  have hlocks := B.notSynchronized
  have hts := atoms_spec (ws := ws_ yX1_give cX1_give 5 (some .int)) B.pre
  have hts : ∀ w ∈ lw_all, w.before _ s = true := fun w h => hts w (List.mem_cons_of_mem _ h)
  have hown : s.vm.findClass RX1 = some m.cls := findClass_of_methodNamed B.named
  subst hsz
  have hD := hD0.self (sz := s.heap.size)
  generalize hAe : va_A (wX a d its wts szs exs snt org hit rnd lt) s.heap.size = A at hD ⊢
  have hA : ∀ q : Nat, s.heap.size ≤ q → A q := fun q h => by rw [← hAe]; exact Or.inr h
  have hS : va_S A s.heap s.heap [] := va_S.rf
  have hl := lv_entry ([.ref (a 0), .int p0, .int p1, .int p2]) (n := 5) (Nat.le_of_ble_eq_true rfl)
  rw [lg_entry_eq]
  generalize (lg_sl ([.ref (a 0), .int p0, .int p1, .int p2]) ++ List.replicate (5 - (lg_sl ([.ref (a 0), .int p0, .int p1, .int p2])).length) Slot.unset).toArray = ls at hl ⊢
  have hl : lv_has ls 5 [(0, .ref (a 0)), (1, .int p0), (2, .int p1), (3, .int p2)] := hl
  refine lv_iload_n hx hb dX1_give_0 rfl (lv_at hl 1 rfl) ?_
  refine cs_S (As := [.int p0]) (rest := []) ⟨hx, hb, hml, hown, hts⟩ (met_isParty l p0) (va_cwS 1 hts (lw_S q34 q35 q20 q36) rfl rfl rfl (by decide +kernel) ⟨Nat.le_of_ble_eq_true rfl, Nat.le_of_ble_eq_true rfl⟩) rfl hl.1 rfl (Nat.le_of_ble_eq_true rfl) dX1_give_1 ⟨Nat.zero_le _, Nat.zero_le _⟩ (fun r hw => ?_)
  rcases hw with ⟨rfl, P, hP3, rfl⟩ | ⟨rfl, hbad⟩
  · refine lv_if_ne (tgt := 9) hx hb dX1_give_4 (by decide) (fun _ => ?_) (fun c => absurd c (by decide))
    refine lv_iload_n hx hb dX1_give_9 rfl (lv_at hl 2 rfl) ?_
    refine cs_S (As := [.int p1]) (rest := []) ⟨hx, hb, hml, hown, hts⟩ (met_isItem l p1) (va_cwS 1 hts (lw_S q72 q73 q20 q74) rfl rfl rfl (by decide +kernel) ⟨Nat.le_of_ble_eq_true rfl, Nat.le_of_ble_eq_true rfl⟩) rfl hl.1 rfl (Nat.le_of_ble_eq_true rfl) dX1_give_10 ⟨Nat.zero_le _, Nat.zero_le _⟩ (fun r hw => ?_)
    rcases hw with ⟨rfl, I, hI, rfl⟩ | ⟨rfl, hbad⟩
    · obtain ⟨hs, h16, hf⟩ := hi P hP3
      refine lv_if_ne (tgt := 19) hx hb dX1_give_13 (by decide) (fun _ => ?_) (fun c => absurd c (by decide))
      refine lv_aload_n hx hb dX1_give_19 rfl (lv_at hl 0 rfl) ?_
      refine lv_iload_n hx hb dX1_give_20 rfl (lv_at hl 1 rfl) ?_
      refine lv_iload_n hx hb dX1_give_21 rfl (lv_at hl 2 rfl) ?_
      refine cs_R (ci := 0) (As := [.int (nI P), .int (nI I)]) (rest := []) ⟨hx, hb, hml, hown, hts⟩ (met_find l D a d its wts szs exs snt org hit rnd lt S w P I hP3 hI hi) (cwV 2 hts (lw_V q75 q77 qs0 q20 q78) rfl rfl rfl (by decide +kernel) ⟨Nat.le_of_ble_eq_true rfl, Nat.le_of_ble_eq_true rfl⟩) hK hP rfl rfl rfl hl.1 rfl (Nat.le_of_ble_eq_true rfl) dX1_give_22 ⟨Nat.zero_le _, Nat.zero_le _⟩ (fun r hw => ?_)
      have hct : fb_ct (S P) I ≤ fb_ct (S P) 64 := fb_ct_mono _ (by omega)
      cases hSI : S P I with
      | false =>
        rw [hSI] at hw
        replace hw : r = -1 := hw
        subst hw
        refine lv_istore (lv' := [(4, .int (-1)), (0, .ref (a 0)), (1, .int (nI P)), (2, .int (nI I)), (3, .int p2)]) hx hb dX1_give_25 hl (by decide) rfl (fun ls hl => ?_)
        refine lv_iload hx hb dX1_give_27 (lv_at hl 0 rfl) ?_
        refine lv_if_ge (tgt := 54) hx hb dX1_give_29 (by decide) (fun c => absurd c (by decide)) (fun _ => ?_)
        refine lv_aload_n hx hb dX1_give_32 rfl (lv_at hl 1 rfl) ?_
        refine xg_szs hx hb hts hown hK hP dX1_give_33 ?_
        refine lv_iload_n hx hb dX1_give_36 rfl (lv_at hl 2 rfl) ?_
        refine xl_szs hx hb hK hP (j := P) (by omega) dX1_give_37 ?_
        refine xr_set (y := nI (fb_ct (S P) 64)) hs ?_
        refine lv_bipush (v := nI 16) hx hb dX1_give_38 (by decide) ?_
        refine xb_ne (tgt := 46) hx hb dX1_give_40 (by decide) (by omega) (by omega) (fun c1 => ?_) (fun c1 => ?_)
        · refine lv_aload_n hx hb dX1_give_46 rfl (lv_at hl 1 rfl) ?_
          refine lv_iload_n hx hb dX1_give_47 rfl (lv_at hl 2 rfl) ?_
          refine lv_iload_n hx hb dX1_give_48 rfl (lv_at hl 3 rfl) ?_
          refine cs_Wi (ci := 0) (As := [.int (nI P), .int (nI I)]) (rest := []) ⟨hx, hb, hml, hown, hts⟩ (met_insert l s.heap.size D a d its wts szs exs snt org hit rnd lt S w P I hP3 hI hi hSI (by omega)) (cwV 2 hts (lw_V q79 q81 qs1 q20 q82) rfl rfl rfl (by decide +kernel) ⟨Nat.le_of_ble_eq_true rfl, Nat.le_of_ble_eq_true rfl⟩) hK hP hD hS hA rfl rfl rfl hl.1 rfl (Nat.le_of_ble_eq_true rfl) dX1_give_49 ⟨Nat.zero_le _, Nat.zero_le _⟩ (fun r u H locs hw hP hD hS _ => ?_)
          obtain ⟨f, g, h⟩ := u
          obtain ⟨rfl, rfl, rfl, rfl⟩ := hw
          refine lv_istore (lv' := [(4, .int (nI (16 * P + fb_ct (S P) I))), (0, .ref (a 0)), (1, .int (nI P)), (2, .int (nI I)), (3, .int p2)]) hx hb dX1_give_52 hl (by decide) rfl (fun ls hl => ?_)
          refine lv_aload_n hx hb dX1_give_54 rfl (lv_at hl 1 rfl) ?_
          refine xg_wts hx hb hts hown hK hP dX1_give_55 ?_
          refine lv_iload hx hb dX1_give_58 (lv_at hl 0 rfl) ?_
          refine lv_iload_n hx hb dX1_give_60 rfl (lv_at hl 4 rfl) ?_
          refine xs_wts hx hb hK hP hD hS (j := (16 * P + fb_ct (S P) I)) (by omega) dX1_give_61 (fun H locs hP hD hS => ?_)
          refine lv_aload_n hx hb dX1_give_62 rfl (lv_at hl 1 rfl) ?_
          refine xg_szs hx hb hts hown hK hP dX1_give_63 ?_
          refine lv_iload_n hx hb dX1_give_66 rfl (lv_at hl 2 rfl) ?_
          refine xl_szs hx hb hK hP (j := P) (by omega) dX1_give_67 ?_
          refine xr_set (y := nI (fb_ct (S P) 64 + 1)) (upd_at _ _ _) ?_
          exact W.iret (v := nI (fb_ct (S P) 64 + 1)) hx hb hr (fun t_ ht_ hW_ => ⟨⟨_, (upd (shf its (16 * P) (fb_ct (S P) I) (fb_ct (S P) 64)) (16 * P + fb_ct (S P) I) (nI I), upd (shf wts (16 * P) (fb_ct (S P) I) (fb_ct (S P) 64)) (16 * P + fb_ct (S P) I) p2, upd szs P (nI (fb_ct (S P) 64 + 1)), exs, snt, org, hit, rnd, lt), rfl, XPost.mk (sS S P I true, sW w P I p2, lt) ((onN_ok hP3 (by decide) _ _).trans ((onN_ok hI (by decide) _ _).trans ((if_neg (fun q => c1 q.1)).trans (by rw [sS_at, s1_on hSI hI])))) (XI_ins p2 hi hP3 hI hSI (by omega)) he rfl, by rw [ht_]; exact hP, va_K.moved hW_.alike hK, hD⟩, hS.F ht_⟩) hS.2.2 dX1_give_68
        · refine lv_bipush (v := (-3)) hx hb dX1_give_43 (by decide) ?_
          exact W.iret (v := (-3)) hx hb hr (fun t_ ht_ hW_ => ⟨⟨_, (its, wts, szs, exs, snt, org, hit, rnd, lt), rfl, XPost.mk (S, w, lt) ((onN_ok hP3 (by decide) _ _).trans ((onN_ok hI (by decide) _ _).trans (if_pos ⟨c1, hSI⟩))) (hi) he rfl, by rw [ht_]; exact hP, va_K.moved hW_.alike hK, hD⟩, hS.F ht_⟩) hS.2.2 dX1_give_45
      | true =>
        rw [hSI] at hw
        replace hw : r = nI (16 * P + fb_ct (S P) I) := hw
        subst hw
        have hcl := ct_lt hSI hI
        refine lv_istore (lv' := [(4, .int (nI (16 * P + fb_ct (S P) I))), (0, .ref (a 0)), (1, .int (nI P)), (2, .int (nI I)), (3, .int p2)]) hx hb dX1_give_25 hl (by decide) rfl (fun ls hl => ?_)
        refine lv_iload hx hb dX1_give_27 (lv_at hl 0 rfl) ?_
        refine lv_if_ge (tgt := 54) hx hb dX1_give_29 (by decide) (fun _ => ?_) (fun c => absurd c (fun h => h (nI_pos' (by omega))))
        refine lv_aload_n hx hb dX1_give_54 rfl (lv_at hl 1 rfl) ?_
        refine xg_wts hx hb hts hown hK hP dX1_give_55 ?_
        refine lv_iload hx hb dX1_give_58 (lv_at hl 0 rfl) ?_
        refine lv_iload_n hx hb dX1_give_60 rfl (lv_at hl 4 rfl) ?_
        refine xs_wts hx hb hK hP hD hS (j := (16 * P + fb_ct (S P) I)) (by omega) dX1_give_61 (fun H locs hP hD hS => ?_)
        refine lv_aload_n hx hb dX1_give_62 rfl (lv_at hl 1 rfl) ?_
        refine xg_szs hx hb hts hown hK hP dX1_give_63 ?_
        refine lv_iload_n hx hb dX1_give_66 rfl (lv_at hl 2 rfl) ?_
        refine xl_szs hx hb hK hP (j := P) (by omega) dX1_give_67 ?_
        refine xr_set (y := nI (fb_ct (S P) 64)) hs ?_
        exact W.iret (v := nI (fb_ct (S P) 64)) hx hb hr (fun t_ ht_ hW_ => ⟨⟨_, (its, upd wts (16 * P + fb_ct (S P) I) p2, szs, exs, snt, org, hit, rnd, lt), rfl, XPost.mk (sS S P I true, sW w P I p2, lt) ((onN_ok hP3 (by decide) _ _).trans ((onN_ok hI (by decide) _ _).trans ((if_neg (fun q => by have q2 : S P I = false := q.2; rw [hSI] at q2; cases q2)).trans (by rw [sS_at, s1_same hSI])))) (XI_set p2 hi hP3 hI hSI) he rfl, by rw [ht_]; exact hP, va_K.moved hW_.alike hK, hD⟩, hS.F ht_⟩) hS.2.2 dX1_give_68
    · refine lv_if_ne (tgt := 19) hx hb dX1_give_13 (by decide) (fun c => absurd c (by decide)) (fun _ => ?_)
      refine lv_bipush (v := (-2)) hx hb dX1_give_16 (by decide) ?_
      exact W.iret (v := (-2)) hx hb hr (fun t_ ht_ hW_ => ⟨⟨_, (its, wts, szs, exs, snt, org, hit, rnd, lt), rfl, XPost.mk (S, w, lt) ((onN_ok hP3 (by decide) _ _).trans (onN_bad (by decide) hbad _ _)) (hi) he rfl, by rw [ht_]; exact hP, va_K.moved hW_.alike hK, hD⟩, hS.F ht_⟩) hS.2.2 dX1_give_18
  · refine lv_if_ne (tgt := 9) hx hb dX1_give_4 (by decide) (fun c => absurd c (by decide)) (fun _ => ?_)
    refine lv_iconst (v := (-1)) hx hb dX1_give_7 (by decide) ?_
    exact W.iret (v := (-1)) hx hb hr (fun t_ ht_ hW_ => ⟨⟨_, (its, wts, szs, exs, snt, org, hit, rnd, lt), rfl, XPost.mk (S, w, lt) (onN_bad (by decide) hbad _ _) (hi) he rfl, by rw [ht_]; exact hP, va_K.moved hW_.alike hK, hD⟩, hS.F ht_⟩) hS.2.2 dX1_give_8
set_option maxHeartbeats 4000000 in
set_option maxRecDepth 100000 in
theorem met_take (l : Launch) (sz : Nat) (D : va_G) (a : Nat → Nat) (d : Nat → ClassId) (its wts szs exs snt org hit : Nat → Int32) (rnd lt : Int32) (S : Nat → Nat → Bool) (w : Nat → Nat → Int32) (p0 : Int32) (p1 : Int32) (hi : XI S w its wts szs) (he : EI exs) : Met l yX1_take (ws_ yX1_take cX1_take 6 (some .int)) ({ frames := 1, cells := 0, slots := 0, locals := 40 } : Room) (va_Pc [.ref (a 0), .int p0, .int p1] (fun U => U.heap.size = sz ∧ va_P D vwCl (wX a d its wts szs exs snt org hit rnd lt) U.heap ∧ va_K D vwCl (tyX d) U ∧ va_D (fun _ => True) (wX a d its wts szs exs snt org hit rnd lt))) (QXi D d (va_A (wX a d its wts szs exs snt org hit rnd lt) sz) (wXu a d) (XPost (F_take (S, w, lt) p0 p1))) 0 0 (va_A (wX a d its wts szs exs snt org hit rnd lt) sz) := by
  refine Met.ofW (cc := cX1_take) (maxL := 6) (ret := (some .int)) (by decide) rfl ?_
  intro p e s m args below meth c s₁ B hml hv
  obtain ⟨rfl, hsz, hP, hK, hD0⟩ := hv
  have hx := B.exec
  have hb := B.bytes
  have hr := B.returns
  have hlocks := B.notSynchronized
  have hts := atoms_spec (ws := ws_ yX1_take cX1_take 6 (some .int)) B.pre
  have hts : ∀ w ∈ lw_all, w.before _ s = true := fun w h => hts w (List.mem_cons_of_mem _ h)
  have hown : s.vm.findClass RX1 = some m.cls := findClass_of_methodNamed B.named
  subst hsz
  have hD := hD0.self (sz := s.heap.size)
  generalize hAe : va_A (wX a d its wts szs exs snt org hit rnd lt) s.heap.size = A at hD ⊢
  have hA : ∀ q : Nat, s.heap.size ≤ q → A q := fun q h => by rw [← hAe]; exact Or.inr h
  have hS : va_S A s.heap s.heap [] := va_S.rf
  have hl := lv_entry ([.ref (a 0), .int p0, .int p1]) (n := 6) (Nat.le_of_ble_eq_true rfl)
  rw [lg_entry_eq]
  generalize (lg_sl ([.ref (a 0), .int p0, .int p1]) ++ List.replicate (6 - (lg_sl ([.ref (a 0), .int p0, .int p1])).length) Slot.unset).toArray = ls at hl ⊢
  have hl : lv_has ls 6 [(0, .ref (a 0)), (1, .int p0), (2, .int p1)] := hl
  refine lv_iload_n hx hb dX1_take_0 rfl (lv_at hl 1 rfl) ?_
  refine cs_S (As := [.int p0]) (rest := []) ⟨hx, hb, hml, hown, hts⟩ (met_isParty l p0) (va_cwS 1 hts (lw_S q34 q35 q20 q36) rfl rfl rfl (by decide +kernel) ⟨Nat.le_of_ble_eq_true rfl, Nat.le_of_ble_eq_true rfl⟩) rfl hl.1 rfl (Nat.le_of_ble_eq_true rfl) dX1_take_1 ⟨Nat.zero_le _, Nat.zero_le _⟩ (fun r hw => ?_)
  rcases hw with ⟨rfl, P, hP3, rfl⟩ | ⟨rfl, hbad⟩
  · refine lv_if_ne (tgt := 9) hx hb dX1_take_4 (by decide) (fun _ => ?_) (fun c => absurd c (by decide))
    refine lv_iload_n hx hb dX1_take_9 rfl (lv_at hl 2 rfl) ?_
    refine cs_S (As := [.int p1]) (rest := []) ⟨hx, hb, hml, hown, hts⟩ (met_isItem l p1) (va_cwS 1 hts (lw_S q72 q73 q20 q74) rfl rfl rfl (by decide +kernel) ⟨Nat.le_of_ble_eq_true rfl, Nat.le_of_ble_eq_true rfl⟩) rfl hl.1 rfl (Nat.le_of_ble_eq_true rfl) dX1_take_10 ⟨Nat.zero_le _, Nat.zero_le _⟩ (fun r hw => ?_)
    rcases hw with ⟨rfl, I, hI, rfl⟩ | ⟨rfl, hbad⟩
    · obtain ⟨hs, h16, hf⟩ := hi P hP3
      refine lv_if_ne (tgt := 19) hx hb dX1_take_13 (by decide) (fun _ => ?_) (fun c => absurd c (by decide))
      refine lv_aload_n hx hb dX1_take_19 rfl (lv_at hl 0 rfl) ?_
      refine lv_iload_n hx hb dX1_take_20 rfl (lv_at hl 1 rfl) ?_
      refine lv_iload_n hx hb dX1_take_21 rfl (lv_at hl 2 rfl) ?_
      refine cs_R (ci := 0) (As := [.int (nI P), .int (nI I)]) (rest := []) ⟨hx, hb, hml, hown, hts⟩ (met_find l D a d its wts szs exs snt org hit rnd lt S w P I hP3 hI hi) (cwV 2 hts (lw_V q75 q77 qs0 q20 q78) rfl rfl rfl (by decide +kernel) ⟨Nat.le_of_ble_eq_true rfl, Nat.le_of_ble_eq_true rfl⟩) hK hP rfl rfl rfl hl.1 rfl (Nat.le_of_ble_eq_true rfl) dX1_take_22 ⟨Nat.zero_le _, Nat.zero_le _⟩ (fun r hw => ?_)
      have hct : fb_ct (S P) I ≤ fb_ct (S P) 64 := fb_ct_mono _ (by omega)
      cases hSI : S P I with
      | false =>
        rw [hSI] at hw
        replace hw : r = -1 := hw
        subst hw
        refine lv_istore_n (lv' := [(3, .int (-1)), (0, .ref (a 0)), (1, .int (nI P)), (2, .int (nI I))]) hx hb dX1_take_25 rfl hl (by decide) rfl (fun ls hl => ?_)
        refine lv_iload_n hx hb dX1_take_26 rfl (lv_at hl 0 rfl) ?_
        refine lv_if_ge (tgt := 33) hx hb dX1_take_27 (by decide) (fun c => absurd c (by decide)) (fun _ => ?_)
        refine lv_bipush (v := (-3)) hx hb dX1_take_30 (by decide) ?_
        exact W.iret (v := (-3)) hx hb hr (fun t_ ht_ hW_ => ⟨⟨_, (its, wts, szs, exs, snt, org, hit, rnd, lt), rfl, XPost.mk (S, w, lt) ((onN_ok hP3 (by decide) _ _).trans ((onN_ok hI (by decide) _ _).trans (if_neg (by show ¬ S P I = true; rw [hSI]; decide)))) (hi) he rfl, by rw [ht_]; exact hP, va_K.moved hW_.alike hK, hD⟩, hS.F ht_⟩) hS.2.2 dX1_take_32
      | true =>
        rw [hSI] at hw
        replace hw : r = nI (16 * P + fb_ct (S P) I) := hw
        subst hw
        have hcl := ct_lt hSI hI
        refine lv_istore_n (lv' := [(3, .int (nI (16 * P + fb_ct (S P) I))), (0, .ref (a 0)), (1, .int (nI P)), (2, .int (nI I))]) hx hb dX1_take_25 rfl hl (by decide) rfl (fun ls hl => ?_)
        refine lv_iload_n hx hb dX1_take_26 rfl (lv_at hl 0 rfl) ?_
        refine lv_if_ge (tgt := 33) hx hb dX1_take_27 (by decide) (fun _ => ?_) (fun c => absurd c (fun h => h (nI_pos' (by omega))))
        refine lv_bipush (v := nI 16) hx hb dX1_take_33 (by decide) ?_
        refine lv_iload_n hx hb dX1_take_35 rfl (lv_at hl 2 rfl) ?_
        refine lv_imul hx hb dX1_take_36 ?_
        refine xr_set (y := nI (16 * P)) (pk_mul _ _) ?_
        refine lv_aload_n hx hb dX1_take_37 rfl (lv_at hl 1 rfl) ?_
        refine xg_szs hx hb hts hown hK hP dX1_take_38 ?_
        refine lv_iload_n hx hb dX1_take_41 rfl (lv_at hl 2 rfl) ?_
        refine xl_szs hx hb hK hP (j := P) (by omega) dX1_take_42 ?_
        refine xr_set (y := nI (fb_ct (S P) 64)) hs ?_
        refine lv_iadd hx hb dX1_take_43 ?_
        refine xr_set (y := nI ((16 * P) + (fb_ct (S P) 64))) (nI_add _ _) ?_
        refine lv_istore (lv' := [(4, .int (nI ((16 * P) + (fb_ct (S P) 64)))), (3, .int (nI (16 * P + fb_ct (S P) I))), (0, .ref (a 0)), (1, .int (nI P)), (2, .int (nI I))]) hx hb dX1_take_44 hl (by decide) rfl (fun ls hl => ?_)
        refine lv_iload_n hx hb dX1_take_46 rfl (lv_at hl 1 rfl) ?_
        refine lv_iconst (v := nI 1) hx hb dX1_take_47 (by decide) ?_
        refine lv_iadd hx hb dX1_take_48 ?_
        refine xr_set (y := nI ((16 * P + fb_ct (S P) I) + 1)) (nI_add _ _) ?_
        refine lv_istore (lv' := [(5, .int (nI ((16 * P + fb_ct (S P) I) + 1))), (4, .int (nI ((16 * P) + (fb_ct (S P) 64)))), (3, .int (nI (16 * P + fb_ct (S P) I))), (0, .ref (a 0)), (1, .int (nI P)), (2, .int (nI I))]) hx hb dX1_take_49 hl (by decide) rfl (fun ls hl => ?_)
        have loop : ∀ (q : Nat) (j : Nat) (f g : Nat → Int32), 16 * P + fb_ct (S P) 64 < j + q → (j ≤ 16 * P + fb_ct (S P) 64) → (16 * P + fb_ct (S P) I < j) → (f = dlf its (16 * P + fb_ct (S P) I) j) → (g = dlf wts (16 * P + fb_ct (S P) I) j) → ∀ (H : Heap) (locs : List Loc), va_P D vwCl (wX a d f g szs exs snt org hit rnd lt) H → va_D A (wX a d f g szs exs snt org hit rnd lt) → va_S A s.heap H locs → ∀ (ls : Array Slot), lv_has ls 6 [(5, .int (nI j)), (4, .int (nI (16 * P + fb_ct (S P) 64))), (3, .int (nI (16 * P + fb_ct (S P) I))), (0, .ref (a 0)), (1, .int (nI P)), (2, .int (nI I))] → W p l e (headSpec (ws_ yX1_take cX1_take 6 (some .int)) ({ frames := 1, cells := 0, slots := 0, locals := 40 } : Room)).room s m ([.ref (a 0), .int (nI P), .int (nI I)] : List Value).toArray below meth c H locs 0 0 (MQ below (QXi D d A (wXu a d) (XPost (F_take (S, w, lt) (nI P) (nI I)))) ([.ref (a 0), .int (nI P), .int (nI I)] : List Value).toArray s 0 0 A) (F0 m 51 ls []) := by
          intro q
          induction q with
          | zero =>
            intro j f g hq hj1 hj2 ef eg
            exact absurd hq (by omega)
          | succ q ih =>
            intro j f g hq hj1 hj2 ef eg H locs hP hD hS ls hl
            refine lv_iload hx hb dX1_take_51 (lv_at hl 0 rfl) ?_
            refine lv_iload hx hb dX1_take_53 (lv_at hl 1 rfl) ?_
            refine xb_ge (tgt := 96) hx hb dX1_take_55 (by decide) (by omega) (by omega) (fun c1 => ?_) (fun c1 => ?_)
            · have ej : j = 16 * P + fb_ct (S P) 64 := by omega
              rw [ej] at ef eg
              refine lv_aload_n hx hb dX1_take_96 rfl (lv_at hl 3 rfl) ?_
              refine xg_szs hx hb hts hown hK hP dX1_take_97 ?_
              refine lv_iload_n hx hb dX1_take_100 rfl (lv_at hl 4 rfl) ?_
              refine lv_dup2_11 hx hb dX1_take_101 rfl rfl ?_
              refine xl_szs hx hb hK hP (j := P) (by omega) dX1_take_102 ?_
              refine xr_set (y := nI (fb_ct (S P) 64)) hs ?_
              refine lv_iconst (v := nI 1) hx hb dX1_take_103 (by decide) ?_
              refine lv_isub hx hb dX1_take_104 ?_
              refine xr_set (y := nI ((fb_ct (S P) 64) - 1)) (pk_sub (by omega)) ?_
              refine xs_szs hx hb hK hP hD hS (j := P) (by omega) dX1_take_105 (fun H locs hP hD hS => ?_)
              refine lv_aload_n hx hb dX1_take_106 rfl (lv_at hl 3 rfl) ?_
              refine xg_szs hx hb hts hown hK hP dX1_take_107 ?_
              refine lv_iload_n hx hb dX1_take_110 rfl (lv_at hl 4 rfl) ?_
              refine xl_szs hx hb hK hP (j := P) (by omega) dX1_take_111 ?_
              refine xr_set (y := nI (fb_ct (S P) 64 - 1)) (upd_at _ _ _) ?_
              exact W.iret (v := nI (fb_ct (S P) 64 - 1)) hx hb hr (fun t_ ht_ hW_ => ⟨⟨_, (f, g, upd szs P (nI ((fb_ct (S P) 64) - 1)), exs, snt, org, hit, rnd, lt), rfl, XPost.mk (sS S P I false, w, lt) ((onN_ok hP3 (by decide) _ _).trans ((onN_ok hI (by decide) _ _).trans ((if_pos hSI).trans (by rw [sS_at, show fb_ct (S P) 64 - 1 = fb_ct (s1 (S P) I false) 64 by have := s1_off hSI hI; omega])))) (by rw [ef, eg]; exact XI_del hi hP3 hI hSI) he rfl, by rw [ht_]; exact hP, va_K.moved hW_.alike hK, hD⟩, hS.F ht_⟩) hS.2.2 dX1_take_112
            · refine lv_aload_n hx hb dX1_take_58 rfl (lv_at hl 3 rfl) ?_
              refine xg_its hx hb hts hown hK hP dX1_take_59 ?_
              refine lv_iload hx hb dX1_take_62 (lv_at hl 0 rfl) ?_
              refine lv_iconst (v := nI 1) hx hb dX1_take_64 (by decide) ?_
              refine lv_isub hx hb dX1_take_65 ?_
              refine xr_set (y := nI (j - 1)) (pk_sub (by omega)) ?_
              refine lv_aload_n hx hb dX1_take_66 rfl (lv_at hl 3 rfl) ?_
              refine xg_its hx hb hts hown hK hP dX1_take_67 ?_
              refine lv_iload hx hb dX1_take_70 (lv_at hl 0 rfl) ?_
              refine xl_its hx hb hK hP (j := j) (by omega) dX1_take_72 ?_
              refine xs_its hx hb hK hP hD hS (j := (j - 1)) (by omega) dX1_take_73 (fun H locs hP hD hS => ?_)
              refine lv_aload_n hx hb dX1_take_74 rfl (lv_at hl 3 rfl) ?_
              refine xg_wts hx hb hts hown hK hP dX1_take_75 ?_
              refine lv_iload hx hb dX1_take_78 (lv_at hl 0 rfl) ?_
              refine lv_iconst (v := nI 1) hx hb dX1_take_80 (by decide) ?_
              refine lv_isub hx hb dX1_take_81 ?_
              refine xr_set (y := nI (j - 1)) (pk_sub (by omega)) ?_
              refine lv_aload_n hx hb dX1_take_82 rfl (lv_at hl 3 rfl) ?_
              refine xg_wts hx hb hts hown hK hP dX1_take_83 ?_
              refine lv_iload hx hb dX1_take_86 (lv_at hl 0 rfl) ?_
              refine xl_wts hx hb hK hP (j := j) (by omega) dX1_take_88 ?_
              refine xs_wts hx hb hK hP hD hS (j := (j - 1)) (by omega) dX1_take_89 (fun H locs hP hD hS => ?_)
              refine lv_iinc (v := nI (j + 1)) (lv' := [(5, .int (nI (j + 1))), (4, .int (nI (16 * P + fb_ct (S P) 64))), (3, .int (nI (16 * P + fb_ct (S P) I))), (0, .ref (a 0)), (1, .int (nI P)), (2, .int (nI I))]) hx hb dX1_take_90 hl (k := 0) rfl (nI_1 _) (by decide) rfl (fun ls hl => ?_)
              refine lv_goto (tgt := 51) hx hb dX1_take_93 (by decide) ?_
              exact ih (j + 1) _ _ (by omega) (by omega) (by omega) (by rw [ef, dlf_hi (show j ≤ j + 1 by omega)]; exact dlf_step its (by omega)) (by rw [eg, dlf_hi (show j ≤ j + 1 by omega)]; exact dlf_step wts (by omega)) H locs hP hD hS ls (lv_sub hl [0, 1, 2, 3, 4, 5] rfl)
        exact loop (fb_ct (S P) 64) (16 * P + fb_ct (S P) I + 1) its wts (by omega) (by omega) (by omega) (dlf_0 _ _).symm (dlf_0 _ _).symm _ _ hP hD hS ls (lv_sub hl [0, 1, 2, 3, 4, 5] rfl)
    · refine lv_if_ne (tgt := 19) hx hb dX1_take_13 (by decide) (fun c => absurd c (by decide)) (fun _ => ?_)
      refine lv_bipush (v := (-2)) hx hb dX1_take_16 (by decide) ?_
      exact W.iret (v := (-2)) hx hb hr (fun t_ ht_ hW_ => ⟨⟨_, (its, wts, szs, exs, snt, org, hit, rnd, lt), rfl, XPost.mk (S, w, lt) ((onN_ok hP3 (by decide) _ _).trans (onN_bad (by decide) hbad _ _)) (hi) he rfl, by rw [ht_]; exact hP, va_K.moved hW_.alike hK, hD⟩, hS.F ht_⟩) hS.2.2 dX1_take_18
  · refine lv_if_ne (tgt := 9) hx hb dX1_take_4 (by decide) (fun c => absurd c (by decide)) (fun _ => ?_)
    refine lv_iconst (v := (-1)) hx hb dX1_take_7 (by decide) ?_
    exact W.iret (v := (-1)) hx hb hr (fun t_ ht_ hW_ => ⟨⟨_, (its, wts, szs, exs, snt, org, hit, rnd, lt), rfl, XPost.mk (S, w, lt) (onN_bad (by decide) hbad _ _) (hi) he rfl, by rw [ht_]; exact hP, va_K.moved hW_.alike hK, hD⟩, hS.F ht_⟩) hS.2.2 dX1_take_8
end
section
set_option maxHeartbeats 4000000 in
set_option maxRecDepth 100000 in
theorem met_common (l : Launch) (sz : Nat) (D : va_G) (a : Nat → Nat) (d : Nat → ClassId) (its wts szs exs snt org hit : Nat → Int32) (rnd lt : Int32) (S : Nat → Nat → Bool) (w : Nat → Nat → Int32) (p0 : Int32) (p1 : Int32) (hi : XI S w its wts szs) (he : EI exs) : Met l yX1_common (ws_ yX1_common cX1_common 3 (some .int)) ({ frames := 3, cells := 0, slots := 0, locals := 120 } : Room) (va_Pc [.ref (a 0), .int p0, .int p1] (fun U => U.heap.size = sz ∧ va_P D vwCl (wX a d its wts szs exs snt org hit rnd lt) U.heap ∧ va_K D vwCl (tyX d) U ∧ va_D (fun _ => True) (wX a d its wts szs exs snt org hit rnd lt))) (QXi D d (va_A (wX a d its wts szs exs snt org hit rnd lt) sz) (wXu a d) (XPost (F_common (S, w, lt) p0 p1))) 0 0 (va_A (wX a d its wts szs exs snt org hit rnd lt) sz) := by
  refine Met.ofW (cc := cX1_common) (maxL := 3) (ret := (some .int)) (by decide) rfl ?_
  intro p e s m args below meth c s₁ B hml hv
  obtain ⟨rfl, hsz, hP, hK, hD0⟩ := hv
  have hx := B.exec
  have hb := B.bytes
  have hr := B.returns
  have hlocks := B.notSynchronized
  have hts := atoms_spec (ws := ws_ yX1_common cX1_common 3 (some .int)) B.pre
  have hts : ∀ w ∈ lw_all, w.before _ s = true := fun w h => hts w (List.mem_cons_of_mem _ h)
  have hown : s.vm.findClass RX1 = some m.cls := findClass_of_methodNamed B.named
  subst hsz
  have hD := hD0.self (sz := s.heap.size)
  generalize hAe : va_A (wX a d its wts szs exs snt org hit rnd lt) s.heap.size = A at hD ⊢
  have hA : ∀ q : Nat, s.heap.size ≤ q → A q := fun q h => by rw [← hAe]; exact Or.inr h
  have hS : va_S A s.heap s.heap [] := va_S.rf
  have hl := lv_entry ([.ref (a 0), .int p0, .int p1]) (n := 3) (Nat.le_of_ble_eq_true rfl)
  rw [lg_entry_eq]
  generalize (lg_sl ([.ref (a 0), .int p0, .int p1]) ++ List.replicate (3 - (lg_sl ([.ref (a 0), .int p0, .int p1])).length) Slot.unset).toArray = ls at hl ⊢
  have hl : lv_has ls 3 [(0, .ref (a 0)), (1, .int p0), (2, .int p1)] := hl
  refine lv_iload_n hx hb dX1_common_0 rfl (lv_at hl 1 rfl) ?_
  refine cs_S (As := [.int p0]) (rest := []) ⟨hx, hb, hml, hown, hts⟩ (met_isParty l p0) (va_cwS 1 hts (lw_S q34 q35 q20 q36) rfl rfl rfl (by decide +kernel) ⟨Nat.le_of_ble_eq_true rfl, Nat.le_of_ble_eq_true rfl⟩) rfl hl.1 rfl (Nat.le_of_ble_eq_true rfl) dX1_common_1 ⟨Nat.zero_le _, Nat.zero_le _⟩ (fun r hw => ?_)
  rcases hw with ⟨rfl, P, hP3, rfl⟩ | ⟨rfl, hbad⟩
  · refine lv_if_eq (tgt := 14) hx hb dX1_common_4 (by decide) (fun c => absurd c (by decide)) (fun _ => ?_)
    refine lv_iload_n hx hb dX1_common_7 rfl (lv_at hl 2 rfl) ?_
    refine cs_S (As := [.int p1]) (rest := []) ⟨hx, hb, hml, hown, hts⟩ (met_isParty l p1) (va_cwS 1 hts (lw_S q34 q35 q20 q36) rfl rfl rfl (by decide +kernel) ⟨Nat.le_of_ble_eq_true rfl, Nat.le_of_ble_eq_true rfl⟩) rfl hl.1 rfl (Nat.le_of_ble_eq_true rfl) dX1_common_8 ⟨Nat.zero_le _, Nat.zero_le _⟩ (fun r hw => ?_)
    rcases hw with ⟨rfl, Q, hQ3, rfl⟩ | ⟨rfl, hbad⟩
    · obtain ⟨hs, h16, hf⟩ := hi P hP3
      refine lv_if_ne (tgt := 16) hx hb dX1_common_11 (by decide) (fun _ => ?_) (fun c => absurd c (by decide))
      refine lv_aload_n hx hb dX1_common_16 rfl (lv_at hl 0 rfl) ?_
      refine lv_iload_n hx hb dX1_common_17 rfl (lv_at hl 1 rfl) ?_
      refine lv_iload_n hx hb dX1_common_18 rfl (lv_at hl 2 rfl) ?_
      refine cs_Wv (ci := 0) (As := [.int (nI P), .int (nI Q)]) (rest := []) ⟨hx, hb, hml, hown, hts⟩ (met_compareTwo l s.heap.size D a d its wts szs exs snt org hit rnd lt S w P Q hP3 hQ3 hi he) (cwV 2 hts (lw_V q107 q109 qs2 q20 q110) rfl rfl rfl (by decide +kernel) ⟨Nat.le_of_ble_eq_true rfl, Nat.le_of_ble_eq_true rfl⟩) hK hP hD hS hA rfl rfl rfl hl.1 rfl (Nat.le_of_ble_eq_true rfl) dX1_common_19 ⟨Nat.zero_le _, Nat.zero_le _⟩ (fun u H locs hw hP hD hS _ => ?_)
      obtain ⟨f, g, h, z, y⟩ := u
      obtain ⟨hok, rfl⟩ := hw
      refine lv_aload_n hx hb dX1_common_22 rfl (lv_at hl 0 rfl) ?_
      refine lv_iload_n hx hb dX1_common_23 rfl (lv_at hl 1 rfl) ?_
      refine cs_R (ci := 0) (As := [.int (nI P)]) (rest := []) ⟨hx, hb, hml, hown, hts⟩ (met_hits l D a d its wts szs exs f g h z (trf S P Q lt) S w P hP3 hi) (cwV 1 hts (lw_V q131 q133 qs7 q20 q134) rfl rfl rfl (by decide +kernel) ⟨Nat.le_of_ble_eq_true rfl, Nat.le_of_ble_eq_true rfl⟩) hK hP rfl rfl rfl hl.1 rfl (Nat.le_of_ble_eq_true rfl) dX1_common_24 ⟨Nat.zero_le _, Nat.zero_le _⟩ (fun r hw => ?_)
      rw [hit_ct hok 64 (Nat.le_refl _)] at hw
      subst hw
      exact W.iret (v := nI (fb_ct (fun i => S P i && S Q i) 64)) hx hb hr (fun t_ ht_ hW_ => ⟨⟨_, (its, wts, szs, exs, f, g, h, z, trf S P Q lt), rfl, XPost.mk (S, w, trf S P Q lt) ((onN_ok hP3 (by decide) _ _).trans ((onN_ok hQ3 (by decide) _ _).trans (rfl))) (hi) he rfl, by rw [ht_]; exact hP, va_K.moved hW_.alike hK, hD⟩, hS.F ht_⟩) hS.2.2 dX1_common_27
    · refine lv_if_ne (tgt := 16) hx hb dX1_common_11 (by decide) (fun c => absurd c (by decide)) (fun _ => ?_)
      refine lv_iconst (v := (-1)) hx hb dX1_common_14 (by decide) ?_
      exact W.iret (v := (-1)) hx hb hr (fun t_ ht_ hW_ => ⟨⟨_, (its, wts, szs, exs, snt, org, hit, rnd, lt), rfl, XPost.mk (S, w, lt) ((onN_ok hP3 (by decide) _ _).trans (onN_bad (by decide) hbad _ _)) (hi) he rfl, by rw [ht_]; exact hP, va_K.moved hW_.alike hK, hD⟩, hS.F ht_⟩) hS.2.2 dX1_common_15
  · refine lv_if_eq (tgt := 14) hx hb dX1_common_4 (by decide) (fun _ => ?_) (fun c => absurd c (by decide))
    refine lv_iconst (v := (-1)) hx hb dX1_common_14 (by decide) ?_
    exact W.iret (v := (-1)) hx hb hr (fun t_ ht_ hW_ => ⟨⟨_, (its, wts, szs, exs, snt, org, hit, rnd, lt), rfl, XPost.mk (S, w, lt) (onN_bad (by decide) hbad _ _) (hi) he rfl, by rw [ht_]; exact hP, va_K.moved hW_.alike hK, hD⟩, hS.F ht_⟩) hS.2.2 dX1_common_15
set_option maxHeartbeats 4000000 in
set_option maxRecDepth 100000 in
theorem met_within (l : Launch) (sz : Nat) (D : va_G) (a : Nat → Nat) (d : Nat → ClassId) (its wts szs exs snt org hit : Nat → Int32) (rnd lt : Int32) (S : Nat → Nat → Bool) (w : Nat → Nat → Int32) (p0 : Int32) (p1 : Int32) (hi : XI S w its wts szs) (he : EI exs) : Met l yX1_within (ws_ yX1_within cX1_within 3 (some .int)) ({ frames := 3, cells := 0, slots := 0, locals := 120 } : Room) (va_Pc [.ref (a 0), .int p0, .int p1] (fun U => U.heap.size = sz ∧ va_P D vwCl (wX a d its wts szs exs snt org hit rnd lt) U.heap ∧ va_K D vwCl (tyX d) U ∧ va_D (fun _ => True) (wX a d its wts szs exs snt org hit rnd lt))) (QXi D d (va_A (wX a d its wts szs exs snt org hit rnd lt) sz) (wXu a d) (XPost (F_within (S, w, lt) p0 p1))) 0 0 (va_A (wX a d its wts szs exs snt org hit rnd lt) sz) := by
  refine Met.ofW (cc := cX1_within) (maxL := 3) (ret := (some .int)) (by decide) rfl ?_
  intro p e s m args below meth c s₁ B hml hv
  obtain ⟨rfl, hsz, hP, hK, hD0⟩ := hv
  have hx := B.exec
  have hb := B.bytes
  have hr := B.returns
  have hlocks := B.notSynchronized
  have hts := atoms_spec (ws := ws_ yX1_within cX1_within 3 (some .int)) B.pre
  have hts : ∀ w ∈ lw_all, w.before _ s = true := fun w h => hts w (List.mem_cons_of_mem _ h)
  have hown : s.vm.findClass RX1 = some m.cls := findClass_of_methodNamed B.named
  subst hsz
  have hD := hD0.self (sz := s.heap.size)
  generalize hAe : va_A (wX a d its wts szs exs snt org hit rnd lt) s.heap.size = A at hD ⊢
  have hA : ∀ q : Nat, s.heap.size ≤ q → A q := fun q h => by rw [← hAe]; exact Or.inr h
  have hS : va_S A s.heap s.heap [] := va_S.rf
  have hl := lv_entry ([.ref (a 0), .int p0, .int p1]) (n := 3) (Nat.le_of_ble_eq_true rfl)
  rw [lg_entry_eq]
  generalize (lg_sl ([.ref (a 0), .int p0, .int p1]) ++ List.replicate (3 - (lg_sl ([.ref (a 0), .int p0, .int p1])).length) Slot.unset).toArray = ls at hl ⊢
  have hl : lv_has ls 3 [(0, .ref (a 0)), (1, .int p0), (2, .int p1)] := hl
  refine lv_iload_n hx hb dX1_within_0 rfl (lv_at hl 1 rfl) ?_
  refine cs_S (As := [.int p0]) (rest := []) ⟨hx, hb, hml, hown, hts⟩ (met_isParty l p0) (va_cwS 1 hts (lw_S q34 q35 q20 q36) rfl rfl rfl (by decide +kernel) ⟨Nat.le_of_ble_eq_true rfl, Nat.le_of_ble_eq_true rfl⟩) rfl hl.1 rfl (Nat.le_of_ble_eq_true rfl) dX1_within_1 ⟨Nat.zero_le _, Nat.zero_le _⟩ (fun r hw => ?_)
  rcases hw with ⟨rfl, P, hP3, rfl⟩ | ⟨rfl, hbad⟩
  · refine lv_if_eq (tgt := 14) hx hb dX1_within_4 (by decide) (fun c => absurd c (by decide)) (fun _ => ?_)
    refine lv_iload_n hx hb dX1_within_7 rfl (lv_at hl 2 rfl) ?_
    refine cs_S (As := [.int p1]) (rest := []) ⟨hx, hb, hml, hown, hts⟩ (met_isParty l p1) (va_cwS 1 hts (lw_S q34 q35 q20 q36) rfl rfl rfl (by decide +kernel) ⟨Nat.le_of_ble_eq_true rfl, Nat.le_of_ble_eq_true rfl⟩) rfl hl.1 rfl (Nat.le_of_ble_eq_true rfl) dX1_within_8 ⟨Nat.zero_le _, Nat.zero_le _⟩ (fun r hw => ?_)
    rcases hw with ⟨rfl, Q, hQ3, rfl⟩ | ⟨rfl, hbad⟩
    · obtain ⟨hs, h16, hf⟩ := hi P hP3
      refine lv_if_ne (tgt := 16) hx hb dX1_within_11 (by decide) (fun _ => ?_) (fun c => absurd c (by decide))
      refine lv_aload_n hx hb dX1_within_16 rfl (lv_at hl 0 rfl) ?_
      refine lv_iload_n hx hb dX1_within_17 rfl (lv_at hl 1 rfl) ?_
      refine lv_iload_n hx hb dX1_within_18 rfl (lv_at hl 2 rfl) ?_
      refine cs_Wv (ci := 0) (As := [.int (nI P), .int (nI Q)]) (rest := []) ⟨hx, hb, hml, hown, hts⟩ (met_compareTwo l s.heap.size D a d its wts szs exs snt org hit rnd lt S w P Q hP3 hQ3 hi he) (cwV 2 hts (lw_V q107 q109 qs2 q20 q110) rfl rfl rfl (by decide +kernel) ⟨Nat.le_of_ble_eq_true rfl, Nat.le_of_ble_eq_true rfl⟩) hK hP hD hS hA rfl rfl rfl hl.1 rfl (Nat.le_of_ble_eq_true rfl) dX1_within_19 ⟨Nat.zero_le _, Nat.zero_le _⟩ (fun u H locs hw hP hD hS _ => ?_)
      obtain ⟨f, g, h, z, y⟩ := u
      obtain ⟨hok, rfl⟩ := hw
      refine lv_aload_n hx hb dX1_within_22 rfl (lv_at hl 0 rfl) ?_
      refine lv_iload_n hx hb dX1_within_23 rfl (lv_at hl 1 rfl) ?_
      refine cs_R (ci := 0) (As := [.int (nI P)]) (rest := []) ⟨hx, hb, hml, hown, hts⟩ (met_hits l D a d its wts szs exs f g h z (trf S P Q lt) S w P hP3 hi) (cwV 1 hts (lw_V q131 q133 qs7 q20 q134) rfl rfl rfl (by decide +kernel) ⟨Nat.le_of_ble_eq_true rfl, Nat.le_of_ble_eq_true rfl⟩) hK hP rfl rfl rfl hl.1 rfl (Nat.le_of_ble_eq_true rfl) dX1_within_24 ⟨Nat.zero_le _, Nat.zero_le _⟩ (fun r hw => ?_)
      rw [hit_ct hok 64 (Nat.le_refl _)] at hw
      subst hw
      have hle : fb_ct (fun i => S P i && S Q i) 64 ≤ 64 := fb_ct_le _ _
      refine lv_aload_n hx hb dX1_within_27 rfl (lv_at hl 0 rfl) ?_
      refine xg_szs hx hb hts hown hK hP dX1_within_28 ?_
      refine lv_iload_n hx hb dX1_within_31 rfl (lv_at hl 1 rfl) ?_
      refine xl_szs hx hb hK hP (j := P) (by omega) dX1_within_32 ?_
      refine xr_set (y := nI (fb_ct (S P) 64)) hs ?_
      refine xb_ne (tgt := 40) hx hb dX1_within_33 (by decide) (by omega) (by omega) (fun c1 => ?_) (fun c1 => ?_)
      · refine lv_iconst (v := nI 0) hx hb dX1_within_40 (by decide) ?_
        exact W.iret (v := nI 0) hx hb hr (fun t_ ht_ hW_ => ⟨⟨_, (its, wts, szs, exs, f, g, h, z, trf S P Q lt), rfl, XPost.mk (S, w, trf S P Q lt) ((onN_ok hP3 (by decide) _ _).trans ((onN_ok hQ3 (by decide) _ _).trans (congrArg (fun x => (bI x, S, w, trf S P Q lt)) (decide_eq_false c1)))) (hi) he rfl, by rw [ht_]; exact hP, va_K.moved hW_.alike hK, hD⟩, hS.F ht_⟩) hS.2.2 dX1_within_41
      · refine lv_iconst (v := nI 1) hx hb dX1_within_36 (by decide) ?_
        refine lv_goto (tgt := 41) hx hb dX1_within_37 (by decide) ?_
        exact W.iret (v := nI 1) hx hb hr (fun t_ ht_ hW_ => ⟨⟨_, (its, wts, szs, exs, f, g, h, z, trf S P Q lt), rfl, XPost.mk (S, w, trf S P Q lt) ((onN_ok hP3 (by decide) _ _).trans ((onN_ok hQ3 (by decide) _ _).trans (congrArg (fun x => (bI x, S, w, trf S P Q lt)) (decide_eq_true c1)))) (hi) he rfl, by rw [ht_]; exact hP, va_K.moved hW_.alike hK, hD⟩, hS.F ht_⟩) hS.2.2 dX1_within_41
    · refine lv_if_ne (tgt := 16) hx hb dX1_within_11 (by decide) (fun c => absurd c (by decide)) (fun _ => ?_)
      refine lv_iconst (v := (-1)) hx hb dX1_within_14 (by decide) ?_
      exact W.iret (v := (-1)) hx hb hr (fun t_ ht_ hW_ => ⟨⟨_, (its, wts, szs, exs, snt, org, hit, rnd, lt), rfl, XPost.mk (S, w, lt) ((onN_ok hP3 (by decide) _ _).trans (onN_bad (by decide) hbad _ _)) (hi) he rfl, by rw [ht_]; exact hP, va_K.moved hW_.alike hK, hD⟩, hS.F ht_⟩) hS.2.2 dX1_within_15
  · refine lv_if_eq (tgt := 14) hx hb dX1_within_4 (by decide) (fun _ => ?_) (fun c => absurd c (by decide))
    refine lv_iconst (v := (-1)) hx hb dX1_within_14 (by decide) ?_
    exact W.iret (v := (-1)) hx hb hr (fun t_ ht_ hW_ => ⟨⟨_, (its, wts, szs, exs, snt, org, hit, rnd, lt), rfl, XPost.mk (S, w, lt) (onN_bad (by decide) hbad _ _) (hi) he rfl, by rw [ht_]; exact hP, va_K.moved hW_.alike hK, hD⟩, hS.F ht_⟩) hS.2.2 dX1_within_15
set_option maxHeartbeats 4000000 in
set_option maxRecDepth 100000 in
theorem met_commonItem (l : Launch) (sz : Nat) (D : va_G) (a : Nat → Nat) (d : Nat → ClassId) (its wts szs exs snt org hit : Nat → Int32) (rnd lt : Int32) (S : Nat → Nat → Bool) (w : Nat → Nat → Int32) (p0 : Int32) (p1 : Int32) (p2 : Int32) (hi : XI S w its wts szs) (he : EI exs) : Met l yX1_commonItem (ws_ yX1_commonItem cX1_commonItem 4 (some .int)) ({ frames := 3, cells := 0, slots := 0, locals := 120 } : Room) (va_Pc [.ref (a 0), .int p0, .int p1, .int p2] (fun U => U.heap.size = sz ∧ va_P D vwCl (wX a d its wts szs exs snt org hit rnd lt) U.heap ∧ va_K D vwCl (tyX d) U ∧ va_D (fun _ => True) (wX a d its wts szs exs snt org hit rnd lt))) (QXi D d (va_A (wX a d its wts szs exs snt org hit rnd lt) sz) (wXu a d) (XPost (F_commonItem (S, w, lt) p0 p1 p2))) 0 0 (va_A (wX a d its wts szs exs snt org hit rnd lt) sz) := by
  refine Met.ofW (cc := cX1_commonItem) (maxL := 4) (ret := (some .int)) (by decide) rfl ?_
  intro p e s m args below meth c s₁ B hml hv
  obtain ⟨rfl, hsz, hP, hK, hD0⟩ := hv
  have hx := B.exec
  have hb := B.bytes
  have hr := B.returns
  have hlocks := B.notSynchronized
  have hts := atoms_spec (ws := ws_ yX1_commonItem cX1_commonItem 4 (some .int)) B.pre
  have hts : ∀ w ∈ lw_all, w.before _ s = true := fun w h => hts w (List.mem_cons_of_mem _ h)
  have hown : s.vm.findClass RX1 = some m.cls := findClass_of_methodNamed B.named
  subst hsz
  have hD := hD0.self (sz := s.heap.size)
  generalize hAe : va_A (wX a d its wts szs exs snt org hit rnd lt) s.heap.size = A at hD ⊢
  have hA : ∀ q : Nat, s.heap.size ≤ q → A q := fun q h => by rw [← hAe]; exact Or.inr h
  have hS : va_S A s.heap s.heap [] := va_S.rf
  have hl := lv_entry ([.ref (a 0), .int p0, .int p1, .int p2]) (n := 4) (Nat.le_of_ble_eq_true rfl)
  rw [lg_entry_eq]
  generalize (lg_sl ([.ref (a 0), .int p0, .int p1, .int p2]) ++ List.replicate (4 - (lg_sl ([.ref (a 0), .int p0, .int p1, .int p2])).length) Slot.unset).toArray = ls at hl ⊢
  have hl : lv_has ls 4 [(0, .ref (a 0)), (1, .int p0), (2, .int p1), (3, .int p2)] := hl
  refine lv_iload_n hx hb dX1_commonItem_0 rfl (lv_at hl 1 rfl) ?_
  refine cs_S (As := [.int p0]) (rest := []) ⟨hx, hb, hml, hown, hts⟩ (met_isParty l p0) (va_cwS 1 hts (lw_S q34 q35 q20 q36) rfl rfl rfl (by decide +kernel) ⟨Nat.le_of_ble_eq_true rfl, Nat.le_of_ble_eq_true rfl⟩) rfl hl.1 rfl (Nat.le_of_ble_eq_true rfl) dX1_commonItem_1 ⟨Nat.zero_le _, Nat.zero_le _⟩ (fun r hw => ?_)
  rcases hw with ⟨rfl, P, hP3, rfl⟩ | ⟨rfl, hbad⟩
  · refine lv_if_eq (tgt := 14) hx hb dX1_commonItem_4 (by decide) (fun c => absurd c (by decide)) (fun _ => ?_)
    refine lv_iload_n hx hb dX1_commonItem_7 rfl (lv_at hl 2 rfl) ?_
    refine cs_S (As := [.int p1]) (rest := []) ⟨hx, hb, hml, hown, hts⟩ (met_isParty l p1) (va_cwS 1 hts (lw_S q34 q35 q20 q36) rfl rfl rfl (by decide +kernel) ⟨Nat.le_of_ble_eq_true rfl, Nat.le_of_ble_eq_true rfl⟩) rfl hl.1 rfl (Nat.le_of_ble_eq_true rfl) dX1_commonItem_8 ⟨Nat.zero_le _, Nat.zero_le _⟩ (fun r hw => ?_)
    rcases hw with ⟨rfl, Q, hQ3, rfl⟩ | ⟨rfl, hbad⟩
    · obtain ⟨hs, h16, hf⟩ := hi P hP3
      refine lv_if_ne (tgt := 16) hx hb dX1_commonItem_11 (by decide) (fun _ => ?_) (fun c => absurd c (by decide))
      refine lv_aload_n hx hb dX1_commonItem_16 rfl (lv_at hl 0 rfl) ?_
      refine lv_iload_n hx hb dX1_commonItem_17 rfl (lv_at hl 1 rfl) ?_
      refine lv_iload_n hx hb dX1_commonItem_18 rfl (lv_at hl 2 rfl) ?_
      refine cs_Wv (ci := 0) (As := [.int (nI P), .int (nI Q)]) (rest := []) ⟨hx, hb, hml, hown, hts⟩ (met_compareTwo l s.heap.size D a d its wts szs exs snt org hit rnd lt S w P Q hP3 hQ3 hi he) (cwV 2 hts (lw_V q107 q109 qs2 q20 q110) rfl rfl rfl (by decide +kernel) ⟨Nat.le_of_ble_eq_true rfl, Nat.le_of_ble_eq_true rfl⟩) hK hP hD hS hA rfl rfl rfl hl.1 rfl (Nat.le_of_ble_eq_true rfl) dX1_commonItem_19 ⟨Nat.zero_le _, Nat.zero_le _⟩ (fun u H locs hw hP hD hS _ => ?_)
      obtain ⟨f, g, h, z, y⟩ := u
      obtain ⟨hok, rfl⟩ := hw
      refine lv_aload_n hx hb dX1_commonItem_22 rfl (lv_at hl 0 rfl) ?_
      refine lv_iload_n hx hb dX1_commonItem_23 rfl (lv_at hl 1 rfl) ?_
      refine lv_iload_n hx hb dX1_commonItem_24 rfl (lv_at hl 3 rfl) ?_
      rcases pick_cases (an (S P) (S Q)) p2 64 (by decide) with ⟨ep, -⟩ | ⟨x, hx64, hxg, -, ep⟩
      · refine cs_R (ci := 0) (As := [.int (nI P), .int p2]) (rest := []) ⟨hx, hb, hml, hown, hts⟩ (met_hitNumber l D a d its wts szs exs f g h z (trf S P Q lt) S w P p2 hP3 hi) (cwV 2 hts (lw_V q139 q141 qs8 q20 q142) rfl rfl rfl (by decide +kernel) ⟨Nat.le_of_ble_eq_true rfl, Nat.le_of_ble_eq_true rfl⟩) hK hP rfl rfl rfl hl.1 rfl (Nat.le_of_ble_eq_true rfl) dX1_commonItem_25 ⟨Nat.zero_le _, Nat.zero_le _⟩ (fun r hw => ?_)
        rw [hit_pick hok] at hw
        replace hw : r = -1 := hw.trans (by rw [show pick (fun x => S P x && S Q x) p2 64 = none from ep]; rfl)
        subst hw
        refine lv_if_ge (tgt := 36) hx hb dX1_commonItem_28 (by decide) (fun c => absurd c (by decide)) (fun _ => ?_)
        refine lv_bipush (v := (-2)) hx hb dX1_commonItem_31 (by decide) ?_
        refine lv_goto (tgt := 52) hx hb dX1_commonItem_33 (by decide) ?_
        exact W.iret (v := (-2)) hx hb hr (fun t_ ht_ hW_ => ⟨⟨_, (its, wts, szs, exs, f, g, h, z, trf S P Q lt), rfl, XPost.mk (S, w, trf S P Q lt) ((onN_ok hP3 (by decide) _ _).trans ((onN_ok hQ3 (by decide) _ _).trans (congrArg (fun x => (opt x (-2), S, w, trf S P Q lt)) ep))) (hi) he rfl, by rw [ht_]; exact hP, va_K.moved hW_.alike hK, hD⟩, hS.F ht_⟩) hS.2.2 dX1_commonItem_52
      · have hSx : S P x = true := by
          cases q1 : S P x
          · simp [an, q1] at hxg
          · rfl
        have hcx := ct_lt hSx hx64
        refine cs_R (ci := 0) (As := [.int (nI P), .int p2]) (rest := []) ⟨hx, hb, hml, hown, hts⟩ (met_hitNumber l D a d its wts szs exs f g h z (trf S P Q lt) S w P p2 hP3 hi) (cwV 2 hts (lw_V q139 q141 qs8 q20 q142) rfl rfl rfl (by decide +kernel) ⟨Nat.le_of_ble_eq_true rfl, Nat.le_of_ble_eq_true rfl⟩) hK hP rfl rfl rfl hl.1 rfl (Nat.le_of_ble_eq_true rfl) dX1_commonItem_25 ⟨Nat.zero_le _, Nat.zero_le _⟩ (fun r hw => ?_)
        rw [hit_pick hok] at hw
        replace hw : r = nI (fb_ct (S P) x) := hw.trans (by rw [show pick (fun x => S P x && S Q x) p2 64 = some x from ep]; rfl)
        subst hw
        refine lv_if_ge (tgt := 36) hx hb dX1_commonItem_28 (by decide) (fun _ => ?_) (fun c => absurd c (fun h => h (nI_pos' (by omega))))
        refine lv_aload_n hx hb dX1_commonItem_36 rfl (lv_at hl 0 rfl) ?_
        refine xg_its hx hb hts hown hK hP dX1_commonItem_37 ?_
        refine lv_bipush (v := nI 16) hx hb dX1_commonItem_40 (by decide) ?_
        refine lv_iload_n hx hb dX1_commonItem_42 rfl (lv_at hl 1 rfl) ?_
        refine lv_imul hx hb dX1_commonItem_43 ?_
        refine xr_set (y := nI (16 * P)) (pk_mul _ _) ?_
        refine lv_aload_n hx hb dX1_commonItem_44 rfl (lv_at hl 0 rfl) ?_
        refine lv_iload_n hx hb dX1_commonItem_45 rfl (lv_at hl 1 rfl) ?_
        refine lv_iload_n hx hb dX1_commonItem_46 rfl (lv_at hl 3 rfl) ?_
        refine cs_R (ci := 0) (As := [.int (nI P), .int p2]) (rest := [.int (nI (16 * P)), .ref (a 1)]) ⟨hx, hb, hml, hown, hts⟩ (met_hitNumber l D a d its wts szs exs f g h z (trf S P Q lt) S w P p2 hP3 hi) (cwV 2 hts (lw_V q139 q141 qs8 q20 q142) rfl rfl rfl (by decide +kernel) ⟨Nat.le_of_ble_eq_true rfl, Nat.le_of_ble_eq_true rfl⟩) hK hP rfl rfl rfl hl.1 rfl (Nat.le_of_ble_eq_true rfl) dX1_commonItem_47 ⟨Nat.zero_le _, Nat.zero_le _⟩ (fun r hw => ?_)
        rw [hit_pick hok] at hw
        replace hw : r = nI (fb_ct (S P) x) := hw.trans (by rw [show pick (fun x => S P x && S Q x) p2 64 = some x from ep]; rfl)
        subst hw
        refine lv_iadd hx hb dX1_commonItem_50 ?_
        refine xr_set (y := nI ((16 * P) + (fb_ct (S P) x))) (nI_add _ _) ?_
        refine xl_its hx hb hK hP (j := ((16 * P) + (fb_ct (S P) x))) (by omega) dX1_commonItem_51 ?_
        refine xr_set (y := nI x) (hf x hx64 hSx).1 ?_
        exact W.iret (v := nI x) hx hb hr (fun t_ ht_ hW_ => ⟨⟨_, (its, wts, szs, exs, f, g, h, z, trf S P Q lt), rfl, XPost.mk (S, w, trf S P Q lt) ((onN_ok hP3 (by decide) _ _).trans ((onN_ok hQ3 (by decide) _ _).trans (congrArg (fun x => (opt x (-2), S, w, trf S P Q lt)) ep))) (hi) he rfl, by rw [ht_]; exact hP, va_K.moved hW_.alike hK, hD⟩, hS.F ht_⟩) hS.2.2 dX1_commonItem_52
    · refine lv_if_ne (tgt := 16) hx hb dX1_commonItem_11 (by decide) (fun c => absurd c (by decide)) (fun _ => ?_)
      refine lv_iconst (v := (-1)) hx hb dX1_commonItem_14 (by decide) ?_
      exact W.iret (v := (-1)) hx hb hr (fun t_ ht_ hW_ => ⟨⟨_, (its, wts, szs, exs, snt, org, hit, rnd, lt), rfl, XPost.mk (S, w, lt) ((onN_ok hP3 (by decide) _ _).trans (onN_bad (by decide) hbad _ _)) (hi) he rfl, by rw [ht_]; exact hP, va_K.moved hW_.alike hK, hD⟩, hS.F ht_⟩) hS.2.2 dX1_commonItem_15
  · refine lv_if_eq (tgt := 14) hx hb dX1_commonItem_4 (by decide) (fun _ => ?_) (fun c => absurd c (by decide))
    refine lv_iconst (v := (-1)) hx hb dX1_commonItem_14 (by decide) ?_
    exact W.iret (v := (-1)) hx hb hr (fun t_ ht_ hW_ => ⟨⟨_, (its, wts, szs, exs, snt, org, hit, rnd, lt), rfl, XPost.mk (S, w, lt) (onN_bad (by decide) hbad _ _) (hi) he rfl, by rw [ht_]; exact hP, va_K.moved hW_.alike hK, hD⟩, hS.F ht_⟩) hS.2.2 dX1_commonItem_15
set_option maxHeartbeats 4000000 in
set_option maxRecDepth 100000 in
theorem met_commonWeight (l : Launch) (sz : Nat) (D : va_G) (a : Nat → Nat) (d : Nat → ClassId) (its wts szs exs snt org hit : Nat → Int32) (rnd lt : Int32) (S : Nat → Nat → Bool) (w : Nat → Nat → Int32) (p0 : Int32) (p1 : Int32) (hi : XI S w its wts szs) (he : EI exs) : Met l yX1_commonWeight (ws_ yX1_commonWeight cX1_commonWeight 5 (some .int)) ({ frames := 3, cells := 0, slots := 0, locals := 120 } : Room) (va_Pc [.ref (a 0), .int p0, .int p1] (fun U => U.heap.size = sz ∧ va_P D vwCl (wX a d its wts szs exs snt org hit rnd lt) U.heap ∧ va_K D vwCl (tyX d) U ∧ va_D (fun _ => True) (wX a d its wts szs exs snt org hit rnd lt))) (QXi D d (va_A (wX a d its wts szs exs snt org hit rnd lt) sz) (wXu a d) (XPost (F_commonWeight (S, w, lt) p0 p1))) 0 0 (va_A (wX a d its wts szs exs snt org hit rnd lt) sz) := by
  refine Met.ofW (cc := cX1_commonWeight) (maxL := 5) (ret := (some .int)) (by decide) rfl ?_
  intro p e s m args below meth c s₁ B hml hv
  obtain ⟨rfl, hsz, hP, hK, hD0⟩ := hv
  have hx := B.exec
  have hb := B.bytes
  have hr := B.returns
  have hlocks := B.notSynchronized
  have hts := atoms_spec (ws := ws_ yX1_commonWeight cX1_commonWeight 5 (some .int)) B.pre
  have hts : ∀ w ∈ lw_all, w.before _ s = true := fun w h => hts w (List.mem_cons_of_mem _ h)
  have hown : s.vm.findClass RX1 = some m.cls := findClass_of_methodNamed B.named
  subst hsz
  have hD := hD0.self (sz := s.heap.size)
  generalize hAe : va_A (wX a d its wts szs exs snt org hit rnd lt) s.heap.size = A at hD ⊢
  have hA : ∀ q : Nat, s.heap.size ≤ q → A q := fun q h => by rw [← hAe]; exact Or.inr h
  have hS : va_S A s.heap s.heap [] := va_S.rf
  have hl := lv_entry ([.ref (a 0), .int p0, .int p1]) (n := 5) (Nat.le_of_ble_eq_true rfl)
  rw [lg_entry_eq]
  generalize (lg_sl ([.ref (a 0), .int p0, .int p1]) ++ List.replicate (5 - (lg_sl ([.ref (a 0), .int p0, .int p1])).length) Slot.unset).toArray = ls at hl ⊢
  have hl : lv_has ls 5 [(0, .ref (a 0)), (1, .int p0), (2, .int p1)] := hl
  refine lv_iload_n hx hb dX1_commonWeight_0 rfl (lv_at hl 1 rfl) ?_
  refine cs_S (As := [.int p0]) (rest := []) ⟨hx, hb, hml, hown, hts⟩ (met_isParty l p0) (va_cwS 1 hts (lw_S q34 q35 q20 q36) rfl rfl rfl (by decide +kernel) ⟨Nat.le_of_ble_eq_true rfl, Nat.le_of_ble_eq_true rfl⟩) rfl hl.1 rfl (Nat.le_of_ble_eq_true rfl) dX1_commonWeight_1 ⟨Nat.zero_le _, Nat.zero_le _⟩ (fun r hw => ?_)
  rcases hw with ⟨rfl, P, hP3, rfl⟩ | ⟨rfl, hbad⟩
  · refine lv_if_eq (tgt := 14) hx hb dX1_commonWeight_4 (by decide) (fun c => absurd c (by decide)) (fun _ => ?_)
    refine lv_iload_n hx hb dX1_commonWeight_7 rfl (lv_at hl 2 rfl) ?_
    refine cs_S (As := [.int p1]) (rest := []) ⟨hx, hb, hml, hown, hts⟩ (met_isParty l p1) (va_cwS 1 hts (lw_S q34 q35 q20 q36) rfl rfl rfl (by decide +kernel) ⟨Nat.le_of_ble_eq_true rfl, Nat.le_of_ble_eq_true rfl⟩) rfl hl.1 rfl (Nat.le_of_ble_eq_true rfl) dX1_commonWeight_8 ⟨Nat.zero_le _, Nat.zero_le _⟩ (fun r hw => ?_)
    rcases hw with ⟨rfl, Q, hQ3, rfl⟩ | ⟨rfl, hbad⟩
    · obtain ⟨hs, h16, hf⟩ := hi P hP3
      refine lv_if_ne (tgt := 16) hx hb dX1_commonWeight_11 (by decide) (fun _ => ?_) (fun c => absurd c (by decide))
      refine lv_aload_n hx hb dX1_commonWeight_16 rfl (lv_at hl 0 rfl) ?_
      refine lv_iload_n hx hb dX1_commonWeight_17 rfl (lv_at hl 1 rfl) ?_
      refine lv_iload_n hx hb dX1_commonWeight_18 rfl (lv_at hl 2 rfl) ?_
      refine cs_Wv (ci := 0) (As := [.int (nI P), .int (nI Q)]) (rest := []) ⟨hx, hb, hml, hown, hts⟩ (met_compareTwo l s.heap.size D a d its wts szs exs snt org hit rnd lt S w P Q hP3 hQ3 hi he) (cwV 2 hts (lw_V q107 q109 qs2 q20 q110) rfl rfl rfl (by decide +kernel) ⟨Nat.le_of_ble_eq_true rfl, Nat.le_of_ble_eq_true rfl⟩) hK hP hD hS hA rfl rfl rfl hl.1 rfl (Nat.le_of_ble_eq_true rfl) dX1_commonWeight_19 ⟨Nat.zero_le _, Nat.zero_le _⟩ (fun u H locs hw hP hD hS _ => ?_)
      obtain ⟨f, g, h, z, y⟩ := u
      obtain ⟨hok, rfl⟩ := hw
      refine lv_iconst (v := nI 0) hx hb dX1_commonWeight_22 (by decide) ?_
      refine lv_istore_n (lv' := [(3, .int (nI 0)), (0, .ref (a 0)), (1, .int (nI P)), (2, .int (nI Q))]) hx hb dX1_commonWeight_23 rfl hl (by decide) rfl (fun ls hl => ?_)
      refine lv_iconst (v := nI 0) hx hb dX1_commonWeight_24 (by decide) ?_
      refine lv_istore (lv' := [(4, .int (nI 0)), (3, .int (nI 0)), (0, .ref (a 0)), (1, .int (nI P)), (2, .int (nI Q))]) hx hb dX1_commonWeight_25 hl (by decide) rfl (fun ls hl => ?_)
      have loop : ∀ (q : Nat) (k : Nat), fb_ct (S P) 64 < k + q → (k ≤ fb_ct (S P) 64) → ∀ (H : Heap) (locs : List Loc), va_P D vwCl (wX a d its wts szs exs f g h z (trf S P Q lt)) H → va_D A (wX a d its wts szs exs f g h z (trf S P Q lt)) → va_S A s.heap H locs → ∀ (ls : Array Slot), lv_has ls 5 [(4, .int (nI k)), (3, .int (smf (fun k => if h k = 0 then 0 else wts (16 * P + k)) k)), (0, .ref (a 0)), (1, .int (nI P)), (2, .int (nI Q))] → W p l e (headSpec (ws_ yX1_commonWeight cX1_commonWeight 5 (some .int)) ({ frames := 3, cells := 0, slots := 0, locals := 120 } : Room)).room s m ([.ref (a 0), .int (nI P), .int (nI Q)] : List Value).toArray below meth c H locs 0 0 (MQ below (QXi D d A (wXu a d) (XPost (F_commonWeight (S, w, lt) (nI P) (nI Q)))) ([.ref (a 0), .int (nI P), .int (nI Q)] : List Value).toArray s 0 0 A) (F0 m 27 ls []) := by
        intro q
        induction q with
        | zero =>
          intro k hq hk
          exact absurd hq (by omega)
        | succ q ih =>
          intro k hq hk H locs hP hD hS ls hl
          refine lv_iload hx hb dX1_commonWeight_27 (lv_at hl 0 rfl) ?_
          refine lv_aload_n hx hb dX1_commonWeight_29 rfl (lv_at hl 2 rfl) ?_
          refine xg_szs hx hb hts hown hK hP dX1_commonWeight_30 ?_
          refine lv_iload_n hx hb dX1_commonWeight_33 rfl (lv_at hl 3 rfl) ?_
          refine xl_szs hx hb hK hP (j := P) (by omega) dX1_commonWeight_34 ?_
          refine xr_set (y := nI (fb_ct (S P) 64)) hs ?_
          refine xb_ge (tgt := 73) hx hb dX1_commonWeight_35 (by decide) (by omega) (by omega) (fun c1 => ?_) (fun c1 => ?_)
          · refine lv_iload_n hx hb dX1_commonWeight_73 rfl (lv_at hl 1 rfl) ?_
            refine xr_set (y := smf (fun i => if (S P i && S Q i) = true then w P i else 0) 64) (by rw [show k = fb_ct (S P) 64 by omega]; exact hit_sm hok (fun i h1 h2 => (hf i h1 h2).2) 64 (Nat.le_refl _)) ?_
            exact W.iret (v := smf (fun i => if (S P i && S Q i) = true then w P i else 0) 64) hx hb hr (fun t_ ht_ hW_ => ⟨⟨_, (its, wts, szs, exs, f, g, h, z, trf S P Q lt), rfl, XPost.mk (S, w, trf S P Q lt) ((onN_ok hP3 (by decide) _ _).trans ((onN_ok hQ3 (by decide) _ _).trans (rfl))) (hi) he rfl, by rw [ht_]; exact hP, va_K.moved hW_.alike hK, hD⟩, hS.F ht_⟩) hS.2.2 dX1_commonWeight_74
          · refine lv_iload_n hx hb dX1_commonWeight_38 rfl (lv_at hl 1 rfl) ?_
            refine lv_aload_n hx hb dX1_commonWeight_39 rfl (lv_at hl 2 rfl) ?_
            refine xg_hit hx hb hts hown hK hP dX1_commonWeight_40 ?_
            refine lv_iload hx hb dX1_commonWeight_43 (lv_at hl 0 rfl) ?_
            refine xl_hit hx hb hK hP (j := k) (by omega) dX1_commonWeight_45 ?_
            refine lv_if_eq (tgt := 64) hx hb dX1_commonWeight_46 (by decide) (fun c2 => ?_) (fun c2 => ?_)
            · refine lv_iconst (v := nI 0) hx hb dX1_commonWeight_64 (by decide) ?_
              refine lv_iadd hx hb dX1_commonWeight_65 ?_
              refine xr_set (y := smf (fun k => if h k = 0 then 0 else wts (16 * P + k)) (k + 1)) (by rw [smf, if_pos c2]; rfl) ?_
              refine lv_istore_n (lv' := [(3, .int (smf (fun k => if h k = 0 then 0 else wts (16 * P + k)) (k + 1))), (4, .int (nI k)), (0, .ref (a 0)), (1, .int (nI P)), (2, .int (nI Q))]) hx hb dX1_commonWeight_66 rfl hl (by decide) rfl (fun ls hl => ?_)
              refine lv_iinc (v := nI (k + 1)) (lv' := [(4, .int (nI (k + 1))), (3, .int (smf (fun k => if h k = 0 then 0 else wts (16 * P + k)) (k + 1))), (0, .ref (a 0)), (1, .int (nI P)), (2, .int (nI Q))]) hx hb dX1_commonWeight_67 hl (k := 1) rfl (nI_1 _) (by decide) rfl (fun ls hl => ?_)
              refine lv_goto (tgt := 27) hx hb dX1_commonWeight_70 (by decide) ?_
              exact ih (k + 1) (by omega) (by omega) H locs hP hD hS ls (lv_sub hl [0, 1, 2, 3, 4] rfl)
            · refine lv_aload_n hx hb dX1_commonWeight_49 rfl (lv_at hl 2 rfl) ?_
              refine xg_wts hx hb hts hown hK hP dX1_commonWeight_50 ?_
              refine lv_bipush (v := nI 16) hx hb dX1_commonWeight_53 (by decide) ?_
              refine lv_iload_n hx hb dX1_commonWeight_55 rfl (lv_at hl 3 rfl) ?_
              refine lv_imul hx hb dX1_commonWeight_56 ?_
              refine xr_set (y := nI (16 * P)) (pk_mul _ _) ?_
              refine lv_iload hx hb dX1_commonWeight_57 (lv_at hl 0 rfl) ?_
              refine lv_iadd hx hb dX1_commonWeight_59 ?_
              refine xr_set (y := nI ((16 * P) + k)) (nI_add _ _) ?_
              refine xl_wts hx hb hK hP (j := ((16 * P) + k)) (by omega) dX1_commonWeight_60 ?_
              refine lv_goto (tgt := 65) hx hb dX1_commonWeight_61 (by decide) ?_
              refine lv_iadd hx hb dX1_commonWeight_65 ?_
              refine xr_set (y := smf (fun k => if h k = 0 then 0 else wts (16 * P + k)) (k + 1)) (by rw [smf, if_neg c2]) ?_
              refine lv_istore_n (lv' := [(3, .int (smf (fun k => if h k = 0 then 0 else wts (16 * P + k)) (k + 1))), (4, .int (nI k)), (0, .ref (a 0)), (1, .int (nI P)), (2, .int (nI Q))]) hx hb dX1_commonWeight_66 rfl hl (by decide) rfl (fun ls hl => ?_)
              refine lv_iinc (v := nI (k + 1)) (lv' := [(4, .int (nI (k + 1))), (3, .int (smf (fun k => if h k = 0 then 0 else wts (16 * P + k)) (k + 1))), (0, .ref (a 0)), (1, .int (nI P)), (2, .int (nI Q))]) hx hb dX1_commonWeight_67 hl (k := 1) rfl (nI_1 _) (by decide) rfl (fun ls hl => ?_)
              refine lv_goto (tgt := 27) hx hb dX1_commonWeight_70 (by decide) ?_
              exact ih (k + 1) (by omega) (by omega) H locs hP hD hS ls (lv_sub hl [0, 1, 2, 3, 4] rfl)
      exact loop (fb_ct (S P) 64 + 1) 0 (by omega) (Nat.zero_le _) H locs hP hD hS ls (lv_sub hl [0, 1, 2, 3, 4] rfl)
    · refine lv_if_ne (tgt := 16) hx hb dX1_commonWeight_11 (by decide) (fun c => absurd c (by decide)) (fun _ => ?_)
      refine lv_iconst (v := nI 0) hx hb dX1_commonWeight_14 (by decide) ?_
      exact W.iret (v := nI 0) hx hb hr (fun t_ ht_ hW_ => ⟨⟨_, (its, wts, szs, exs, snt, org, hit, rnd, lt), rfl, XPost.mk (S, w, lt) ((onN_ok hP3 (by decide) _ _).trans (onN_bad (by decide) hbad _ _)) (hi) he rfl, by rw [ht_]; exact hP, va_K.moved hW_.alike hK, hD⟩, hS.F ht_⟩) hS.2.2 dX1_commonWeight_15
  · refine lv_if_eq (tgt := 14) hx hb dX1_commonWeight_4 (by decide) (fun _ => ?_) (fun c => absurd c (by decide))
    refine lv_iconst (v := nI 0) hx hb dX1_commonWeight_14 (by decide) ?_
    exact W.iret (v := nI 0) hx hb hr (fun t_ ht_ hW_ => ⟨⟨_, (its, wts, szs, exs, snt, org, hit, rnd, lt), rfl, XPost.mk (S, w, lt) (onN_bad (by decide) hbad _ _) (hi) he rfl, by rw [ht_]; exact hP, va_K.moved hW_.alike hK, hD⟩, hS.F ht_⟩) hS.2.2 dX1_commonWeight_15
set_option maxHeartbeats 4000000 in
set_option maxRecDepth 100000 in
theorem met_commonToAll (l : Launch) (sz : Nat) (D : va_G) (a : Nat → Nat) (d : Nat → ClassId) (its wts szs exs snt org hit : Nat → Int32) (rnd lt : Int32) (S : Nat → Nat → Bool) (w : Nat → Nat → Int32) (hi : XI S w its wts szs) (he : EI exs) : Met l yX1_commonToAll (ws_ yX1_commonToAll cX1_commonToAll 1 (some .int)) ({ frames := 3, cells := 0, slots := 0, locals := 120 } : Room) (va_Pc [.ref (a 0)] (fun U => U.heap.size = sz ∧ va_P D vwCl (wX a d its wts szs exs snt org hit rnd lt) U.heap ∧ va_K D vwCl (tyX d) U ∧ va_D (fun _ => True) (wX a d its wts szs exs snt org hit rnd lt))) (QXi D d (va_A (wX a d its wts szs exs snt org hit rnd lt) sz) (wXu a d) (XPost (F_commonToAll (S, w, lt)))) 0 0 (va_A (wX a d its wts szs exs snt org hit rnd lt) sz) := by
  refine Met.ofW (cc := cX1_commonToAll) (maxL := 1) (ret := (some .int)) (by decide) rfl ?_
  intro p e s m args below meth c s₁ B hml hv
  obtain ⟨rfl, hsz, hP, hK, hD0⟩ := hv
  have hx := B.exec
  have hb := B.bytes
  have hr := B.returns
  have hlocks := B.notSynchronized
  have hts := atoms_spec (ws := ws_ yX1_commonToAll cX1_commonToAll 1 (some .int)) B.pre
  have hts : ∀ w ∈ lw_all, w.before _ s = true := fun w h => hts w (List.mem_cons_of_mem _ h)
  have hown : s.vm.findClass RX1 = some m.cls := findClass_of_methodNamed B.named
  subst hsz
  have hD := hD0.self (sz := s.heap.size)
  generalize hAe : va_A (wX a d its wts szs exs snt org hit rnd lt) s.heap.size = A at hD ⊢
  have hA : ∀ q : Nat, s.heap.size ≤ q → A q := fun q h => by rw [← hAe]; exact Or.inr h
  have hS : va_S A s.heap s.heap [] := va_S.rf
  have hl := lv_entry ([.ref (a 0)]) (n := 1) (Nat.le_of_ble_eq_true rfl)
  rw [lg_entry_eq]
  generalize (lg_sl ([.ref (a 0)]) ++ List.replicate (1 - (lg_sl ([.ref (a 0)])).length) Slot.unset).toArray = ls at hl ⊢
  have hl : lv_has ls 1 [(0, .ref (a 0))] := hl
  refine lv_aload_n hx hb dX1_commonToAll_0 rfl (lv_at hl 0 rfl) ?_
  refine lv_iconst (v := nI 0) hx hb dX1_commonToAll_1 (by decide) ?_
  refine cs_Wv (ci := 0) (As := [.int (nI 0)]) (rest := []) ⟨hx, hb, hml, hown, hts⟩ (met_compareThree l s.heap.size D a d its wts szs exs snt org hit rnd lt S w 0 (by decide) hi he) (cwV 1 hts (lw_V q151 q153 qs9 q20 q154) rfl rfl rfl (by decide +kernel) ⟨Nat.le_of_ble_eq_true rfl, Nat.le_of_ble_eq_true rfl⟩) hK hP hD hS hA rfl rfl rfl hl.1 rfl (Nat.le_of_ble_eq_true rfl) dX1_commonToAll_2 ⟨Nat.zero_le _, Nat.zero_le _⟩ (fun u H locs hw hP hD hS _ => ?_)
  obtain ⟨f, g, h, z⟩ := u
  have hok : HitOk (S 0) (an (S (oq 0)) (S (or_ 0))) h := hw
  refine lv_aload_n hx hb dX1_commonToAll_5 rfl (lv_at hl 0 rfl) ?_
  refine lv_iconst (v := nI 0) hx hb dX1_commonToAll_6 (by decide) ?_
  refine cs_R (ci := 0) (As := [.int (nI 0)]) (rest := []) ⟨hx, hb, hml, hown, hts⟩ (met_hits l D a d its wts szs exs f g h z lt S w 0 (by decide) hi) (cwV 1 hts (lw_V q131 q133 qs7 q20 q134) rfl rfl rfl (by decide +kernel) ⟨Nat.le_of_ble_eq_true rfl, Nat.le_of_ble_eq_true rfl⟩) hK hP rfl rfl rfl hl.1 rfl (Nat.le_of_ble_eq_true rfl) dX1_commonToAll_7 ⟨Nat.zero_le _, Nat.zero_le _⟩ (fun r hw => ?_)
  rw [hit_ct hok 64 (Nat.le_refl _)] at hw
  replace hw : r = nI (fb_ct (hk S 3) 64) := by rw [hw, id3]; rfl
  subst hw
  exact W.iret (v := nI (fb_ct (hk S 3) 64)) hx hb hr (fun t_ ht_ hW_ => ⟨⟨_, (its, wts, szs, exs, f, g, h, z, lt), rfl, XPost.mk (S, w, lt) (rfl) (hi) he rfl, by rw [ht_]; exact hP, va_K.moved hW_.alike hK, hD⟩, hS.F ht_⟩) hS.2.2 dX1_commonToAll_10
set_option maxHeartbeats 4000000 in
set_option maxRecDepth 100000 in
theorem met_itemOfAll (l : Launch) (sz : Nat) (D : va_G) (a : Nat → Nat) (d : Nat → ClassId) (its wts szs exs snt org hit : Nat → Int32) (rnd lt : Int32) (S : Nat → Nat → Bool) (w : Nat → Nat → Int32) (p0 : Int32) (hi : XI S w its wts szs) (he : EI exs) : Met l yX1_itemOfAll (ws_ yX1_itemOfAll cX1_itemOfAll 3 (some .int)) ({ frames := 3, cells := 0, slots := 0, locals := 120 } : Room) (va_Pc [.ref (a 0), .int p0] (fun U => U.heap.size = sz ∧ va_P D vwCl (wX a d its wts szs exs snt org hit rnd lt) U.heap ∧ va_K D vwCl (tyX d) U ∧ va_D (fun _ => True) (wX a d its wts szs exs snt org hit rnd lt))) (QXi D d (va_A (wX a d its wts szs exs snt org hit rnd lt) sz) (wXu a d) (XPost (F_itemOfAll (S, w, lt) p0))) 0 0 (va_A (wX a d its wts szs exs snt org hit rnd lt) sz) := by
  refine Met.ofW (cc := cX1_itemOfAll) (maxL := 3) (ret := (some .int)) (by decide) rfl ?_
  intro p e s m args below meth c s₁ B hml hv
  obtain ⟨rfl, hsz, hP, hK, hD0⟩ := hv
  have hx := B.exec
  have hb := B.bytes
  have hr := B.returns
  have hlocks := B.notSynchronized
  have hts := atoms_spec (ws := ws_ yX1_itemOfAll cX1_itemOfAll 3 (some .int)) B.pre
  have hts : ∀ w ∈ lw_all, w.before _ s = true := fun w h => hts w (List.mem_cons_of_mem _ h)
  have hown : s.vm.findClass RX1 = some m.cls := findClass_of_methodNamed B.named
  subst hsz
  have hD := hD0.self (sz := s.heap.size)
  generalize hAe : va_A (wX a d its wts szs exs snt org hit rnd lt) s.heap.size = A at hD ⊢
  have hA : ∀ q : Nat, s.heap.size ≤ q → A q := fun q h => by rw [← hAe]; exact Or.inr h
  have hS : va_S A s.heap s.heap [] := va_S.rf
  have hl := lv_entry ([.ref (a 0), .int p0]) (n := 3) (Nat.le_of_ble_eq_true rfl)
  rw [lg_entry_eq]
  generalize (lg_sl ([.ref (a 0), .int p0]) ++ List.replicate (3 - (lg_sl ([.ref (a 0), .int p0])).length) Slot.unset).toArray = ls at hl ⊢
  have hl : lv_has ls 3 [(0, .ref (a 0)), (1, .int p0)] := hl
  obtain ⟨-, h16, hf⟩ := hi 0 (by decide)
  refine lv_aload_n hx hb dX1_itemOfAll_0 rfl (lv_at hl 0 rfl) ?_
  refine lv_iconst (v := nI 0) hx hb dX1_itemOfAll_1 (by decide) ?_
  refine cs_Wv (ci := 0) (As := [.int (nI 0)]) (rest := []) ⟨hx, hb, hml, hown, hts⟩ (met_compareThree l s.heap.size D a d its wts szs exs snt org hit rnd lt S w 0 (by decide) hi he) (cwV 1 hts (lw_V q151 q153 qs9 q20 q154) rfl rfl rfl (by decide +kernel) ⟨Nat.le_of_ble_eq_true rfl, Nat.le_of_ble_eq_true rfl⟩) hK hP hD hS hA rfl rfl rfl hl.1 rfl (Nat.le_of_ble_eq_true rfl) dX1_itemOfAll_2 ⟨Nat.zero_le _, Nat.zero_le _⟩ (fun u H locs hw hP hD hS _ => ?_)
  obtain ⟨f, g, h, z⟩ := u
  have hok : HitOk (S 0) (an (S (oq 0)) (S (or_ 0))) h := hw
  refine lv_aload_n hx hb dX1_itemOfAll_5 rfl (lv_at hl 0 rfl) ?_
  refine lv_iconst (v := nI 0) hx hb dX1_itemOfAll_6 (by decide) ?_
  refine lv_iload_n hx hb dX1_itemOfAll_7 rfl (lv_at hl 1 rfl) ?_
  refine cs_R (ci := 0) (As := [.int (nI 0), .int p0]) (rest := []) ⟨hx, hb, hml, hown, hts⟩ (met_hitNumber l D a d its wts szs exs f g h z lt S w 0 p0 (by decide) hi) (cwV 2 hts (lw_V q139 q141 qs8 q20 q142) rfl rfl rfl (by decide +kernel) ⟨Nat.le_of_ble_eq_true rfl, Nat.le_of_ble_eq_true rfl⟩) hK hP rfl rfl rfl hl.1 rfl (Nat.le_of_ble_eq_true rfl) dX1_itemOfAll_8 ⟨Nat.zero_le _, Nat.zero_le _⟩ (fun r hw => ?_)
  rw [hit_pick hok] at hw
  replace hw : r = opt ((pick (hk S 3) p0 64).map (fb_ct (S 0))) (-1) := by rw [hw, hk3]; rfl
  rcases pick_cases (hk S 3) p0 64 (by decide) with ⟨ep, -⟩ | ⟨x, hx64, hxg, -, ep⟩
  · rw [ep] at hw
    replace hw : r = -1 := hw
    subst hw
    refine lv_istore_n (lv' := [(2, .int (-1)), (0, .ref (a 0)), (1, .int p0)]) hx hb dX1_itemOfAll_11 rfl hl (by decide) rfl (fun ls hl => ?_)
    refine lv_iload_n hx hb dX1_itemOfAll_12 rfl (lv_at hl 0 rfl) ?_
    refine lv_if_ge (tgt := 20) hx hb dX1_itemOfAll_13 (by decide) (fun c => absurd c (by decide)) (fun _ => ?_)
    refine lv_iconst (v := (-1)) hx hb dX1_itemOfAll_16 (by decide) ?_
    refine lv_goto (tgt := 26) hx hb dX1_itemOfAll_17 (by decide) ?_
    exact W.iret (v := (-1)) hx hb hr (fun t_ ht_ hW_ => ⟨⟨_, (its, wts, szs, exs, f, g, h, z, lt), rfl, XPost.mk (S, w, lt) (congrArg (fun x => (opt x (-1), S, w, lt)) ep) (hi) he rfl, by rw [ht_]; exact hP, va_K.moved hW_.alike hK, hD⟩, hS.F ht_⟩) hS.2.2 dX1_itemOfAll_26
  · have hSx : S 0 x = true := by
      rw [hk3] at hxg
      cases q1 : S 0 x
      · simp [an, q1] at hxg
      · rfl
    have hcx := ct_lt hSx hx64
    have hix : its (fb_ct (S 0) x) = nI x := by
      have h9 := (hf x hx64 hSx).1
      rw [Nat.mul_zero, Nat.zero_add] at h9
      exact h9
    rw [ep] at hw
    replace hw : r = nI (fb_ct (S 0) x) := hw
    subst hw
    refine lv_istore_n (lv' := [(2, .int (nI (fb_ct (S 0) x))), (0, .ref (a 0)), (1, .int p0)]) hx hb dX1_itemOfAll_11 rfl hl (by decide) rfl (fun ls hl => ?_)
    refine lv_iload_n hx hb dX1_itemOfAll_12 rfl (lv_at hl 0 rfl) ?_
    refine lv_if_ge (tgt := 20) hx hb dX1_itemOfAll_13 (by decide) (fun _ => ?_) (fun c => absurd c (fun h => h (nI_pos' (by omega))))
    refine lv_aload_n hx hb dX1_itemOfAll_20 rfl (lv_at hl 1 rfl) ?_
    refine xg_its hx hb hts hown hK hP dX1_itemOfAll_21 ?_
    refine lv_iload_n hx hb dX1_itemOfAll_24 rfl (lv_at hl 0 rfl) ?_
    refine xl_its hx hb hK hP (j := (fb_ct (S 0) x)) (by omega) dX1_itemOfAll_25 ?_
    refine xr_set (y := nI x) hix ?_
    exact W.iret (v := nI x) hx hb hr (fun t_ ht_ hW_ => ⟨⟨_, (its, wts, szs, exs, f, g, h, z, lt), rfl, XPost.mk (S, w, lt) (congrArg (fun x => (opt x (-1), S, w, lt)) ep) (hi) he rfl, by rw [ht_]; exact hP, va_K.moved hW_.alike hK, hD⟩, hS.F ht_⟩) hS.2.2 dX1_itemOfAll_26
set_option maxHeartbeats 4000000 in
set_option maxRecDepth 100000 in
theorem met_heldByJust (l : Launch) (sz : Nat) (D : va_G) (a : Nat → Nat) (d : Nat → ClassId) (its wts szs exs snt org hit : Nat → Int32) (rnd lt : Int32) (S : Nat → Nat → Bool) (w : Nat → Nat → Int32) (p0 : Int32) (hi : XI S w its wts szs) (he : EI exs) : Met l yX1_heldByJust (ws_ yX1_heldByJust cX1_heldByJust 4 (some .int)) ({ frames := 4, cells := 0, slots := 0, locals := 160 } : Room) (va_Pc [.ref (a 0), .int p0] (fun U => U.heap.size = sz ∧ va_P D vwCl (wX a d its wts szs exs snt org hit rnd lt) U.heap ∧ va_K D vwCl (tyX d) U ∧ va_D (fun _ => True) (wX a d its wts szs exs snt org hit rnd lt))) (QXi D d (va_A (wX a d its wts szs exs snt org hit rnd lt) sz) (wXu a d) (XPost (F_heldByJust (S, w, lt) p0))) 0 0 (va_A (wX a d its wts szs exs snt org hit rnd lt) sz) := by
  refine Met.ofW (cc := cX1_heldByJust) (maxL := 4) (ret := (some .int)) (by decide) rfl ?_
  intro p e s m args below meth c s₁ B hml hv
  obtain ⟨rfl, hsz, hP, hK, hD0⟩ := hv
  have hx := B.exec
  have hb := B.bytes
  have hr := B.returns
  have hlocks := B.notSynchronized
  have hts := atoms_spec (ws := ws_ yX1_heldByJust cX1_heldByJust 4 (some .int)) B.pre
  have hts : ∀ w ∈ lw_all, w.before _ s = true := fun w h => hts w (List.mem_cons_of_mem _ h)
  have hown : s.vm.findClass RX1 = some m.cls := findClass_of_methodNamed B.named
  subst hsz
  have hD := hD0.self (sz := s.heap.size)
  generalize hAe : va_A (wX a d its wts szs exs snt org hit rnd lt) s.heap.size = A at hD ⊢
  have hA : ∀ q : Nat, s.heap.size ≤ q → A q := fun q h => by rw [← hAe]; exact Or.inr h
  have hS : va_S A s.heap s.heap [] := va_S.rf
  have hl := lv_entry ([.ref (a 0), .int p0]) (n := 4) (Nat.le_of_ble_eq_true rfl)
  rw [lg_entry_eq]
  generalize (lg_sl ([.ref (a 0), .int p0]) ++ List.replicate (4 - (lg_sl ([.ref (a 0), .int p0])).length) Slot.unset).toArray = ls at hl ⊢
  have hl : lv_has ls 4 [(0, .ref (a 0)), (1, .int p0)] := hl
  have i1 := id1 S 64
  have i2 := id2 S 64
  have i3 := id3 S 64
  obtain ⟨hs0, h160, hf0⟩ := hi 0 (by decide)
  obtain ⟨hs1, h161, hf1⟩ := hi 1 (by decide)
  obtain ⟨hs2, h162, hf2⟩ := hi 2 (by decide)
  refine lv_iload_n hx hb dX1_heldByJust_0 rfl (lv_at hl 1 rfl) ?_
  refine lv_iconst (v := nI 1) hx hb dX1_heldByJust_1 (by decide) ?_
  refine lv_icmp_lt (tgt := 10) hx hb dX1_heldByJust_2 (by decide) (fun c1 => ?_) (fun c1 => ?_)
  · refine lv_iconst (v := (-1)) hx hb dX1_heldByJust_10 (by decide) ?_
    exact W.iret (v := (-1)) hx hb hr (fun t_ ht_ hW_ => ⟨⟨_, (its, wts, szs, exs, snt, org, hit, rnd, lt), rfl, XPost.mk (S, w, lt) (hb_lo _ c1) (hi) he rfl, by rw [ht_]; exact hP, va_K.moved hW_.alike hK, hD⟩, hS.F ht_⟩) hS.2.2 dX1_heldByJust_11
  · refine lv_iload_n hx hb dX1_heldByJust_5 rfl (lv_at hl 1 rfl) ?_
    refine lv_iconst (v := nI 3) hx hb dX1_heldByJust_6 (by decide) ?_
    refine lv_icmp_le (tgt := 12) hx hb dX1_heldByJust_7 (by decide) (fun c2 => ?_) (fun c2 => ?_)
    · obtain ⟨K, hK1, hK3, rfl⟩ := hb_in c1 c2
      refine lv_aload_n hx hb dX1_heldByJust_12 rfl (lv_at hl 0 rfl) ?_
      refine lv_iconst (v := nI 0) hx hb dX1_heldByJust_13 (by decide) ?_
      refine cs_Wv (ci := 0) (As := [.int (nI 0)]) (rest := []) ⟨hx, hb, hml, hown, hts⟩ (met_compareThree l s.heap.size D a d its wts szs exs snt org hit rnd lt S w 0 (by decide) hi he) (cwV 1 hts (lw_V q151 q153 qs9 q20 q154) rfl rfl rfl (by decide +kernel) ⟨Nat.le_of_ble_eq_true rfl, Nat.le_of_ble_eq_true rfl⟩) hK hP hD hS hA rfl rfl rfl hl.1 rfl (Nat.le_of_ble_eq_true rfl) dX1_heldByJust_14 ⟨Nat.zero_le _, Nat.zero_le _⟩ (fun u H locs hw hP hD hS _ => ?_)
      obtain ⟨f, g, h, z⟩ := u
      have hok : HitOk (S 0) (an (S (oq 0)) (S (or_ 0))) h := hw
      refine lv_aload_n hx hb dX1_heldByJust_17 rfl (lv_at hl 0 rfl) ?_
      refine lv_iconst (v := nI 0) hx hb dX1_heldByJust_18 (by decide) ?_
      refine cs_R (ci := 0) (As := [.int (nI 0)]) (rest := []) ⟨hx, hb, hml, hown, hts⟩ (met_hits l D a d its wts szs exs f g h z lt S w 0 (by decide) hi) (cwV 1 hts (lw_V q131 q133 qs7 q20 q134) rfl rfl rfl (by decide +kernel) ⟨Nat.le_of_ble_eq_true rfl, Nat.le_of_ble_eq_true rfl⟩) hK hP rfl rfl rfl hl.1 rfl (Nat.le_of_ble_eq_true rfl) dX1_heldByJust_19 ⟨Nat.zero_le _, Nat.zero_le _⟩ (fun r hw => ?_)
      rw [hit_ct hok 64 (Nat.le_refl _)] at hw
      replace hw : r = nI (fb_ct (hk S 3) 64) := by rw [hw, i3]; rfl
      subst hw
      refine lv_istore_n (lv' := [(2, .int (nI (fb_ct (hk S 3) 64))), (0, .ref (a 0)), (1, .int (nI K))]) hx hb dX1_heldByJust_22 rfl hl (by decide) rfl (fun ls hl => ?_)
      refine lv_iload_n hx hb dX1_heldByJust_23 rfl (lv_at hl 2 rfl) ?_
      refine lv_iconst (v := nI 3) hx hb dX1_heldByJust_24 (by decide) ?_
      refine xb_ne (tgt := 30) hx hb dX1_heldByJust_25 (by decide) (by omega) (by omega) (fun c3 => ?_) (fun c3 => ?_)
      · refine lv_aload_n hx hb dX1_heldByJust_30 rfl (lv_at hl 1 rfl) ?_
        refine lv_iconst (v := nI 0) hx hb dX1_heldByJust_31 (by decide) ?_
        refine lv_iconst (v := nI 1) hx hb dX1_heldByJust_32 (by decide) ?_
        refine cs_Wi (ci := 0) (As := [.int (nI 0), .int (nI 1)]) (rest := []) ⟨hx, hb, hml, hown, hts⟩ (met_pairCount l H.size D a d its wts szs exs f g h z lt S w 0 1 (by decide) (by decide) hi he) (cwV 2 hts (lw_V q167 q169 qs10 q20 q170) rfl rfl rfl (by decide +kernel) ⟨Nat.le_of_ble_eq_true rfl, Nat.le_of_ble_eq_true rfl⟩) hK hP hD hS hA rfl rfl rfl hl.1 rfl (Nat.le_of_ble_eq_true rfl) dX1_heldByJust_33 ⟨Nat.zero_le _, Nat.zero_le _⟩ (fun r1 u H locs hw hP hD hS _ => ?_)
        obtain ⟨f1, g1, h1, z1⟩ := u
        replace hw : r1 = nI (fb_ct (an (S 0) (S 1)) 64) := hw
        subst hw
        refine lv_aload_n hx hb dX1_heldByJust_36 rfl (lv_at hl 1 rfl) ?_
        refine lv_iconst (v := nI 0) hx hb dX1_heldByJust_37 (by decide) ?_
        refine lv_iconst (v := nI 2) hx hb dX1_heldByJust_38 (by decide) ?_
        refine cs_Wi (ci := 0) (As := [.int (nI 0), .int (nI 2)]) (rest := [.int (nI (fb_ct (an (S 0) (S 1)) 64))]) ⟨hx, hb, hml, hown, hts⟩ (met_pairCount l H.size D a d its wts szs exs f1 g1 h1 z1 lt S w 0 2 (by decide) (by decide) hi he) (cwV 2 hts (lw_V q167 q169 qs10 q20 q170) rfl rfl rfl (by decide +kernel) ⟨Nat.le_of_ble_eq_true rfl, Nat.le_of_ble_eq_true rfl⟩) hK hP hD hS hA rfl rfl rfl hl.1 rfl (Nat.le_of_ble_eq_true rfl) dX1_heldByJust_39 ⟨Nat.zero_le _, Nat.zero_le _⟩ (fun r2 u H locs hw hP hD hS _ => ?_)
        obtain ⟨f2, g2, h2, z2⟩ := u
        replace hw : r2 = nI (fb_ct (an (S 0) (S 2)) 64) := hw
        subst hw
        refine lv_iadd hx hb dX1_heldByJust_42 ?_
        refine xr_set (y := nI ((fb_ct (an (S 0) (S 1)) 64) + (fb_ct (an (S 0) (S 2)) 64))) (nI_add _ _) ?_
        refine lv_aload_n hx hb dX1_heldByJust_43 rfl (lv_at hl 1 rfl) ?_
        refine lv_iconst (v := nI 1) hx hb dX1_heldByJust_44 (by decide) ?_
        refine lv_iconst (v := nI 2) hx hb dX1_heldByJust_45 (by decide) ?_
        refine cs_Wi (ci := 0) (As := [.int (nI 1), .int (nI 2)]) (rest := [.int (nI ((fb_ct (an (S 0) (S 1)) 64) + (fb_ct (an (S 0) (S 2)) 64)))]) ⟨hx, hb, hml, hown, hts⟩ (met_pairCount l H.size D a d its wts szs exs f2 g2 h2 z2 lt S w 1 2 (by decide) (by decide) hi he) (cwV 2 hts (lw_V q167 q169 qs10 q20 q170) rfl rfl rfl (by decide +kernel) ⟨Nat.le_of_ble_eq_true rfl, Nat.le_of_ble_eq_true rfl⟩) hK hP hD hS hA rfl rfl rfl hl.1 rfl (Nat.le_of_ble_eq_true rfl) dX1_heldByJust_46 ⟨Nat.zero_le _, Nat.zero_le _⟩ (fun r3 u H locs hw hP hD hS _ => ?_)
        obtain ⟨f3, g3, h3, z3⟩ := u
        replace hw : r3 = nI (fb_ct (an (S 1) (S 2)) 64) := hw
        subst hw
        refine lv_iadd hx hb dX1_heldByJust_49 ?_
        refine xr_set (y := nI (((fb_ct (an (S 0) (S 1)) 64) + (fb_ct (an (S 0) (S 2)) 64)) + (fb_ct (an (S 1) (S 2)) 64))) (nI_add _ _) ?_
        refine lv_istore_n (lv' := [(3, .int (nI (((fb_ct (an (S 0) (S 1)) 64) + (fb_ct (an (S 0) (S 2)) 64)) + (fb_ct (an (S 1) (S 2)) 64)))), (2, .int (nI (fb_ct (hk S 3) 64))), (0, .ref (a 0)), (1, .int (nI K))]) hx hb dX1_heldByJust_50 rfl hl (by decide) rfl (fun ls hl => ?_)
        refine lv_iload_n hx hb dX1_heldByJust_51 rfl (lv_at hl 3 rfl) ?_
        refine lv_iconst (v := nI 2) hx hb dX1_heldByJust_52 (by decide) ?_
        refine xb_ne (tgt := 62) hx hb dX1_heldByJust_53 (by decide) (by omega) (by omega) (fun c4 => ?_) (fun c4 => ?_)
        · have eK : K = 1 := by omega
          subst eK
          refine lv_aload_n hx hb dX1_heldByJust_62 rfl (lv_at hl 2 rfl) ?_
          refine xg_szs hx hb hts hown hK hP dX1_heldByJust_63 ?_
          refine lv_iconst (v := nI 0) hx hb dX1_heldByJust_66 (by decide) ?_
          refine xl_szs hx hb hK hP (j := 0) (by omega) dX1_heldByJust_67 ?_
          refine xr_set (y := nI (fb_ct (S 0) 64)) hs0 ?_
          refine lv_aload_n hx hb dX1_heldByJust_68 rfl (lv_at hl 2 rfl) ?_
          refine xg_szs hx hb hts hown hK hP dX1_heldByJust_69 ?_
          refine lv_iconst (v := nI 1) hx hb dX1_heldByJust_72 (by decide) ?_
          refine xl_szs hx hb hK hP (j := 1) (by omega) dX1_heldByJust_73 ?_
          refine xr_set (y := nI (fb_ct (S 1) 64)) hs1 ?_
          refine lv_iadd hx hb dX1_heldByJust_74 ?_
          refine xr_set (y := nI ((fb_ct (S 0) 64) + (fb_ct (S 1) 64))) (nI_add _ _) ?_
          refine lv_aload_n hx hb dX1_heldByJust_75 rfl (lv_at hl 2 rfl) ?_
          refine xg_szs hx hb hts hown hK hP dX1_heldByJust_76 ?_
          refine lv_iconst (v := nI 2) hx hb dX1_heldByJust_79 (by decide) ?_
          refine xl_szs hx hb hK hP (j := 2) (by omega) dX1_heldByJust_80 ?_
          refine xr_set (y := nI (fb_ct (S 2) 64)) hs2 ?_
          refine lv_iadd hx hb dX1_heldByJust_81 ?_
          refine xr_set (y := nI (((fb_ct (S 0) 64) + (fb_ct (S 1) 64)) + (fb_ct (S 2) 64))) (nI_add _ _) ?_
          refine lv_iconst (v := nI 2) hx hb dX1_heldByJust_82 (by decide) ?_
          refine lv_iload_n hx hb dX1_heldByJust_83 rfl (lv_at hl 0 rfl) ?_
          refine lv_imul hx hb dX1_heldByJust_84 ?_
          refine xr_set (y := nI (2 * (((fb_ct (an (S 0) (S 1)) 64) + (fb_ct (an (S 0) (S 2)) 64)) + (fb_ct (an (S 1) (S 2)) 64)))) (pk_mul _ _) ?_
          refine lv_isub hx hb dX1_heldByJust_85 ?_
          refine lv_iconst (v := nI 3) hx hb dX1_heldByJust_86 (by decide) ?_
          refine lv_iload_n hx hb dX1_heldByJust_87 rfl (lv_at hl 1 rfl) ?_
          refine lv_imul hx hb dX1_heldByJust_88 ?_
          refine xr_set (y := nI (3 * (fb_ct (hk S 3) 64))) (pk_mul _ _) ?_
          refine lv_iadd hx hb dX1_heldByJust_89 ?_
          refine xr_set (y := nI (fb_ct (hk S 1) 64)) (ring3 (by omega)) ?_
          exact W.iret (v := nI (fb_ct (hk S 1) 64)) hx hb hr (fun t_ ht_ hW_ => ⟨⟨_, (its, wts, szs, exs, f3, g3, h3, z3, lt), rfl, XPost.mk (S, w, lt) (hb_ok (S, w, lt) (by decide) (by decide)) (hi) he rfl, by rw [ht_]; exact hP, va_K.moved hW_.alike hK, hD⟩, hS.F ht_⟩) hS.2.2 dX1_heldByJust_90
        · subst c4
          refine lv_iload_n hx hb dX1_heldByJust_56 rfl (lv_at hl 0 rfl) ?_
          refine lv_iconst (v := nI 3) hx hb dX1_heldByJust_57 (by decide) ?_
          refine lv_iload_n hx hb dX1_heldByJust_58 rfl (lv_at hl 1 rfl) ?_
          refine lv_imul hx hb dX1_heldByJust_59 ?_
          refine xr_set (y := nI (3 * (fb_ct (hk S 3) 64))) (pk_mul _ _) ?_
          refine lv_isub hx hb dX1_heldByJust_60 ?_
          refine xr_set (y := nI ((((fb_ct (an (S 0) (S 1)) 64) + (fb_ct (an (S 0) (S 2)) 64)) + (fb_ct (an (S 1) (S 2)) 64)) - (3 * (fb_ct (hk S 3) 64)))) (pk_sub (by omega)) ?_
          refine xr_set (y := nI (fb_ct (hk S 2) 64)) (congrArg nI (by omega)) ?_
          exact W.iret (v := nI (fb_ct (hk S 2) 64)) hx hb hr (fun t_ ht_ hW_ => ⟨⟨_, (its, wts, szs, exs, f3, g3, h3, z3, lt), rfl, XPost.mk (S, w, lt) (hb_ok (S, w, lt) (by decide) (by decide)) (hi) he rfl, by rw [ht_]; exact hP, va_K.moved hW_.alike hK, hD⟩, hS.F ht_⟩) hS.2.2 dX1_heldByJust_61
      · subst c3
        refine lv_iload_n hx hb dX1_heldByJust_28 rfl (lv_at hl 0 rfl) ?_
        exact W.iret (v := nI (fb_ct (hk S 3) 64)) hx hb hr (fun t_ ht_ hW_ => ⟨⟨_, (its, wts, szs, exs, f, g, h, z, lt), rfl, XPost.mk (S, w, lt) (hb_ok (S, w, lt) (by decide) (by decide)) (hi) he rfl, by rw [ht_]; exact hP, va_K.moved hW_.alike hK, hD⟩, hS.F ht_⟩) hS.2.2 dX1_heldByJust_29
    · refine lv_iconst (v := (-1)) hx hb dX1_heldByJust_10 (by decide) ?_
      exact W.iret (v := (-1)) hx hb hr (fun t_ ht_ hW_ => ⟨⟨_, (its, wts, szs, exs, snt, org, hit, rnd, lt), rfl, XPost.mk (S, w, lt) (hb_hi _ c2) (hi) he rfl, by rw [ht_]; exact hP, va_K.moved hW_.alike hK, hD⟩, hS.F ht_⟩) hS.2.2 dX1_heldByJust_11
set_option maxHeartbeats 4000000 in
set_option maxRecDepth 100000 in
theorem met_any (l : Launch) (sz : Nat) (D : va_G) (a : Nat → Nat) (d : Nat → ClassId) (its wts szs exs snt org hit : Nat → Int32) (rnd lt : Int32) (S : Nat → Nat → Bool) (w : Nat → Nat → Int32) (hi : XI S w its wts szs) (he : EI exs) : Met l yX1_any (ws_ yX1_any cX1_any 1 (some .int)) ({ frames := 5, cells := 0, slots := 0, locals := 200 } : Room) (va_Pc [.ref (a 0)] (fun U => U.heap.size = sz ∧ va_P D vwCl (wX a d its wts szs exs snt org hit rnd lt) U.heap ∧ va_K D vwCl (tyX d) U ∧ va_D (fun _ => True) (wX a d its wts szs exs snt org hit rnd lt))) (QXi D d (va_A (wX a d its wts szs exs snt org hit rnd lt) sz) (wXu a d) (XPost (F_any (S, w, lt)))) 0 0 (va_A (wX a d its wts szs exs snt org hit rnd lt) sz) := by
  refine Met.ofW (cc := cX1_any) (maxL := 1) (ret := (some .int)) (by decide) rfl ?_
  intro p e s m args below meth c s₁ B hml hv
  obtain ⟨rfl, hsz, hP, hK, hD0⟩ := hv
  have hx := B.exec
  have hb := B.bytes
  have hr := B.returns
  have hlocks := B.notSynchronized
  have hts := atoms_spec (ws := ws_ yX1_any cX1_any 1 (some .int)) B.pre
  have hts : ∀ w ∈ lw_all, w.before _ s = true := fun w h => hts w (List.mem_cons_of_mem _ h)
  have hown : s.vm.findClass RX1 = some m.cls := findClass_of_methodNamed B.named
  subst hsz
  have hD := hD0.self (sz := s.heap.size)
  generalize hAe : va_A (wX a d its wts szs exs snt org hit rnd lt) s.heap.size = A at hD ⊢
  have hA : ∀ q : Nat, s.heap.size ≤ q → A q := fun q h => by rw [← hAe]; exact Or.inr h
  have hS : va_S A s.heap s.heap [] := va_S.rf
  have hl := lv_entry ([.ref (a 0)]) (n := 1) (Nat.le_of_ble_eq_true rfl)
  rw [lg_entry_eq]
  generalize (lg_sl ([.ref (a 0)]) ++ List.replicate (1 - (lg_sl ([.ref (a 0)])).length) Slot.unset).toArray = ls at hl ⊢
  have hl : lv_has ls 1 [(0, .ref (a 0))] := hl
  refine lv_aload_n hx hb dX1_any_0 rfl (lv_at hl 0 rfl) ?_
  refine lv_iconst (v := nI 1) hx hb dX1_any_1 (by decide) ?_
  refine cs_Wi (ci := 0) (As := [.int (nI 1)]) (rest := []) ⟨hx, hb, hml, hown, hts⟩ (met_heldByJust l s.heap.size D a d its wts szs exs snt org hit rnd lt S w (nI 1) hi he) (cwV 1 hts (lw_V q163 q164 q165 q20 q166) rfl rfl rfl (by decide +kernel) ⟨Nat.le_of_ble_eq_true rfl, Nat.le_of_ble_eq_true rfl⟩) hK hP hD hS hA rfl rfl rfl hl.1 rfl (Nat.le_of_ble_eq_true rfl) dX1_any_2 ⟨Nat.zero_le _, Nat.zero_le _⟩ (fun r u H locs hw hP hD hS _ => ?_)
  obtain ⟨i1, w1, s1, e1, n1, o1, t1, r1, l1⟩ := u
  obtain ⟨A_, hF, hX⟩ := hw
  rw [hb_ok _ (by decide) (by decide)] at hF
  obtain ⟨rfl, rfl⟩ := Prod.mk.inj hF
  obtain ⟨hi, he, el⟩ := hX
  replace el : lt = l1 := el.symm
  subst el
  replace hi : XI S w i1 w1 s1 := hi
  replace he : EI e1 := he
  refine lv_aload_n hx hb dX1_any_5 rfl (lv_at hl 0 rfl) ?_
  refine lv_iconst (v := nI 2) hx hb dX1_any_6 (by decide) ?_
  refine cs_Wi (ci := 0) (As := [.int (nI 2)]) (rest := [.int (nI (fb_ct (hk S 1) 64))]) ⟨hx, hb, hml, hown, hts⟩ (met_heldByJust l H.size D a d i1 w1 s1 e1 n1 o1 t1 r1 lt S w (nI 2) hi he) (cwV 1 hts (lw_V q163 q164 q165 q20 q166) rfl rfl rfl (by decide +kernel) ⟨Nat.le_of_ble_eq_true rfl, Nat.le_of_ble_eq_true rfl⟩) hK hP hD hS hA rfl rfl rfl hl.1 rfl (Nat.le_of_ble_eq_true rfl) dX1_any_7 ⟨Nat.zero_le _, Nat.zero_le _⟩ (fun r u H locs hw hP hD hS _ => ?_)
  obtain ⟨i2, w2, s2, e2, n2, o2, t2, r2, l2⟩ := u
  obtain ⟨A_, hF, hX⟩ := hw
  rw [hb_ok _ (by decide) (by decide)] at hF
  obtain ⟨rfl, rfl⟩ := Prod.mk.inj hF
  obtain ⟨hi, he, el⟩ := hX
  replace el : lt = l2 := el.symm
  subst el
  replace hi : XI S w i2 w2 s2 := hi
  replace he : EI e2 := he
  refine lv_iadd hx hb dX1_any_10 ?_
  refine xr_set (y := nI ((fb_ct (hk S 1) 64) + (fb_ct (hk S 2) 64))) (nI_add _ _) ?_
  refine lv_aload_n hx hb dX1_any_11 rfl (lv_at hl 0 rfl) ?_
  refine lv_iconst (v := nI 3) hx hb dX1_any_12 (by decide) ?_
  refine cs_Wi (ci := 0) (As := [.int (nI 3)]) (rest := [.int (nI ((fb_ct (hk S 1) 64) + (fb_ct (hk S 2) 64)))]) ⟨hx, hb, hml, hown, hts⟩ (met_heldByJust l H.size D a d i2 w2 s2 e2 n2 o2 t2 r2 lt S w (nI 3) hi he) (cwV 1 hts (lw_V q163 q164 q165 q20 q166) rfl rfl rfl (by decide +kernel) ⟨Nat.le_of_ble_eq_true rfl, Nat.le_of_ble_eq_true rfl⟩) hK hP hD hS hA rfl rfl rfl hl.1 rfl (Nat.le_of_ble_eq_true rfl) dX1_any_13 ⟨Nat.zero_le _, Nat.zero_le _⟩ (fun r u H locs hw hP hD hS _ => ?_)
  obtain ⟨i3, w3, s3, e3, n3, o3, t3, r3, l3⟩ := u
  obtain ⟨A_, hF, hX⟩ := hw
  rw [hb_ok _ (by decide) (by decide)] at hF
  obtain ⟨rfl, rfl⟩ := Prod.mk.inj hF
  obtain ⟨hi, he, el⟩ := hX
  replace el : lt = l3 := el.symm
  subst el
  replace hi : XI S w i3 w3 s3 := hi
  replace he : EI e3 := he
  refine lv_iadd hx hb dX1_any_16 ?_
  refine xr_set (y := nI (((fb_ct (hk S 1) 64) + (fb_ct (hk S 2) 64)) + (fb_ct (hk S 3) 64))) (nI_add _ _) ?_
  exact W.iret (v := nI (((fb_ct (hk S 1) 64) + (fb_ct (hk S 2) 64)) + (fb_ct (hk S 3) 64))) hx hb hr (fun t_ ht_ hW_ => ⟨⟨_, (i3, w3, s3, e3, n3, o3, t3, r3, lt), rfl, XPost.mk (S, w, lt) (rfl) (hi) he rfl, by rw [ht_]; exact hP, va_K.moved hW_.alike hK, hD⟩, hS.F ht_⟩) hS.2.2 dX1_any_17
set_option maxHeartbeats 4000000 in
set_option maxRecDepth 100000 in
theorem met_alone (l : Launch) (sz : Nat) (D : va_G) (a : Nat → Nat) (d : Nat → ClassId) (its wts szs exs snt org hit : Nat → Int32) (rnd lt : Int32) (S : Nat → Nat → Bool) (w : Nat → Nat → Int32) (p0 : Int32) (hi : XI S w its wts szs) (he : EI exs) : Met l yX1_alone (ws_ yX1_alone cX1_alone 5 (some .int)) ({ frames := 4, cells := 0, slots := 0, locals := 160 } : Room) (va_Pc [.ref (a 0), .int p0] (fun U => U.heap.size = sz ∧ va_P D vwCl (wX a d its wts szs exs snt org hit rnd lt) U.heap ∧ va_K D vwCl (tyX d) U ∧ va_D (fun _ => True) (wX a d its wts szs exs snt org hit rnd lt))) (QXi D d (va_A (wX a d its wts szs exs snt org hit rnd lt) sz) (wXu a d) (XPost (F_alone (S, w, lt) p0))) 0 0 (va_A (wX a d its wts szs exs snt org hit rnd lt) sz) := by
  refine Met.ofW (cc := cX1_alone) (maxL := 5) (ret := (some .int)) (by decide) rfl ?_
  intro p e s m args below meth c s₁ B hml hv
  obtain ⟨rfl, hsz, hP, hK, hD0⟩ := hv
  have hx := B.exec
  have hb := B.bytes
  have hr := B.returns
  have hlocks := B.notSynchronized
  have hts := atoms_spec (ws := ws_ yX1_alone cX1_alone 5 (some .int)) B.pre
  have hts : ∀ w ∈ lw_all, w.before _ s = true := fun w h => hts w (List.mem_cons_of_mem _ h)
  have hown : s.vm.findClass RX1 = some m.cls := findClass_of_methodNamed B.named
  subst hsz
  have hD := hD0.self (sz := s.heap.size)
  generalize hAe : va_A (wX a d its wts szs exs snt org hit rnd lt) s.heap.size = A at hD ⊢
  have hA : ∀ q : Nat, s.heap.size ≤ q → A q := fun q h => by rw [← hAe]; exact Or.inr h
  have hS : va_S A s.heap s.heap [] := va_S.rf
  have hl := lv_entry ([.ref (a 0), .int p0]) (n := 5) (Nat.le_of_ble_eq_true rfl)
  rw [lg_entry_eq]
  generalize (lg_sl ([.ref (a 0), .int p0]) ++ List.replicate (5 - (lg_sl ([.ref (a 0), .int p0])).length) Slot.unset).toArray = ls at hl ⊢
  have hl : lv_has ls 5 [(0, .ref (a 0)), (1, .int p0)] := hl
  refine lv_iload_n hx hb dX1_alone_0 rfl (lv_at hl 1 rfl) ?_
  refine cs_S (As := [.int p0]) (rest := []) ⟨hx, hb, hml, hown, hts⟩ (met_isParty l p0) (va_cwS 1 hts (lw_S q34 q35 q20 q36) rfl rfl rfl (by decide +kernel) ⟨Nat.le_of_ble_eq_true rfl, Nat.le_of_ble_eq_true rfl⟩) rfl hl.1 rfl (Nat.le_of_ble_eq_true rfl) dX1_alone_1 ⟨Nat.zero_le _, Nat.zero_le _⟩ (fun r hw => ?_)
  rcases hw with ⟨rfl, P, hP3, rfl⟩ | ⟨rfl, hbad⟩
  · obtain ⟨hs, h16, hf⟩ := hi P hP3
    refine lv_if_ne (tgt := 9) hx hb dX1_alone_4 (by decide) (fun _ => ?_) (fun c => absurd c (by decide))
    have hoq : oq P < 3 := by unfold oq; split <;> omega
    have hor : or_ P < 3 := by unfold or_ oq; split <;> omega
    have hoP : P + oq P ≤ 3 := by unfold oq; split <;> omega
    have iA := idA S hP3 64
    have rest : W p l e (headSpec (ws_ yX1_alone cX1_alone 5 (some .int)) ({ frames := 4, cells := 0, slots := 0, locals := 160 } : Room)).room s m ([.ref (a 0), .int (nI P)] : List Value).toArray below meth c s.heap [] 0 0 (MQ below (QXi D d A (wXu a d) (XPost (F_alone (S, w, lt) (nI P)))) ([.ref (a 0), .int (nI P)] : List Value).toArray s 0 0 A) (F0 m 18 ls [.int (nI (oq P))]) := by
      refine lv_istore_n (lv' := [(2, .int (nI (oq P))), (0, .ref (a 0)), (1, .int (nI P))]) hx hb dX1_alone_18 rfl hl (by decide) rfl (fun ls hl => ?_)
      refine lv_iconst (v := nI 3) hx hb dX1_alone_19 (by decide) ?_
      refine lv_iload_n hx hb dX1_alone_20 rfl (lv_at hl 2 rfl) ?_
      refine lv_isub hx hb dX1_alone_21 ?_
      refine xr_set (y := nI (3 - P)) (pk_sub (by omega)) ?_
      refine lv_iload_n hx hb dX1_alone_22 rfl (lv_at hl 0 rfl) ?_
      refine lv_isub hx hb dX1_alone_23 ?_
      refine xr_set (y := nI ((3 - P) - (oq P))) (pk_sub (by omega)) ?_
      refine xr_set (y := nI (or_ P)) rfl ?_
      refine lv_istore_n (lv' := [(3, .int (nI (or_ P))), (2, .int (nI (oq P))), (0, .ref (a 0)), (1, .int (nI P))]) hx hb dX1_alone_24 rfl hl (by decide) rfl (fun ls hl => ?_)
      refine lv_aload_n hx hb dX1_alone_25 rfl (lv_at hl 2 rfl) ?_
      refine lv_iload_n hx hb dX1_alone_26 rfl (lv_at hl 3 rfl) ?_
      refine cs_Wv (ci := 0) (As := [.int (nI P)]) (rest := []) ⟨hx, hb, hml, hown, hts⟩ (met_compareThree l s.heap.size D a d its wts szs exs snt org hit rnd lt S w P hP3 hi he) (cwV 1 hts (lw_V q151 q153 qs9 q20 q154) rfl rfl rfl (by decide +kernel) ⟨Nat.le_of_ble_eq_true rfl, Nat.le_of_ble_eq_true rfl⟩) hK hP hD hS hA rfl rfl rfl hl.1 rfl (Nat.le_of_ble_eq_true rfl) dX1_alone_27 ⟨Nat.zero_le _, Nat.zero_le _⟩ (fun u H locs hw hP hD hS _ => ?_)
      obtain ⟨f, g, h, z⟩ := u
      have hok : HitOk (S P) (an (S (oq P)) (S (or_ P))) h := hw
      refine lv_aload_n hx hb dX1_alone_30 rfl (lv_at hl 2 rfl) ?_
      refine lv_iload_n hx hb dX1_alone_31 rfl (lv_at hl 3 rfl) ?_
      refine cs_R (ci := 0) (As := [.int (nI P)]) (rest := []) ⟨hx, hb, hml, hown, hts⟩ (met_hits l D a d its wts szs exs f g h z lt S w P hP3 hi) (cwV 1 hts (lw_V q131 q133 qs7 q20 q134) rfl rfl rfl (by decide +kernel) ⟨Nat.le_of_ble_eq_true rfl, Nat.le_of_ble_eq_true rfl⟩) hK hP rfl rfl rfl hl.1 rfl (Nat.le_of_ble_eq_true rfl) dX1_alone_32 ⟨Nat.zero_le _, Nat.zero_le _⟩ (fun r hw => ?_)
      rw [hit_ct hok 64 (Nat.le_refl _)] at hw
      replace hw : r = nI (fb_ct (an (S P) (an (S (oq P)) (S (or_ P)))) 64) := hw
      subst hw
      refine lv_istore (lv' := [(4, .int (nI (fb_ct (an (S P) (an (S (oq P)) (S (or_ P)))) 64))), (3, .int (nI (or_ P))), (2, .int (nI (oq P))), (0, .ref (a 0)), (1, .int (nI P))]) hx hb dX1_alone_35 hl (by decide) rfl (fun ls hl => ?_)
      refine lv_aload_n hx hb dX1_alone_37 rfl (lv_at hl 3 rfl) ?_
      refine xg_szs hx hb hts hown hK hP dX1_alone_38 ?_
      refine lv_iload_n hx hb dX1_alone_41 rfl (lv_at hl 4 rfl) ?_
      refine xl_szs hx hb hK hP (j := P) (by omega) dX1_alone_42 ?_
      refine xr_set (y := nI (fb_ct (S P) 64)) hs ?_
      refine lv_aload_n hx hb dX1_alone_43 rfl (lv_at hl 3 rfl) ?_
      refine lv_iload_n hx hb dX1_alone_44 rfl (lv_at hl 4 rfl) ?_
      refine lv_iload_n hx hb dX1_alone_45 rfl (lv_at hl 2 rfl) ?_
      refine cs_Wi (ci := 0) (As := [.int (nI P), .int (nI (oq P))]) (rest := [.int (nI (fb_ct (S P) 64))]) ⟨hx, hb, hml, hown, hts⟩ (met_pairCount l H.size D a d its wts szs exs f g h z lt S w P (oq P) hP3 hoq hi he) (cwV 2 hts (lw_V q167 q169 qs10 q20 q170) rfl rfl rfl (by decide +kernel) ⟨Nat.le_of_ble_eq_true rfl, Nat.le_of_ble_eq_true rfl⟩) hK hP hD hS hA rfl rfl rfl hl.1 rfl (Nat.le_of_ble_eq_true rfl) dX1_alone_46 ⟨Nat.zero_le _, Nat.zero_le _⟩ (fun r1 u H locs hw hP hD hS _ => ?_)
      obtain ⟨f1, g1, h1, z1⟩ := u
      replace hw : r1 = nI (fb_ct (an (S P) (S (oq P))) 64) := hw
      subst hw
      refine lv_isub hx hb dX1_alone_49 ?_
      refine lv_aload_n hx hb dX1_alone_50 rfl (lv_at hl 3 rfl) ?_
      refine lv_iload_n hx hb dX1_alone_51 rfl (lv_at hl 4 rfl) ?_
      refine lv_iload_n hx hb dX1_alone_52 rfl (lv_at hl 1 rfl) ?_
      refine cs_Wi (ci := 0) (As := [.int (nI P), .int (nI (or_ P))]) (rest := [.int ((nI (fb_ct (S P) 64)) - (nI (fb_ct (an (S P) (S (oq P))) 64)))]) ⟨hx, hb, hml, hown, hts⟩ (met_pairCount l H.size D a d its wts szs exs f1 g1 h1 z1 lt S w P (or_ P) hP3 hor hi he) (cwV 2 hts (lw_V q167 q169 qs10 q20 q170) rfl rfl rfl (by decide +kernel) ⟨Nat.le_of_ble_eq_true rfl, Nat.le_of_ble_eq_true rfl⟩) hK hP hD hS hA rfl rfl rfl hl.1 rfl (Nat.le_of_ble_eq_true rfl) dX1_alone_53 ⟨Nat.zero_le _, Nat.zero_le _⟩ (fun r2 u H locs hw hP hD hS _ => ?_)
      obtain ⟨f2, g2, h2, z2⟩ := u
      replace hw : r2 = nI (fb_ct (an (S P) (S (or_ P))) 64) := hw
      subst hw
      refine lv_isub hx hb dX1_alone_56 ?_
      refine lv_iload hx hb dX1_alone_57 (lv_at hl 0 rfl) ?_
      refine lv_iadd hx hb dX1_alone_59 ?_
      refine xr_set (y := nI (fb_ct (an (S P) (hk S 1)) 64)) (ring4 (by omega)) ?_
      exact W.iret (v := nI (fb_ct (an (S P) (hk S 1)) 64)) hx hb hr (fun t_ ht_ hW_ => ⟨⟨_, (its, wts, szs, exs, f2, g2, h2, z2, lt), rfl, XPost.mk (S, w, lt) (onN_ok hP3 (by decide) _ _) (hi) he rfl, by rw [ht_]; exact hP, va_K.moved hW_.alike hK, hD⟩, hS.F ht_⟩) hS.2.2 dX1_alone_60
    refine lv_iload_n hx hb dX1_alone_9 rfl (lv_at hl 1 rfl) ?_
    refine lv_if_ne (tgt := 17) hx hb dX1_alone_10 (by decide) (fun c7 => ?_) (fun c7 => ?_)
    · refine lv_iconst (v := nI 0) hx hb dX1_alone_17 (by decide) ?_
      refine xr_set (y := nI (oq P)) (by unfold oq; rw [if_neg (fun q1 => c7 (by rw [q1]; rfl))]) ?_
      exact rest
    · refine lv_iconst (v := nI 1) hx hb dX1_alone_13 (by decide) ?_
      refine lv_goto (tgt := 18) hx hb dX1_alone_14 (by decide) ?_
      refine xr_set (y := nI (oq P)) (by unfold oq; rw [if_pos (nI_inj (by omega) (by decide) (show nI P = nI 0 from c7))]) ?_
      exact rest
  · refine lv_if_ne (tgt := 9) hx hb dX1_alone_4 (by decide) (fun c => absurd c (by decide)) (fun _ => ?_)
    refine lv_iconst (v := (-1)) hx hb dX1_alone_7 (by decide) ?_
    exact W.iret (v := (-1)) hx hb hr (fun t_ ht_ hW_ => ⟨⟨_, (its, wts, szs, exs, snt, org, hit, rnd, lt), rfl, XPost.mk (S, w, lt) (onN_bad (by decide) hbad _ _) (hi) he rfl, by rw [ht_]; exact hP, va_K.moved hW_.alike hK, hD⟩, hS.F ht_⟩) hS.2.2 dX1_alone_8
end
section
theorem gm_in {p : Int32} {x y : Nat} (hx : x < 2 ^ 31) (hy : y + 1 < 2 ^ 31) (h1 : ¬ p < nI x) (h2 : p ≤ nI y) : ∃ j, x ≤ j ∧ j ≤ y ∧ p = nI j := by
  rw [i_lt, nI_toInt hx] at h1
  rw [i_le, nI_toInt (by omega)] at h2
  rcases pk_ix p hy with q | q | ⟨j, hj, e⟩
  · rw [i_lt, i_0] at q
    omega
  · rw [i_le, nI_toInt hy] at q
    omega
  · rw [e, nI_toInt (by omega)] at h1
    exact ⟨j, by omega, by omega, e⟩
theorem gm_ok (A : AS) {P N K : Nat} (hP : P < 3) (h1 : 64 ≤ N) (h2 : N ≤ 1087) (h3 : 1 ≤ K) (h4 : K ≤ 63) : F_giveMany A (nI P) (nI N) (nI K) = G_many A P N K := by
  unfold F_giveMany
  rw [onN_ok hP (by decide), if_neg, if_neg, nI_clamp (by omega), nI_clamp (by omega)]
  · rintro (q | q)
    · exact nI_nlt h3 (by omega) q
    · exact nI_nlt h4 (by decide) q
  · rintro (q | q)
    · exact nI_nlt h1 (by omega) q
    · exact nI_nlt h2 (by decide) q
theorem b_or {F i : Nat} (hF : F < 2 ^ 64) (hi : i < 64) : lN F ||| lN (1 * 2 ^ i) = lN (F ||| 2 ^ i) := by
  rw [Nat.one_mul]
  exact wb_or hF (wb_lt2 hi)
theorem b_bit {F i : Nat} {f : Nat → Bool} (h : Bt F f) (hi : i < 64) : lN (F / 2 ^ i) &&& lN 1 = lN (f i).toNat := by
  rw [← Bt_bit h hi]
  exact wb_a1 (Nat.lt_of_le_of_lt (Nat.div_le_self _ _) h.1)
/-- the sets while the new items below j are in -/
def gjS (S : Nat → Nat → Bool) (f : Nat → Bool) (P j : Nat) : Nat → Nat → Bool := fun p i => if p = P then S P i || (decide (i < j) && f i) else S p i
def gjW (w : Nat → Nat → Int32) (f : Nat → Bool) (P j : Nat) : Nat → Nat → Int32 := fun p i => if p = P ∧ (decide (i < j) && f i) = true then nI 1 else w p i
theorem gjS_at {S : Nat → Nat → Bool} {f : Nat → Bool} {P j i : Nat} : gjS S f P j P i = (S P i || (decide (i < j) && f i)) := if_pos rfl
theorem gj_0 {S : Nat → Nat → Bool} {f : Nat → Bool} {P p i : Nat} : S p i = gjS S f P 0 p i := by
  unfold gjS
  split
  · rename_i e
    subst e
    rw [decide_eq_false (Nat.not_lt_zero i), Bool.false_and, Bool.or_false]
  · rfl
theorem gj_0w {w : Nat → Nat → Int32} {f : Nat → Bool} {P p i : Nat} : w p i = gjW w f P 0 p i := by
  unfold gjW
  rw [if_neg]
  intro q
  rw [decide_eq_false (Nat.not_lt_zero i), Bool.false_and] at q
  cases q.2
theorem gj_lt {i j : Nat} : decide (i < j + 1) = (decide (i < j) || decide (i = j)) := by
  by_cases h : i < j
  · rw [decide_eq_true h, decide_eq_true (show i < j + 1 by omega), Bool.true_or]
  · by_cases h2 : i = j
    · rw [decide_eq_true h2, decide_eq_true (show i < j + 1 by omega), Bool.or_true]
    · rw [decide_eq_false h, decide_eq_false h2, decide_eq_false (show ¬ i < j + 1 by omega), Bool.false_or]
theorem gj_no {S : Nat → Nat → Bool} {f : Nat → Bool} {P j p i : Nat} (h : f j = false) : gjS S f P j p i = gjS S f P (j + 1) p i := by
  unfold gjS
  split
  · rw [gj_lt]
    by_cases e : i = j
    · subst e
      rw [h, Bool.and_false, Bool.and_false]
    · rw [decide_eq_false e, Bool.or_false]
  · rfl
theorem gj_now {w : Nat → Nat → Int32} {f : Nat → Bool} {P j p i : Nat} (h : f j = false) : gjW w f P j p i = gjW w f P (j + 1) p i := by
  have e : (decide (i < j + 1) && f i) = (decide (i < j) && f i) := by
    rw [gj_lt]
    by_cases e : i = j
    · subst e
      rw [h, Bool.and_false, Bool.and_false]
    · rw [decide_eq_false e, Bool.or_false]
  unfold gjW
  rw [e]
theorem gj_yes {S : Nat → Nat → Bool} {f : Nat → Bool} {P j p i : Nat} (h : f j = true) : sS (gjS S f P j) P j true p i = gjS S f P (j + 1) p i := by
  unfold sS
  by_cases e : p = P
  · subst e
    rw [if_pos rfl]
    unfold s1
    rw [gjS_at, gjS_at, gj_lt]
    by_cases e2 : i = j
    · subst e2
      rw [if_pos rfl, decide_eq_true rfl, h, Bool.or_true, Bool.true_and, Bool.or_true]
    · rw [if_neg e2, decide_eq_false e2, Bool.or_false]
  · rw [if_neg e]
    unfold gjS
    rw [if_neg e, if_neg e]
theorem gj_yesw {w : Nat → Nat → Int32} {f : Nat → Bool} {P j p i : Nat} (h : f j = true) : sW (gjW w f P j) P j (nI 1) p i = gjW w f P (j + 1) p i := by
  unfold sW gjW
  by_cases e : p = P ∧ i = j
  · rw [if_pos e, if_pos]
    rw [e.2, h, decide_eq_true (Nat.lt_succ_self j)]
    exact ⟨e.1, rfl⟩
  · rw [if_neg e, gj_lt]
    by_cases e2 : p = P
    · rw [decide_eq_false (fun q => e ⟨e2, q⟩), Bool.or_false]
    · rw [if_neg (fun q => e2 q.1), if_neg (fun q => e2 q.1)]
theorem gj_lt16 {S : Nat → Nat → Bool} {f : Nat → Bool} {P j : Nat} (hd : ∀ i, ¬ (S P i = true ∧ f i = true)) (hj : j < 64) (hf : f j = true) (h : fb_ct (S P) 64 + fb_ct f 64 ≤ 16) : fb_ct (gjS S f P j P) 64 < 16 ∧ gjS S f P j P j = false := by
  have h0 : gjS S f P j P j = false := by
    rw [gjS_at, decide_eq_false (Nat.lt_irrefl j), Bool.false_and, Bool.or_false]
    cases q : S P j
    · rfl
    · exact absurd ⟨q, hf⟩ (hd j)
  refine ⟨?_, h0⟩
  have h1 := s1_on h0 hj
  have h2 : fb_ct (s1 (gjS S f P j P) j true) 64 ≤ fb_ct (fun i => S P i || f i) 64 := by
    refine fb_ct_sub fun i _ hi => ?_
    unfold s1 at hi
    by_cases e : i = j
    · rw [e, hf, Bool.or_true]
    · rw [if_neg e, gjS_at] at hi
      cases q1 : S P i
      · rw [q1, Bool.false_or, Bool.and_eq_true] at hi
        rw [hi.2]
        rfl
      · rfl
  rw [fb_ct_or (fun i _ => hd i)] at h2
  omega
theorem gj_end {S : Nat → Nat → Bool} {P a k c p i : Nat} (hi : i < 64) : gjS S (frs S P a k c) P 64 p i = gmS S P a k c p i := by
  unfold gjS gmS
  rw [decide_eq_true hi, Bool.true_and]
theorem gj_endw {S : Nat → Nat → Bool} {w : Nat → Nat → Int32} {P a k c p i : Nat} (hi : i < 64) : gjW w (frs S P a k c) P 64 p i = gmW S w P a k c p i := by
  unfold gjW gmW
  rw [decide_eq_true hi, Bool.true_and]
theorem frs_d {S : Nat → Nat → Bool} {P a k c : Nat} (i : Nat) : ¬ (S P i = true ∧ frs S P a k c i = true) := by
  rintro ⟨h1, h2⟩
  unfold frs at h2
  rw [h1, Bool.not_true, Bool.and_false] at h2
  cases h2
theorem frs_ct {S : Nat → Nat → Bool} {P a k c : Nat} (h : S P ((a + c * k) % 64) = false) (h2 : frs S P a k c ((a + c * k) % 64) = false) : fb_ct (frs S P a k c) 64 + 1 = fb_ct (frs S P a k (c + 1)) 64 := by
  rw [← s1_on h2 (Nat.mod_lt _ (by decide))]
  exact fb_ct_cong fun i _ => frs_new h i
theorem frs_cs {S : Nat → Nat → Bool} {P a k c : Nat} (h : S P ((a + c * k) % 64) = true ∨ frs S P a k c ((a + c * k) % 64) = true) : fb_ct (frs S P a k c) 64 = fb_ct (frs S P a k (c + 1)) 64 := fb_ct_cong fun i _ => frs_same h i
set_option maxHeartbeats 4000000 in
set_option maxRecDepth 100000 in
theorem met_giveMany (l : Launch) (sz : Nat) (D : va_G) (a : Nat → Nat) (d : Nat → ClassId) (its wts szs exs snt org hit : Nat → Int32) (rnd lt : Int32) (S : Nat → Nat → Bool) (w : Nat → Nat → Int32) (p0 : Int32) (p1 : Int32) (p2 : Int32) (hi : XI S w its wts szs) (he : EI exs) : Met l yX1_giveMany (ws_ yX1_giveMany cX1_giveMany 9 (some .int)) ({ frames := 1, cells := 0, slots := 0, locals := 40 } : Room) (va_Pc [.ref (a 0), .int p0, .int p1, .int p2] (fun U => U.heap.size = sz ∧ va_P D vwCl (wX a d its wts szs exs snt org hit rnd lt) U.heap ∧ va_K D vwCl (tyX d) U ∧ va_D (fun _ => True) (wX a d its wts szs exs snt org hit rnd lt))) (QXi D d (va_A (wX a d its wts szs exs snt org hit rnd lt) sz) (wXu a d) (XPost (F_giveMany (S, w, lt) p0 p1 p2))) 0 0 (va_A (wX a d its wts szs exs snt org hit rnd lt) sz) := by
  refine Met.ofW (cc := cX1_giveMany) (maxL := 9) (ret := (some .int)) (by decide) rfl ?_
  intro p e s m args below meth c s₁ B hml hv
  obtain ⟨rfl, hsz, hP, hK, hD0⟩ := hv
  have hx := B.exec
  have hb := B.bytes
  have hr := B.returns
  have hlocks := B.notSynchronized
  have hts := atoms_spec (ws := ws_ yX1_giveMany cX1_giveMany 9 (some .int)) B.pre
  have hts : ∀ w ∈ lw_all, w.before _ s = true := fun w h => hts w (List.mem_cons_of_mem _ h)
  have hown : s.vm.findClass RX1 = some m.cls := findClass_of_methodNamed B.named
  subst hsz
  have hD := hD0.self (sz := s.heap.size)
  generalize hAe : va_A (wX a d its wts szs exs snt org hit rnd lt) s.heap.size = A at hD ⊢
  have hA : ∀ q : Nat, s.heap.size ≤ q → A q := fun q h => by rw [← hAe]; exact Or.inr h
  have hS : va_S A s.heap s.heap [] := va_S.rf
  have hl := lv_entry ([.ref (a 0), .int p0, .int p1, .int p2]) (n := 9) (Nat.le_of_ble_eq_true rfl)
  rw [lg_entry_eq]
  generalize (lg_sl ([.ref (a 0), .int p0, .int p1, .int p2]) ++ List.replicate (9 - (lg_sl ([.ref (a 0), .int p0, .int p1, .int p2])).length) Slot.unset).toArray = ls at hl ⊢
  have hl : lv_has ls 9 [(0, .ref (a 0)), (1, .int p0), (2, .int p1), (3, .int p2)] := hl
  refine lv_iload_n hx hb dX1_giveMany_0 rfl (lv_at hl 1 rfl) ?_
  refine cs_S (As := [.int p0]) (rest := []) ⟨hx, hb, hml, hown, hts⟩ (met_isParty l p0) (va_cwS 1 hts (lw_S q34 q35 q20 q36) rfl rfl rfl (by decide +kernel) ⟨Nat.le_of_ble_eq_true rfl, Nat.le_of_ble_eq_true rfl⟩) rfl hl.1 rfl (Nat.le_of_ble_eq_true rfl) dX1_giveMany_1 ⟨Nat.zero_le _, Nat.zero_le _⟩ (fun r hw => ?_)
  rcases hw with ⟨rfl, P, hP3, rfl⟩ | ⟨rfl, hbad⟩
  · obtain ⟨hs, h16, hf⟩ := hi P hP3
    refine lv_if_ne (tgt := 9) hx hb dX1_giveMany_4 (by decide) (fun _ => ?_) (fun c => absurd c (by decide))
    refine lv_iload_n hx hb dX1_giveMany_9 rfl (lv_at hl 2 rfl) ?_
    refine lv_bipush (v := nI 64) hx hb dX1_giveMany_10 (by decide) ?_
    refine lv_icmp_lt (tgt := 22) hx hb dX1_giveMany_12 (by decide) (fun c1 => ?_) (fun c1 => ?_)
    · refine lv_bipush (v := (-2)) hx hb dX1_giveMany_22 (by decide) ?_
      exact W.iret (v := (-2)) hx hb hr (fun t_ ht_ hW_ => ⟨⟨_, (its, wts, szs, exs, snt, org, hit, rnd, lt), rfl, XPost.mk (S, w, lt) ((onN_ok hP3 (by decide) _ _).trans (if_pos (Or.inl c1))) (hi) he rfl, by rw [ht_]; exact hP, va_K.moved hW_.alike hK, hD⟩, hS.F ht_⟩) hS.2.2 dX1_giveMany_24
    · refine lv_iload_n hx hb dX1_giveMany_15 rfl (lv_at hl 2 rfl) ?_
      refine lv_sipush (v := nI 1087) hx hb dX1_giveMany_16 (by decide) ?_
      refine lv_icmp_le (tgt := 25) hx hb dX1_giveMany_19 (by decide) (fun c2 => ?_) (fun c2 => ?_)
      · refine lv_iload_n hx hb dX1_giveMany_25 rfl (lv_at hl 3 rfl) ?_
        refine lv_iconst (v := nI 1) hx hb dX1_giveMany_26 (by decide) ?_
        refine lv_icmp_lt (tgt := 36) hx hb dX1_giveMany_27 (by decide) (fun c3 => ?_) (fun c3 => ?_)
        · refine lv_bipush (v := (-3)) hx hb dX1_giveMany_36 (by decide) ?_
          exact W.iret (v := (-3)) hx hb hr (fun t_ ht_ hW_ => ⟨⟨_, (its, wts, szs, exs, snt, org, hit, rnd, lt), rfl, XPost.mk (S, w, lt) ((onN_ok hP3 (by decide) _ _).trans ((if_neg (fun q => q.elim c1 (fun q2 => absurd c2 (fun q3 => by rw [i_lt] at q2; rw [i_le] at q3; omega)))).trans (if_pos (Or.inl c3)))) (hi) he rfl, by rw [ht_]; exact hP, va_K.moved hW_.alike hK, hD⟩, hS.F ht_⟩) hS.2.2 dX1_giveMany_38
        · refine lv_iload_n hx hb dX1_giveMany_30 rfl (lv_at hl 3 rfl) ?_
          refine lv_bipush (v := nI 63) hx hb dX1_giveMany_31 (by decide) ?_
          refine lv_icmp_le (tgt := 39) hx hb dX1_giveMany_33 (by decide) (fun c4 => ?_) (fun c4 => ?_)
          · obtain ⟨N0, hN1, hN2, rfl⟩ := gm_in (by decide) (by decide) c1 c2
            obtain ⟨K0, hK1, hK2, rfl⟩ := gm_in (by decide) (by decide) c3 c4
            clear c1 c2 c3 c4
            have hF0 := gm_ok (S, w, lt) hP3 hN1 hN2 hK1 hK2
            refine lv_lconst (v := lN 0) hx hb dX1_giveMany_39 (by decide) ?_
            refine lv_lstore (lv' := [(4, .long (lN 0)), (0, .ref (a 0)), (1, .int (nI P)), (2, .int (nI N0)), (3, .int (nI K0))]) hx hb dX1_giveMany_40 hl (by decide) rfl (fun ls hl => ?_)
            refine lv_iconst (v := nI 0) hx hb dX1_giveMany_42 (by decide) ?_
            refine lv_istore (lv' := [(6, .int (nI 0)), (4, .long (lN 0)), (0, .ref (a 0)), (1, .int (nI P)), (2, .int (nI N0)), (3, .int (nI K0))]) hx hb dX1_giveMany_43 hl (by decide) rfl (fun ls hl => ?_)
            refine lv_iconst (v := nI 0) hx hb dX1_giveMany_45 (by decide) ?_
            refine lv_istore (lv' := [(7, .int (nI 0)), (6, .int (nI 0)), (4, .long (lN 0)), (0, .ref (a 0)), (1, .int (nI P)), (2, .int (nI N0)), (3, .int (nI K0))]) hx hb dX1_giveMany_46 hl (by decide) rfl (fun ls hl => ?_)
            have loop2 : ∀ (q : Nat) (j F : Nat) (f g h : Nat → Int32), 64 < j + q → (j ≤ 64) → (Bt F (frs S P (N0 % 64) K0 (N0 / 64))) → (fb_ct (S P) 64 + fb_ct (frs S P (N0 % 64) K0 (N0 / 64)) 64 ≤ 16) → (XI (gjS S (frs S P (N0 % 64) K0 (N0 / 64)) P j) (gjW w (frs S P (N0 % 64) K0 (N0 / 64)) P j) f g h) → ∀ (H : Heap) (locs : List Loc), va_P D vwCl (wX a d f g h exs snt org hit rnd lt) H → va_D A (wX a d f g h exs snt org hit rnd lt) → va_S A s.heap H locs → ∀ (ls : Array Slot), lv_has ls 9 [(7, .int (nI j)), (4, .long (lN F)), (0, .ref (a 0)), (1, .int (nI P))] → W p l e (headSpec (ws_ yX1_giveMany cX1_giveMany 9 (some .int)) ({ frames := 1, cells := 0, slots := 0, locals := 40 } : Room)).room s m ([.ref (a 0), .int (nI P), .int (nI N0), .int (nI K0)] : List Value).toArray below meth c H locs 0 0 (MQ below (QXi D d A (wXu a d) (XPost (F_giveMany (S, w, lt) (nI P) (nI N0) (nI K0)))) ([.ref (a 0), .int (nI P), .int (nI N0), .int (nI K0)] : List Value).toArray s 0 0 A) (F0 m 131 ls []) := by
              intro q
              induction q with
              | zero =>
                intro j F f g h hq hj hB h16a hJ
                exact absurd hq (by omega)
              | succ q ih =>
                intro j F f g h hq hj hB h16a hJ H locs hP hD hS ls hl
                refine lv_iload hx hb dX1_giveMany_131 (lv_at hl 0 rfl) ?_
                refine lv_bipush (v := nI 64) hx hb dX1_giveMany_133 (by decide) ?_
                refine xb_ge (tgt := 173) hx hb dX1_giveMany_135 (by decide) (by omega) (by omega) (fun c5 => ?_) (fun c5 => ?_)
                · have ej : j = 64 := by omega
                  subst ej
                  have hsz : h P = nI (fb_ct (gmS S P (N0 % 64) K0 (N0 / 64) P) 64) := by
                    rw [(hJ P hP3).1]
                    exact congrArg nI (fb_ct_cong fun i hi => gj_end hi)
                  refine lv_aload_n hx hb dX1_giveMany_173 rfl (lv_at hl 2 rfl) ?_
                  refine xg_szs hx hb hts hown hK hP dX1_giveMany_174 ?_
                  refine lv_iload_n hx hb dX1_giveMany_177 rfl (lv_at hl 3 rfl) ?_
                  refine xl_szs hx hb hK hP (j := P) (by omega) dX1_giveMany_178 ?_
                  refine xr_set (y := nI (fb_ct (gmS S P (N0 % 64) K0 (N0 / 64) P) 64)) hsz ?_
                  exact W.iret (v := nI (fb_ct (gmS S P (N0 % 64) K0 (N0 / 64) P) 64)) hx hb hr (fun t_ ht_ hW_ => ⟨⟨_, (f, g, h, exs, snt, org, hit, rnd, lt), rfl, XPost.mk (gmS S P (N0 % 64) K0 (N0 / 64), gmW S w P (N0 % 64) K0 (N0 / 64), lt) (hF0.trans (if_neg (Nat.not_lt.mpr h16a))) (XI_cong hJ (fun _ _ _ hi => gj_end hi) (fun _ _ _ hi _ => gj_endw hi)) he rfl, by rw [ht_]; exact hP, va_K.moved hW_.alike hK, hD⟩, hS.F ht_⟩) hS.2.2 dX1_giveMany_179
                · refine lv_lload hx hb dX1_giveMany_138 (lv_at hl 1 rfl) ?_
                  refine lv_iload hx hb dX1_giveMany_140 (lv_at hl 0 rfl) ?_
                  refine lv_lushr (v := lN (F / 2 ^ j)) hx hb dX1_giveMany_142 (wb_shr hB.1 c5) ?_
                  refine lv_lconst (v := lN 1) hx hb dX1_giveMany_143 (by decide) ?_
                  refine lv_land hx hb dX1_giveMany_144 ?_
                  refine xr_setl (y := lN ((frs S P (N0 % 64) K0 (N0 / 64)) j).toNat) (b_bit hB c5) ?_
                  refine lv_lconst (v := lN 1) hx hb dX1_giveMany_145 (by decide) ?_
                  refine W.lcmp hx hb dX1_giveMany_146 ?_
                  cases hb_ : (frs S P (N0 % 64) K0 (N0 / 64)) j with
                  | false =>
                    refine lv_if_ne (tgt := 167) hx hb dX1_giveMany_147 (by decide) (fun _ => ?_) (fun c => absurd c (by decide))
                    refine lv_iinc (v := nI (j + 1)) (lv' := [(7, .int (nI (j + 1))), (4, .long (lN F)), (0, .ref (a 0)), (1, .int (nI P))]) hx hb dX1_giveMany_167 hl (k := 0) rfl (nI_1 _) (by decide) rfl (fun ls hl => ?_)
                    refine lv_goto (tgt := 131) hx hb dX1_giveMany_170 (by decide) ?_
                    exact ih (j + 1) F f g h (by omega) (by omega) hB h16a (XI_cong hJ (fun _ _ _ _ => gj_no hb_) (fun _ _ _ _ _ => gj_now hb_)) H locs hP hD hS ls (lv_sub hl [0, 1, 2, 3] rfl)
                  | true =>
                    refine lv_if_ne (tgt := 167) hx hb dX1_giveMany_147 (by decide) (fun c => absurd c (by decide)) (fun _ => ?_)
                    obtain ⟨hl16, hj0⟩ := gj_lt16 frs_d c5 hb_ h16a
                    have hct : fb_ct ((gjS S (frs S P (N0 % 64) K0 (N0 / 64)) P j) P) j ≤ fb_ct ((gjS S (frs S P (N0 % 64) K0 (N0 / 64)) P j) P) 64 := fb_ct_mono _ (by omega)
                    refine lv_aload_n hx hb dX1_giveMany_150 rfl (lv_at hl 2 rfl) ?_
                    refine lv_iload_n hx hb dX1_giveMany_151 rfl (lv_at hl 3 rfl) ?_
                    refine lv_iload hx hb dX1_giveMany_152 (lv_at hl 0 rfl) ?_
                    refine cs_Wi (ci := 0) (As := [.int (nI P), .int (nI j)]) (rest := []) ⟨hx, hb, hml, hown, hts⟩ (met_insert l H.size D a d f g h exs snt org hit rnd lt (gjS S (frs S P (N0 % 64) K0 (N0 / 64)) P j) (gjW w (frs S P (N0 % 64) K0 (N0 / 64)) P j) P j hP3 c5 hJ hj0 hl16) (cwV 2 hts (lw_V q79 q81 qs1 q20 q82) rfl rfl rfl (by decide +kernel) ⟨Nat.le_of_ble_eq_true rfl, Nat.le_of_ble_eq_true rfl⟩) hK hP hD hS hA rfl rfl rfl hl.1 rfl (Nat.le_of_ble_eq_true rfl) dX1_giveMany_154 ⟨Nat.zero_le _, Nat.zero_le _⟩ (fun r u H locs hw hP hD hS _ => ?_)
                    obtain ⟨f1, g1, h1⟩ := u
                    obtain ⟨rfl, rfl, rfl, rfl⟩ := hw
                    refine lv_istore (lv' := [(8, .int (nI (16 * P + fb_ct ((gjS S (frs S P (N0 % 64) K0 (N0 / 64)) P j) P) j))), (7, .int (nI j)), (4, .long (lN F)), (0, .ref (a 0)), (1, .int (nI P))]) hx hb dX1_giveMany_157 hl (by decide) rfl (fun ls hl => ?_)
                    refine lv_aload_n hx hb dX1_giveMany_159 rfl (lv_at hl 3 rfl) ?_
                    refine xg_wts hx hb hts hown hK hP dX1_giveMany_160 ?_
                    refine lv_iload hx hb dX1_giveMany_163 (lv_at hl 0 rfl) ?_
                    refine lv_iconst (v := nI 1) hx hb dX1_giveMany_165 (by decide) ?_
                    refine xs_wts hx hb hK hP hD hS (j := (16 * P + fb_ct ((gjS S (frs S P (N0 % 64) K0 (N0 / 64)) P j) P) j)) (by omega) dX1_giveMany_166 (fun H locs hP hD hS => ?_)
                    refine lv_iinc (v := nI (j + 1)) (lv' := [(7, .int (nI (j + 1))), (8, .int (nI (16 * P + fb_ct ((gjS S (frs S P (N0 % 64) K0 (N0 / 64)) P j) P) j))), (4, .long (lN F)), (0, .ref (a 0)), (1, .int (nI P))]) hx hb dX1_giveMany_167 hl (k := 1) rfl (nI_1 _) (by decide) rfl (fun ls hl => ?_)
                    refine lv_goto (tgt := 131) hx hb dX1_giveMany_170 (by decide) ?_
                    exact ih (j + 1) F _ _ _ (by omega) (by omega) hB h16a (XI_cong (XI_ins (nI 1) hJ hP3 c5 hj0 hl16) (fun _ _ _ _ => gj_yes hb_) (fun _ _ _ _ _ => gj_yesw hb_)) H locs hP hD hS ls (lv_sub hl [0, 2, 3, 4] rfl)
            have loop1 : ∀ (q : Nat) (c0 F : Nat), N0 / 64 < c0 + q → (c0 ≤ N0 / 64) → (Bt F (frs S P (N0 % 64) K0 c0)) → ∀ (H : Heap) (locs : List Loc), va_P D vwCl (wX a d its wts szs exs snt org hit rnd lt) H → va_D A (wX a d its wts szs exs snt org hit rnd lt) → va_S A s.heap H locs → ∀ (ls : Array Slot), lv_has ls 9 [(7, .int (nI c0)), (6, .int (nI (fb_ct (frs S P (N0 % 64) K0 c0) 64))), (4, .long (lN F)), (0, .ref (a 0)), (1, .int (nI P)), (2, .int (nI N0)), (3, .int (nI K0))] → W p l e (headSpec (ws_ yX1_giveMany cX1_giveMany 9 (some .int)) ({ frames := 1, cells := 0, slots := 0, locals := 40 } : Room)).room s m ([.ref (a 0), .int (nI P), .int (nI N0), .int (nI K0)] : List Value).toArray below meth c H locs 0 0 (MQ below (QXi D d A (wXu a d) (XPost (F_giveMany (S, w, lt) (nI P) (nI N0) (nI K0)))) ([.ref (a 0), .int (nI P), .int (nI N0), .int (nI K0)] : List Value).toArray s 0 0 A) (F0 m 48 ls []) := by
              intro q
              induction q with
              | zero =>
                intro c0 F hq hc hB
                exact absurd hq (by omega)
              | succ q ih =>
                intro c0 F hq hc hB H locs hP hD hS ls hl
                have hcK : c0 * K0 ≤ 17 * 63 := Nat.mul_le_mul (by omega) hK2
                have hle : fb_ct (frs S P (N0 % 64) K0 c0) 64 ≤ 64 := fb_ct_le _ _
                refine lv_iload hx hb dX1_giveMany_48 (lv_at hl 0 rfl) ?_
                refine lv_iload_n hx hb dX1_giveMany_50 rfl (lv_at hl 5 rfl) ?_
                refine lv_bipush (v := nI 6) hx hb dX1_giveMany_51 (by decide) ?_
                refine lv_ishr hx hb dX1_giveMany_53 ?_
                refine xr_set (y := nI (N0 / 2 ^ 6)) (pk_shrN (by omega) _ 6 (s_l 6 (by omega))) ?_
                refine xr_set (y := nI (N0 / 64)) rfl ?_
                refine xb_ge (tgt := 111) hx hb dX1_giveMany_54 (by decide) (by omega) (by omega) (fun c5 => ?_) (fun c5 => ?_)
                · have ec : c0 = N0 / 64 := by omega
                  subst ec
                  have hl : lv_has ls 9 [(7, .int (nI (N0 / 64))), (6, .int (nI (fb_ct (frs S P (N0 % 64) K0 (N0 / 64)) 64))), (4, .long (lN F)), (0, .ref (a 0)), (1, .int (nI P)), (2, .int (nI N0)), (3, .int (nI K0))] := hl
                  refine lv_aload_n hx hb dX1_giveMany_111 rfl (lv_at hl 3 rfl) ?_
                  refine xg_szs hx hb hts hown hK hP dX1_giveMany_112 ?_
                  refine lv_iload_n hx hb dX1_giveMany_115 rfl (lv_at hl 4 rfl) ?_
                  refine xl_szs hx hb hK hP (j := P) (by omega) dX1_giveMany_116 ?_
                  refine xr_set (y := nI (fb_ct (S P) 64)) hs ?_
                  refine lv_iload hx hb dX1_giveMany_117 (lv_at hl 1 rfl) ?_
                  refine lv_iadd hx hb dX1_giveMany_119 ?_
                  refine xr_set (y := nI ((fb_ct (S P) 64) + (fb_ct (frs S P (N0 % 64) K0 (N0 / 64)) 64))) (nI_add _ _) ?_
                  refine lv_bipush (v := nI 16) hx hb dX1_giveMany_120 (by decide) ?_
                  refine xb_le (tgt := 128) hx hb dX1_giveMany_122 (by decide) (by omega) (by omega) (fun c6 => ?_) (fun c6 => ?_)
                  · refine lv_iconst (v := nI 0) hx hb dX1_giveMany_128 (by decide) ?_
                    refine lv_istore (lv' := [(7, .int (nI 0)), (6, .int (nI (fb_ct (frs S P (N0 % 64) K0 (N0 / 64)) 64))), (4, .long (lN F)), (0, .ref (a 0)), (1, .int (nI P)), (2, .int (nI N0)), (3, .int (nI K0))]) hx hb dX1_giveMany_129 hl (by decide) rfl (fun ls hl => ?_)
                    exact loop2 65 0 F its wts szs (by omega) (by omega) hB c6 (XI_cong hi (fun _ _ _ _ => gj_0) (fun _ _ _ _ _ => gj_0w)) H locs hP hD hS ls (lv_sub hl [0, 2, 3, 4] rfl)
                  · refine lv_bipush (v := (-4)) hx hb dX1_giveMany_125 (by decide) ?_
                    exact W.iret (v := (-4)) hx hb hr (fun t_ ht_ hW_ => ⟨⟨_, (its, wts, szs, exs, snt, org, hit, rnd, lt), rfl, XPost.mk (S, w, lt) (hF0.trans (if_pos c6)) (hi) he rfl, by rw [ht_]; exact hP, va_K.moved hW_.alike hK, hD⟩, hS.F ht_⟩) hS.2.2 dX1_giveMany_127
                · refine lv_iload_n hx hb dX1_giveMany_57 rfl (lv_at hl 5 rfl) ?_
                  refine lv_bipush (v := nI 63) hx hb dX1_giveMany_58 (by decide) ?_
                  refine lv_iand hx hb dX1_giveMany_60 ?_
                  refine xr_set (y := nI (N0 % 64)) (pk_andN (by omega) 6 (by decide)) ?_
                  refine lv_iload hx hb dX1_giveMany_61 (lv_at hl 0 rfl) ?_
                  refine lv_iload_n hx hb dX1_giveMany_63 rfl (lv_at hl 6 rfl) ?_
                  refine lv_imul hx hb dX1_giveMany_64 ?_
                  refine xr_set (y := nI (c0 * K0)) (pk_mul _ _) ?_
                  refine lv_iadd hx hb dX1_giveMany_65 ?_
                  refine xr_set (y := nI ((N0 % 64) + (c0 * K0))) (nI_add _ _) ?_
                  refine lv_bipush (v := nI 63) hx hb dX1_giveMany_66 (by decide) ?_
                  refine lv_iand hx hb dX1_giveMany_68 ?_
                  refine xr_set (y := nI ((N0 % 64 + c0 * K0) % 64)) (pk_andN (by omega) 6 (by decide)) ?_
                  have hit_ : (N0 % 64 + c0 * K0) % 64 < 64 := Nat.mod_lt _ (by decide)
                  refine lv_istore (lv' := [(8, .int (nI ((N0 % 64 + c0 * K0) % 64))), (7, .int (nI c0)), (6, .int (nI (fb_ct (frs S P (N0 % 64) K0 c0) 64))), (4, .long (lN F)), (0, .ref (a 0)), (1, .int (nI P)), (2, .int (nI N0)), (3, .int (nI K0))]) hx hb dX1_giveMany_69 hl (by decide) rfl (fun ls hl => ?_)
                  refine lv_aload_n hx hb dX1_giveMany_71 rfl (lv_at hl 4 rfl) ?_
                  refine lv_iload_n hx hb dX1_giveMany_72 rfl (lv_at hl 5 rfl) ?_
                  refine lv_iload hx hb dX1_giveMany_73 (lv_at hl 0 rfl) ?_
                  refine cs_R (ci := 0) (As := [.int (nI P), .int (nI ((N0 % 64 + c0 * K0) % 64))]) (rest := []) ⟨hx, hb, hml, hown, hts⟩ (met_find l D a d its wts szs exs snt org hit rnd lt S w P ((N0 % 64 + c0 * K0) % 64) hP3 hit_ hi) (cwV 2 hts (lw_V q75 q77 qs0 q20 q78) rfl rfl rfl (by decide +kernel) ⟨Nat.le_of_ble_eq_true rfl, Nat.le_of_ble_eq_true rfl⟩) hK hP rfl rfl rfl hl.1 rfl (Nat.le_of_ble_eq_true rfl) dX1_giveMany_75 ⟨Nat.zero_le _, Nat.zero_le _⟩ (fun r hw => ?_)
                  have hct : fb_ct (S P) ((N0 % 64 + c0 * K0) % 64) ≤ fb_ct (S P) 64 := fb_ct_mono _ (by omega)
                  cases hSI : S P ((N0 % 64 + c0 * K0) % 64) with
                  | true =>
                    rw [hSI] at hw
                    replace hw : r = nI (16 * P + fb_ct (S P) ((N0 % 64 + c0 * K0) % 64)) := hw
                    subst hw
                    refine lv_if_ge (tgt := 105) hx hb dX1_giveMany_78 (by decide) (fun _ => ?_) (fun c => absurd c (fun h => h (nI_pos' (by omega))))
                    refine lv_iinc (v := nI (c0 + 1)) (lv' := [(7, .int (nI (c0 + 1))), (8, .int (nI ((N0 % 64 + c0 * K0) % 64))), (6, .int (nI (fb_ct (frs S P (N0 % 64) K0 c0) 64))), (4, .long (lN F)), (0, .ref (a 0)), (1, .int (nI P)), (2, .int (nI N0)), (3, .int (nI K0))]) hx hb dX1_giveMany_105 hl (k := 1) rfl (nI_1 _) (by decide) rfl (fun ls hl => ?_)
                    refine lv_goto (tgt := 48) hx hb dX1_giveMany_108 (by decide) ?_
                    exact ih (c0 + 1) F (by omega) (by omega) (Bt_cong hB (fun i _ => frs_same (Or.inl hSI) i)) H locs hP hD hS ls (by
                      rw [frs_cs (Or.inl hSI)] at hl
                      exact (lv_sub hl [0, 2, 3, 4, 5, 6, 7] rfl))
                  | false =>
                    rw [hSI] at hw
                    replace hw : r = -1 := hw
                    subst hw
                    refine lv_if_ge (tgt := 105) hx hb dX1_giveMany_78 (by decide) (fun c => absurd c (by decide)) (fun _ => ?_)
                    refine lv_lload hx hb dX1_giveMany_81 (lv_at hl 3 rfl) ?_
                    refine lv_iload hx hb dX1_giveMany_83 (lv_at hl 0 rfl) ?_
                    refine lv_lushr (v := lN (F / 2 ^ ((N0 % 64 + c0 * K0) % 64))) hx hb dX1_giveMany_85 (wb_shr hB.1 hit_) ?_
                    refine lv_lconst (v := lN 1) hx hb dX1_giveMany_86 (by decide) ?_
                    refine lv_land hx hb dX1_giveMany_87 ?_
                    refine xr_setl (y := lN ((frs S P (N0 % 64) K0 c0) ((N0 % 64 + c0 * K0) % 64)).toNat) (b_bit hB hit_) ?_
                    refine lv_lconst (v := lN 0) hx hb dX1_giveMany_88 (by decide) ?_
                    refine W.lcmp hx hb dX1_giveMany_89 ?_
                    cases hb_ : (frs S P (N0 % 64) K0 c0) ((N0 % 64 + c0 * K0) % 64) with
                    | true =>
                      refine lv_if_ne (tgt := 105) hx hb dX1_giveMany_90 (by decide) (fun _ => ?_) (fun c => absurd c (by decide))
                      refine lv_iinc (v := nI (c0 + 1)) (lv' := [(7, .int (nI (c0 + 1))), (8, .int (nI ((N0 % 64 + c0 * K0) % 64))), (6, .int (nI (fb_ct (frs S P (N0 % 64) K0 c0) 64))), (4, .long (lN F)), (0, .ref (a 0)), (1, .int (nI P)), (2, .int (nI N0)), (3, .int (nI K0))]) hx hb dX1_giveMany_105 hl (k := 1) rfl (nI_1 _) (by decide) rfl (fun ls hl => ?_)
                      refine lv_goto (tgt := 48) hx hb dX1_giveMany_108 (by decide) ?_
                      exact ih (c0 + 1) F (by omega) (by omega) (Bt_cong hB (fun i _ => frs_same (Or.inr hb_) i)) H locs hP hD hS ls (by
                        rw [frs_cs (Or.inr hb_)] at hl
                        exact (lv_sub hl [0, 2, 3, 4, 5, 6, 7] rfl))
                    | false =>
                      refine lv_if_ne (tgt := 105) hx hb dX1_giveMany_90 (by decide) (fun c => absurd c (by decide)) (fun _ => ?_)
                      refine lv_lload hx hb dX1_giveMany_93 (lv_at hl 3 rfl) ?_
                      refine lv_lconst (v := lN 1) hx hb dX1_giveMany_95 (by decide) ?_
                      refine lv_iload hx hb dX1_giveMany_96 (lv_at hl 0 rfl) ?_
                      refine lv_lshl (v := lN (1 * 2 ^ ((N0 % 64 + c0 * K0) % 64))) hx hb dX1_giveMany_98 (wb_shl 1 hit_) ?_
                      refine lv_lor hx hb dX1_giveMany_99 ?_
                      refine xr_setl (y := lN (F ||| 2 ^ ((N0 % 64 + c0 * K0) % 64))) (b_or hB.1 hit_) ?_
                      refine lv_lstore (lv' := [(4, .long (lN (F ||| 2 ^ ((N0 % 64 + c0 * K0) % 64)))), (8, .int (nI ((N0 % 64 + c0 * K0) % 64))), (7, .int (nI c0)), (6, .int (nI (fb_ct (frs S P (N0 % 64) K0 c0) 64))), (0, .ref (a 0)), (1, .int (nI P)), (2, .int (nI N0)), (3, .int (nI K0))]) hx hb dX1_giveMany_100 hl (by decide) rfl (fun ls hl => ?_)
                      refine lv_iinc (v := nI ((fb_ct (frs S P (N0 % 64) K0 c0) 64) + 1)) (lv' := [(6, .int (nI ((fb_ct (frs S P (N0 % 64) K0 c0) 64) + 1))), (4, .long (lN (F ||| 2 ^ ((N0 % 64 + c0 * K0) % 64)))), (8, .int (nI ((N0 % 64 + c0 * K0) % 64))), (7, .int (nI c0)), (0, .ref (a 0)), (1, .int (nI P)), (2, .int (nI N0)), (3, .int (nI K0))]) hx hb dX1_giveMany_102 hl (k := 3) rfl (nI_1 _) (by decide) rfl (fun ls hl => ?_)
                      refine lv_iinc (v := nI (c0 + 1)) (lv' := [(7, .int (nI (c0 + 1))), (6, .int (nI ((fb_ct (frs S P (N0 % 64) K0 c0) 64) + 1))), (4, .long (lN (F ||| 2 ^ ((N0 % 64 + c0 * K0) % 64)))), (8, .int (nI ((N0 % 64 + c0 * K0) % 64))), (0, .ref (a 0)), (1, .int (nI P)), (2, .int (nI N0)), (3, .int (nI K0))]) hx hb dX1_giveMany_105 hl (k := 3) rfl (nI_1 _) (by decide) rfl (fun ls hl => ?_)
                      refine lv_goto (tgt := 48) hx hb dX1_giveMany_108 (by decide) ?_
                      exact ih (c0 + 1) (F ||| 2 ^ ((N0 % 64 + c0 * K0) % 64)) (by omega) (by omega) (Bt_cong (Bt_set hB hit_) (fun i _ => frs_new hSI i)) H locs hP hD hS ls (by
                        rw [frs_ct hSI hb_] at hl
                        exact (lv_sub hl [0, 1, 2, 4, 5, 6, 7] rfl))
            exact loop1 (N0 / 64 + 1) 0 0 (by omega) (by omega) ⟨by decide, fun i _ => by rw [Nat.zero_testBit]; rfl⟩ _ _ hP hD hS ls (by
              have h0 : fb_ct (frs S P (N0 % 64) K0 0) 64 = 0 := ct_f 64
              rw [h0]
              exact (lv_sub hl [0, 1, 2, 3, 4, 5, 6] rfl))
          · refine lv_bipush (v := (-3)) hx hb dX1_giveMany_36 (by decide) ?_
            exact W.iret (v := (-3)) hx hb hr (fun t_ ht_ hW_ => ⟨⟨_, (its, wts, szs, exs, snt, org, hit, rnd, lt), rfl, XPost.mk (S, w, lt) ((onN_ok hP3 (by decide) _ _).trans ((if_neg (fun q => q.elim c1 (fun q2 => absurd c2 (fun q3 => by rw [i_lt] at q2; rw [i_le] at q3; omega)))).trans (if_pos (Or.inr (i_nle c4))))) (hi) he rfl, by rw [ht_]; exact hP, va_K.moved hW_.alike hK, hD⟩, hS.F ht_⟩) hS.2.2 dX1_giveMany_38
      · refine lv_bipush (v := (-2)) hx hb dX1_giveMany_22 (by decide) ?_
        exact W.iret (v := (-2)) hx hb hr (fun t_ ht_ hW_ => ⟨⟨_, (its, wts, szs, exs, snt, org, hit, rnd, lt), rfl, XPost.mk (S, w, lt) ((onN_ok hP3 (by decide) _ _).trans (if_pos (Or.inr (i_nle c2)))) (hi) he rfl, by rw [ht_]; exact hP, va_K.moved hW_.alike hK, hD⟩, hS.F ht_⟩) hS.2.2 dX1_giveMany_24
  · refine lv_if_ne (tgt := 9) hx hb dX1_giveMany_4 (by decide) (fun c => absurd c (by decide)) (fun _ => ?_)
    refine lv_iconst (v := (-1)) hx hb dX1_giveMany_7 (by decide) ?_
    exact W.iret (v := (-1)) hx hb hr (fun t_ ht_ hW_ => ⟨⟨_, (its, wts, szs, exs, snt, org, hit, rnd, lt), rfl, XPost.mk (S, w, lt) (onN_bad (by decide) hbad _ _) (hi) he rfl, by rw [ht_]; exact hP, va_K.moved hW_.alike hK, hD⟩, hS.F ht_⟩) hS.2.2 dX1_giveMany_8
end
section
set_option maxHeartbeats 4000000 in
set_option maxRecDepth 100000 in
theorem met_secret0 (l : Launch) (sz : Nat) (D : va_G) (a : Nat → Nat) (d : Nat → ClassId) (its wts szs exs snt org hit : Nat → Int32) (rnd lt : Int32) (P : Nat) (p1 : Int32) (hP3 : P < 3) : Met l yX1_secret (ws_ yX1_secret cX1_secret 4 (some .int)) ({ frames := 1, cells := 0, slots := 0, locals := 40 } : Room) (va_Pc [.ref (a 0), .int (nI P), .int p1] (fun U => U.heap.size = sz ∧ va_P D vwCl (wX a d its wts szs exs snt org hit rnd lt) U.heap ∧ va_K D vwCl (tyX d) U ∧ va_D (fun _ => True) (wX a d its wts szs exs snt org hit rnd lt))) (QXi D d (va_A (wX a d its wts szs exs snt org hit rnd lt) sz) (fun u : (Nat → Int32) × Int32 => wX a d its wts szs u.1 snt org hit u.2 lt) (fun _ u => match u with | (x, _) => ∃ e, 1 ≤ e ∧ e ≤ 1018 ∧ x = upd exs P (nI e))) 0 0 (va_A (wX a d its wts szs exs snt org hit rnd lt) sz) := by
  refine Met.ofW (cc := cX1_secret) (maxL := 4) (ret := (some .int)) (by decide) rfl ?_
  intro p e s m args below meth c s₁ B hml hv
  obtain ⟨rfl, hsz, hP, hK, hD0⟩ := hv
  have hx := B.exec
  have hb := B.bytes
  have hr := B.returns
  have hlocks := B.notSynchronized
  have hts := atoms_spec (ws := ws_ yX1_secret cX1_secret 4 (some .int)) B.pre
  have hts : ∀ w ∈ lw_all, w.before _ s = true := fun w h => hts w (List.mem_cons_of_mem _ h)
  have hown : s.vm.findClass RX1 = some m.cls := findClass_of_methodNamed B.named
  subst hsz
  have hD := hD0.self (sz := s.heap.size)
  generalize hAe : va_A (wX a d its wts szs exs snt org hit rnd lt) s.heap.size = A at hD ⊢
  have hA : ∀ q : Nat, s.heap.size ≤ q → A q := fun q h => by rw [← hAe]; exact Or.inr h
  have hS : va_S A s.heap s.heap [] := va_S.rf
  have hl := lv_entry ([.ref (a 0), .int (nI P), .int p1]) (n := 4) (Nat.le_of_ble_eq_true rfl)
  rw [lg_entry_eq]
  generalize (lg_sl ([.ref (a 0), .int (nI P), .int p1]) ++ List.replicate (4 - (lg_sl ([.ref (a 0), .int (nI P), .int p1])).length) Slot.unset).toArray = ls at hl ⊢
  have hl : lv_has ls 4 [(0, .ref (a 0)), (1, .int (nI P)), (2, .int p1)] := hl
  refine lv_iload_n hx hb dX1_secret_0 rfl (lv_at hl 1 rfl) ?_
  refine cs_S (As := [.int (nI P)]) (rest := []) ⟨hx, hb, hml, hown, hts⟩ (met_isParty l (nI P)) (va_cwS 1 hts (lw_S q34 q35 q20 q36) rfl rfl rfl (by decide +kernel) ⟨Nat.le_of_ble_eq_true rfl, Nat.le_of_ble_eq_true rfl⟩) rfl hl.1 rfl (Nat.le_of_ble_eq_true rfl) dX1_secret_1 ⟨Nat.zero_le _, Nat.zero_le _⟩ (fun r hw => ?_)
  obtain ⟨rfl, -⟩ : r = nI 1 ∧ True := by
    rcases hw with ⟨e1, -⟩ | ⟨-, e2⟩
    · exact ⟨e1, trivial⟩
    · exact absurd rfl (e2 P hP3)
  refine lv_if_ne (tgt := 9) hx hb dX1_secret_4 (by decide) (fun _ => ?_) (fun c => absurd c (by decide))
  refine lv_iload_n hx hb dX1_secret_9 rfl (lv_at hl 2 rfl) ?_
  refine lv_sipush (v := nI 1018) hx hb dX1_secret_10 (by decide) ?_
  refine lv_irem hx hb dX1_secret_13 (by decide) ?_
  refine lv_topi (fun x ex => ?_)
  obtain ⟨hx1, hx2⟩ := sec_x p1
  rw [← ex] at hx1 hx2
  refine lv_istore_n (lv' := [(3, .int x), (0, .ref (a 0)), (1, .int (nI P)), (2, .int p1)]) hx hb dX1_secret_14 rfl hl (by decide) rfl (fun ls hl => ?_)
  refine lv_aload_n hx hb dX1_secret_15 rfl (lv_at hl 1 rfl) ?_
  refine xg_exs hx hb hts hown hK hP dX1_secret_16 ?_
  refine lv_iload_n hx hb dX1_secret_19 rfl (lv_at hl 2 rfl) ?_
  refine lv_iload_n hx hb dX1_secret_20 rfl (lv_at hl 0 rfl) ?_
  refine lv_if_ge (tgt := 32) hx hb dX1_secret_21 (by decide) (fun c1 => ?_) (fun c1 => ?_)
  · refine lv_iload_n hx hb dX1_secret_32 rfl (lv_at hl 0 rfl) ?_
    refine lv_iconst (v := nI 1) hx hb dX1_secret_33 (by decide) ?_
    refine lv_iadd hx hb dX1_secret_34 ?_
    obtain ⟨e0, h1, h2, h3⟩ := sec_pos hx2 c1
    refine xr_set (y := nI e0) h3 ?_
    refine xs_exs hx hb hK hP hD hS (j := P) (by omega) dX1_secret_35 (fun H locs hP hD hS => ?_)
    refine lv_aload_n hx hb dX1_secret_36 rfl (lv_at hl 1 rfl) ?_
    refine lv_aload_n hx hb dX1_secret_37 rfl (lv_at hl 1 rfl) ?_
    refine xg_rnd hx hb hts hown hK hP dX1_secret_38 ?_
    refine lv_bipush (v := nI 31) hx hb dX1_secret_41 (by decide) ?_
    refine lv_imul hx hb dX1_secret_43 ?_
    refine lv_iload_n hx hb dX1_secret_44 rfl (lv_at hl 3 rfl) ?_
    refine lv_iadd hx hb dX1_secret_45 ?_
    refine xp_rnd hx hb hts hown hK hP hD hS dX1_secret_46 (fun H locs hP hD hS => ?_)
    refine lv_iconst (v := nI 0) hx hb dX1_secret_49 (by decide) ?_
    exact W.iret (v := nI 0) hx hb hr (fun t_ ht_ hW_ => ⟨⟨_, (upd exs P (nI e0), (rnd * (nI 31)) + p1), rfl, ⟨e0, h1, h2, rfl⟩, by rw [ht_]; exact hP, va_K.moved hW_.alike hK, hD⟩, hS.F ht_⟩) hS.2.2 dX1_secret_50
  · refine lv_iload_n hx hb dX1_secret_24 rfl (lv_at hl 0 rfl) ?_
    refine lv_sipush (v := nI 1019) hx hb dX1_secret_25 (by decide) ?_
    refine lv_iadd hx hb dX1_secret_28 ?_
    refine lv_goto (tgt := 35) hx hb dX1_secret_29 (by decide) ?_
    obtain ⟨e0, h1, h2, h3⟩ := sec_neg hx1 c1
    refine xr_set (y := nI e0) h3 ?_
    refine xs_exs hx hb hK hP hD hS (j := P) (by omega) dX1_secret_35 (fun H locs hP hD hS => ?_)
    refine lv_aload_n hx hb dX1_secret_36 rfl (lv_at hl 1 rfl) ?_
    refine lv_aload_n hx hb dX1_secret_37 rfl (lv_at hl 1 rfl) ?_
    refine xg_rnd hx hb hts hown hK hP dX1_secret_38 ?_
    refine lv_bipush (v := nI 31) hx hb dX1_secret_41 (by decide) ?_
    refine lv_imul hx hb dX1_secret_43 ?_
    refine lv_iload_n hx hb dX1_secret_44 rfl (lv_at hl 3 rfl) ?_
    refine lv_iadd hx hb dX1_secret_45 ?_
    refine xp_rnd hx hb hts hown hK hP hD hS dX1_secret_46 (fun H locs hP hD hS => ?_)
    refine lv_iconst (v := nI 0) hx hb dX1_secret_49 (by decide) ?_
    exact W.iret (v := nI 0) hx hb hr (fun t_ ht_ hW_ => ⟨⟨_, (upd exs P (nI e0), (rnd * (nI 31)) + p1), rfl, ⟨e0, h1, h2, rfl⟩, by rw [ht_]; exact hP, va_K.moved hW_.alike hK, hD⟩, hS.F ht_⟩) hS.2.2 dX1_secret_50
abbrev A00 : AS := (fun _ _ => false, fun _ _ => 0, 0)
abbrev nuX : List Value := [.null, .null, .null, .null, .null, .null, .null, .int 0, .int 0]
abbrev nuM : List Value := [.null, .null, .int 0]
abbrev wMu (a : Nat → Nat) (d : Nat → ClassId) (u : MS) : va_W := wM a d u.1 u.2.1 u.2.2
theorem packX {D : va_G} {A : Nat → Prop} {H : Heap} {s : State} {o q1_ q2_ q3_ q4_ q5_ q6_ q7_ : Nat} {c1_ c2_ c3_ c4_ c5_ c6_ c7_ : ClassId} (hP : va_P D vwCl [(o, .inr (0, [.ref q1_, .ref q2_, .ref q3_, .ref q4_, .ref q5_, .ref q6_, .ref q7_, .int 0, .int 0])), (q1_, .inl (c1_, 48, .inl (fun _ => 0))), (q2_, .inl (c2_, 48, .inl (fun _ => 0))), (q3_, .inl (c3_, 3, .inl (fun _ => 0))), (q4_, .inl (c4_, 3, .inl (fun _ => 0))), (q5_, .inl (c5_, 48, .inl (fun _ => 0))), (q6_, .inl (c6_, 48, .inl (fun _ => 0))), (q7_, .inl (c7_, 16, .inl (fun _ => 0)))] H) (hD : va_D A [(o, .inr (0, [.ref q1_, .ref q2_, .ref q3_, .ref q4_, .ref q5_, .ref q6_, .ref q7_, .int 0, .int 0])), (q1_, .inl (c1_, 48, .inl (fun _ => 0))), (q2_, .inl (c2_, 48, .inl (fun _ => 0))), (q3_, .inl (c3_, 3, .inl (fun _ => 0))), (q4_, .inl (c4_, 3, .inl (fun _ => 0))), (q5_, .inl (c5_, 48, .inl (fun _ => 0))), (q6_, .inl (c6_, 48, .inl (fun _ => 0))), (q7_, .inl (c7_, 16, .inl (fun _ => 0)))]) (hK : va_K D vwCl [(c1_, .int), (c2_, .int), (c3_, .int), (c4_, .int), (c5_, .int), (c6_, .int), (c7_, .boolean)] s) : ∃ (a : Nat → Nat) (d : Nat → ClassId), a 0 = o ∧ va_P D vwCl (wX a d (fun _ => 0) (fun _ => 0) (fun _ => 0) (fun _ => 0) (fun _ => 0) (fun _ => 0) (fun _ => 0) 0 0) H ∧ va_D A (wX a d (fun _ => 0) (fun _ => 0) (fun _ => 0) (fun _ => 0) (fun _ => 0) (fun _ => 0) (fun _ => 0) 0 0) ∧ va_K D vwCl (tyX d) s :=
  ⟨fun k => match k with
    | 0 => o
    | 1 => q1_
    | 2 => q2_
    | 3 => q3_
    | 4 => q4_
    | 5 => q5_
    | 6 => q6_
    | _ => q7_, fun k => match k with
    | 1 => c1_
    | 2 => c2_
    | 3 => c3_
    | 4 => c4_
    | 5 => c5_
    | 6 => c6_
    | _ => c7_, rfl, hP, hD, hK⟩
theorem packM {D : va_G} {A : Nat → Prop} {H : Heap} {s : State} {o q1_ q2_ : Nat} {c1_ c2_ : ClassId} (hP : va_P D vwCl [(o, .inr (1, [.ref q1_, .ref q2_, .int 0])), (q1_, .inl (c1_, 192, .inl (fun _ => 0))), (q2_, .inl (c2_, 192, .inl (fun _ => 0)))] H) (hD : va_D A [(o, .inr (1, [.ref q1_, .ref q2_, .int 0])), (q1_, .inl (c1_, 192, .inl (fun _ => 0))), (q2_, .inl (c2_, 192, .inl (fun _ => 0)))]) (hK : va_K D vwCl [(c1_, .boolean), (c2_, .int)] s) : ∃ (a : Nat → Nat) (d : Nat → ClassId), a 0 = o ∧ va_P D vwCl (wM a d (fun _ => 0) (fun _ => 0) 0) H ∧ va_D A (wM a d (fun _ => 0) (fun _ => 0) 0) ∧ va_K D vwCl (tyM d) s :=
  ⟨fun k => match k with
    | 0 => o
    | 1 => q1_
    | _ => q2_, fun k => match k with
    | 1 => c1_
    | _ => c2_, rfl, hP, hD, hK⟩
set_option maxHeartbeats 4000000 in
set_option maxRecDepth 100000 in
theorem met_init (l : Launch) (sz : Nat) (D : va_G) (o : Nat) (p0 p1 p2 : Int32) : Met l yX1_init (ws_ yX1_init cX1_init 4 none) ({ frames := 2, cells := 7, slots := 214, locals := 80 } : Room) (va_Pc [.ref o, .int p0, .int p1, .int p2] (fun U => U.heap.size = sz ∧ va_P D vwCl [(o, .inr (0, nuX))] U.heap ∧ va_K D vwCl [] U ∧ va_D (fun _ => True) [(o, .inr (0, nuX))])) (va_Qv (fun u => u.1 0 = o ∧ XV A00 u.2.2) (fun (u : (Nat → Nat) × (Nat → ClassId) × XS) t => va_P D vwCl (wXu u.1 u.2.1 u.2.2) t.heap ∧ va_K D vwCl (tyX u.2.1) t ∧ va_D (va_A [(o, .inr (0, nuX))] sz) (wXu u.1 u.2.1 u.2.2)) (va_A [(o, .inr (0, nuX))] sz)) 7 214 (va_A [(o, .inr (0, nuX))] sz) := by
  refine Met.ofW (cc := cX1_init) (maxL := 4) (ret := none) (by decide) rfl ?_
  intro p e s m args below meth c s₁ B hml hv
  obtain ⟨rfl, hsz, hP, hK, hD0⟩ := hv
  have hx := B.exec
  have hb := B.bytes
  have hr := B.returns
  have hlocks := B.notSynchronized
  have hts := atoms_spec (ws := ws_ yX1_init cX1_init 4 none) B.pre
  have hts : ∀ w ∈ lw_all, w.before _ s = true := fun w h => hts w (List.mem_cons_of_mem _ h)
  have hown : s.vm.findClass RX1 = some m.cls := findClass_of_methodNamed B.named
  have hin : meth.name = "<init>" := (name_of_methodNamed B.named B.method).1
  subst hsz
  have hD := hD0.self (sz := s.heap.size)
  generalize hAe : va_A [(o, .inr (0, nuX))] s.heap.size = A at hD ⊢
  have hA : ∀ q : Nat, s.heap.size ≤ q → A q := fun q h => by rw [← hAe]; exact Or.inr h
  have hS : va_S A s.heap s.heap [] := va_S.rf
  have hl := lv_entry ([.ref o, .int p0, .int p1, .int p2]) (n := 4) (Nat.le_of_ble_eq_true rfl)
  rw [lg_entry_eq]
  generalize (lg_sl ([.ref o, .int p0, .int p1, .int p2]) ++ List.replicate (4 - (lg_sl ([.ref o, .int p0, .int p1, .int p2])).length) Slot.unset).toArray = ls at hl ⊢
  have hl : lv_has ls 4 [(0, .ref o), (1, .int p0), (2, .int p1), (3, .int p2)] := hl
  refine lv_aload_n hx hb dX1_init_0 rfl (lv_at hl 0 rfl) ?_
  refine W.objInit hx hb hown (hts _ q27) (hts _ q28) (hts _ q29) rfl (by rw [hml]; exact hl.1) rfl dX1_init_1 (Nat.le_of_ble_eq_true rfl) (Nat.le_of_ble_eq_true rfl) ?_
  refine W.eq (g2 := F0 m 4 ls []) rfl ?_
  refine lv_aload_n hx hb dX1_init_4 rfl (lv_at hl 0 rfl) ?_
  refine lv_bipush (v := nI 48) hx hb dX1_init_5 (by decide) ?_
  refine va_newa (atype := .int) (ty := .int) (N' := 48) (a0 := (48, .inl (fun _ => 0))) hx hb (hts _ q65) rfl hK hP hD hS hA (fun _ => rfl) (by decide) (by decide) (by decide) (Nat.le_of_ble_eq_true rfl) (Nat.le_of_ble_eq_true rfl) dX1_init_7 (fun q1_ c1_ H hK hP hD hS => ?_)
  refine W.widen (k := 1) (n := 48) (Nat.le_of_ble_eq_true rfl) (Nat.le_of_ble_eq_true rfl) ?_
  have hP : va_P D vwCl [(o, .inr (0, [.null, .null, .null, .null, .null, .null, .null, .int 0, .int 0])), (q1_, .inl (c1_, 48, .inl (fun _ => 0)))] H := hP
  have hD : va_D A [(o, .inr (0, [.null, .null, .null, .null, .null, .null, .null, .int 0, .int 0])), (q1_, .inl (c1_, 48, .inl (fun _ => 0)))] := hD
  have hK : va_K D vwCl [(c1_, .int)] s := hK
  refine va_putF (D := D) (ci := 0) (v := .ref q1_) (ty := .array .int) (C := RX1) (T := TX1) (N := 9) hx hb hts in_X1 tyX1 tyX1_ok nmX1 hown hK hP hD hS 0 rfl rfl 0 (by decide) (hts _ q37) (fun _ h9 => h9) rfl hin rfl (by decide +kernel) rfl rfl (Nat.le_of_ble_eq_true rfl) dX1_init_9 (fun H locs hP hD hS => ?_)
  have hP : va_P D vwCl [(o, .inr (0, [.ref q1_, .null, .null, .null, .null, .null, .null, .int 0, .int 0])), (q1_, .inl (c1_, 48, .inl (fun _ => 0)))] H := hP
  have hD : va_D A [(o, .inr (0, [.ref q1_, .null, .null, .null, .null, .null, .null, .int 0, .int 0])), (q1_, .inl (c1_, 48, .inl (fun _ => 0)))] := hD
  refine lv_aload_n hx hb dX1_init_12 rfl (lv_at hl 0 rfl) ?_
  refine lv_bipush (v := nI 48) hx hb dX1_init_13 (by decide) ?_
  refine va_newa (atype := .int) (ty := .int) (N' := 48) (a0 := (48, .inl (fun _ => 0))) hx hb (hts _ q65) rfl hK hP hD hS hA (fun _ => rfl) (by decide) (by decide) (by decide) (Nat.le_of_ble_eq_true rfl) (Nat.le_of_ble_eq_true rfl) dX1_init_15 (fun q2_ c2_ H hK hP hD hS => ?_)
  refine W.widen (k := 2) (n := 96) (Nat.le_of_ble_eq_true rfl) (Nat.le_of_ble_eq_true rfl) ?_
  have hP : va_P D vwCl [(o, .inr (0, [.ref q1_, .null, .null, .null, .null, .null, .null, .int 0, .int 0])), (q1_, .inl (c1_, 48, .inl (fun _ => 0))), (q2_, .inl (c2_, 48, .inl (fun _ => 0)))] H := hP
  have hD : va_D A [(o, .inr (0, [.ref q1_, .null, .null, .null, .null, .null, .null, .int 0, .int 0])), (q1_, .inl (c1_, 48, .inl (fun _ => 0))), (q2_, .inl (c2_, 48, .inl (fun _ => 0)))] := hD
  have hK : va_K D vwCl [(c1_, .int), (c2_, .int)] s := hK
  refine va_putF (D := D) (ci := 0) (v := .ref q2_) (ty := .array .int) (C := RX1) (T := TX1) (N := 9) hx hb hts in_X1 tyX1 tyX1_ok nmX1 hown hK hP hD hS 0 rfl rfl 1 (by decide) (hts _ q38) (fun _ h9 => h9) rfl hin rfl (by decide +kernel) rfl rfl (Nat.le_of_ble_eq_true rfl) dX1_init_17 (fun H locs hP hD hS => ?_)
  have hP : va_P D vwCl [(o, .inr (0, [.ref q1_, .ref q2_, .null, .null, .null, .null, .null, .int 0, .int 0])), (q1_, .inl (c1_, 48, .inl (fun _ => 0))), (q2_, .inl (c2_, 48, .inl (fun _ => 0)))] H := hP
  have hD : va_D A [(o, .inr (0, [.ref q1_, .ref q2_, .null, .null, .null, .null, .null, .int 0, .int 0])), (q1_, .inl (c1_, 48, .inl (fun _ => 0))), (q2_, .inl (c2_, 48, .inl (fun _ => 0)))] := hD
  refine lv_aload_n hx hb dX1_init_20 rfl (lv_at hl 0 rfl) ?_
  refine lv_iconst (v := nI 3) hx hb dX1_init_21 (by decide) ?_
  refine va_newa (atype := .int) (ty := .int) (N' := 3) (a0 := (3, .inl (fun _ => 0))) hx hb (hts _ q65) rfl hK hP hD hS hA (fun _ => rfl) (by decide) (by decide) (by decide) (Nat.le_of_ble_eq_true rfl) (Nat.le_of_ble_eq_true rfl) dX1_init_22 (fun q3_ c3_ H hK hP hD hS => ?_)
  refine W.widen (k := 3) (n := 99) (Nat.le_of_ble_eq_true rfl) (Nat.le_of_ble_eq_true rfl) ?_
  have hP : va_P D vwCl [(o, .inr (0, [.ref q1_, .ref q2_, .null, .null, .null, .null, .null, .int 0, .int 0])), (q1_, .inl (c1_, 48, .inl (fun _ => 0))), (q2_, .inl (c2_, 48, .inl (fun _ => 0))), (q3_, .inl (c3_, 3, .inl (fun _ => 0)))] H := hP
  have hD : va_D A [(o, .inr (0, [.ref q1_, .ref q2_, .null, .null, .null, .null, .null, .int 0, .int 0])), (q1_, .inl (c1_, 48, .inl (fun _ => 0))), (q2_, .inl (c2_, 48, .inl (fun _ => 0))), (q3_, .inl (c3_, 3, .inl (fun _ => 0)))] := hD
  have hK : va_K D vwCl [(c1_, .int), (c2_, .int), (c3_, .int)] s := hK
  refine va_putF (D := D) (ci := 0) (v := .ref q3_) (ty := .array .int) (C := RX1) (T := TX1) (N := 9) hx hb hts in_X1 tyX1 tyX1_ok nmX1 hown hK hP hD hS 0 rfl rfl 2 (by decide) (hts _ q39) (fun _ h9 => h9) rfl hin rfl (by decide +kernel) rfl rfl (Nat.le_of_ble_eq_true rfl) dX1_init_24 (fun H locs hP hD hS => ?_)
  have hP : va_P D vwCl [(o, .inr (0, [.ref q1_, .ref q2_, .ref q3_, .null, .null, .null, .null, .int 0, .int 0])), (q1_, .inl (c1_, 48, .inl (fun _ => 0))), (q2_, .inl (c2_, 48, .inl (fun _ => 0))), (q3_, .inl (c3_, 3, .inl (fun _ => 0)))] H := hP
  have hD : va_D A [(o, .inr (0, [.ref q1_, .ref q2_, .ref q3_, .null, .null, .null, .null, .int 0, .int 0])), (q1_, .inl (c1_, 48, .inl (fun _ => 0))), (q2_, .inl (c2_, 48, .inl (fun _ => 0))), (q3_, .inl (c3_, 3, .inl (fun _ => 0)))] := hD
  refine lv_aload_n hx hb dX1_init_27 rfl (lv_at hl 0 rfl) ?_
  refine lv_iconst (v := nI 3) hx hb dX1_init_28 (by decide) ?_
  refine va_newa (atype := .int) (ty := .int) (N' := 3) (a0 := (3, .inl (fun _ => 0))) hx hb (hts _ q65) rfl hK hP hD hS hA (fun _ => rfl) (by decide) (by decide) (by decide) (Nat.le_of_ble_eq_true rfl) (Nat.le_of_ble_eq_true rfl) dX1_init_29 (fun q4_ c4_ H hK hP hD hS => ?_)
  refine W.widen (k := 4) (n := 102) (Nat.le_of_ble_eq_true rfl) (Nat.le_of_ble_eq_true rfl) ?_
  have hP : va_P D vwCl [(o, .inr (0, [.ref q1_, .ref q2_, .ref q3_, .null, .null, .null, .null, .int 0, .int 0])), (q1_, .inl (c1_, 48, .inl (fun _ => 0))), (q2_, .inl (c2_, 48, .inl (fun _ => 0))), (q3_, .inl (c3_, 3, .inl (fun _ => 0))), (q4_, .inl (c4_, 3, .inl (fun _ => 0)))] H := hP
  have hD : va_D A [(o, .inr (0, [.ref q1_, .ref q2_, .ref q3_, .null, .null, .null, .null, .int 0, .int 0])), (q1_, .inl (c1_, 48, .inl (fun _ => 0))), (q2_, .inl (c2_, 48, .inl (fun _ => 0))), (q3_, .inl (c3_, 3, .inl (fun _ => 0))), (q4_, .inl (c4_, 3, .inl (fun _ => 0)))] := hD
  have hK : va_K D vwCl [(c1_, .int), (c2_, .int), (c3_, .int), (c4_, .int)] s := hK
  refine va_putF (D := D) (ci := 0) (v := .ref q4_) (ty := .array .int) (C := RX1) (T := TX1) (N := 9) hx hb hts in_X1 tyX1 tyX1_ok nmX1 hown hK hP hD hS 0 rfl rfl 3 (by decide) (hts _ q40) (fun _ h9 => h9) rfl hin rfl (by decide +kernel) rfl rfl (Nat.le_of_ble_eq_true rfl) dX1_init_31 (fun H locs hP hD hS => ?_)
  have hP : va_P D vwCl [(o, .inr (0, [.ref q1_, .ref q2_, .ref q3_, .ref q4_, .null, .null, .null, .int 0, .int 0])), (q1_, .inl (c1_, 48, .inl (fun _ => 0))), (q2_, .inl (c2_, 48, .inl (fun _ => 0))), (q3_, .inl (c3_, 3, .inl (fun _ => 0))), (q4_, .inl (c4_, 3, .inl (fun _ => 0)))] H := hP
  have hD : va_D A [(o, .inr (0, [.ref q1_, .ref q2_, .ref q3_, .ref q4_, .null, .null, .null, .int 0, .int 0])), (q1_, .inl (c1_, 48, .inl (fun _ => 0))), (q2_, .inl (c2_, 48, .inl (fun _ => 0))), (q3_, .inl (c3_, 3, .inl (fun _ => 0))), (q4_, .inl (c4_, 3, .inl (fun _ => 0)))] := hD
  refine lv_aload_n hx hb dX1_init_34 rfl (lv_at hl 0 rfl) ?_
  refine lv_bipush (v := nI 48) hx hb dX1_init_35 (by decide) ?_
  refine va_newa (atype := .int) (ty := .int) (N' := 48) (a0 := (48, .inl (fun _ => 0))) hx hb (hts _ q65) rfl hK hP hD hS hA (fun _ => rfl) (by decide) (by decide) (by decide) (Nat.le_of_ble_eq_true rfl) (Nat.le_of_ble_eq_true rfl) dX1_init_37 (fun q5_ c5_ H hK hP hD hS => ?_)
  refine W.widen (k := 5) (n := 150) (Nat.le_of_ble_eq_true rfl) (Nat.le_of_ble_eq_true rfl) ?_
  have hP : va_P D vwCl [(o, .inr (0, [.ref q1_, .ref q2_, .ref q3_, .ref q4_, .null, .null, .null, .int 0, .int 0])), (q1_, .inl (c1_, 48, .inl (fun _ => 0))), (q2_, .inl (c2_, 48, .inl (fun _ => 0))), (q3_, .inl (c3_, 3, .inl (fun _ => 0))), (q4_, .inl (c4_, 3, .inl (fun _ => 0))), (q5_, .inl (c5_, 48, .inl (fun _ => 0)))] H := hP
  have hD : va_D A [(o, .inr (0, [.ref q1_, .ref q2_, .ref q3_, .ref q4_, .null, .null, .null, .int 0, .int 0])), (q1_, .inl (c1_, 48, .inl (fun _ => 0))), (q2_, .inl (c2_, 48, .inl (fun _ => 0))), (q3_, .inl (c3_, 3, .inl (fun _ => 0))), (q4_, .inl (c4_, 3, .inl (fun _ => 0))), (q5_, .inl (c5_, 48, .inl (fun _ => 0)))] := hD
  have hK : va_K D vwCl [(c1_, .int), (c2_, .int), (c3_, .int), (c4_, .int), (c5_, .int)] s := hK
  refine va_putF (D := D) (ci := 0) (v := .ref q5_) (ty := .array .int) (C := RX1) (T := TX1) (N := 9) hx hb hts in_X1 tyX1 tyX1_ok nmX1 hown hK hP hD hS 0 rfl rfl 4 (by decide) (hts _ q41) (fun _ h9 => h9) rfl hin rfl (by decide +kernel) rfl rfl (Nat.le_of_ble_eq_true rfl) dX1_init_39 (fun H locs hP hD hS => ?_)
  have hP : va_P D vwCl [(o, .inr (0, [.ref q1_, .ref q2_, .ref q3_, .ref q4_, .ref q5_, .null, .null, .int 0, .int 0])), (q1_, .inl (c1_, 48, .inl (fun _ => 0))), (q2_, .inl (c2_, 48, .inl (fun _ => 0))), (q3_, .inl (c3_, 3, .inl (fun _ => 0))), (q4_, .inl (c4_, 3, .inl (fun _ => 0))), (q5_, .inl (c5_, 48, .inl (fun _ => 0)))] H := hP
  have hD : va_D A [(o, .inr (0, [.ref q1_, .ref q2_, .ref q3_, .ref q4_, .ref q5_, .null, .null, .int 0, .int 0])), (q1_, .inl (c1_, 48, .inl (fun _ => 0))), (q2_, .inl (c2_, 48, .inl (fun _ => 0))), (q3_, .inl (c3_, 3, .inl (fun _ => 0))), (q4_, .inl (c4_, 3, .inl (fun _ => 0))), (q5_, .inl (c5_, 48, .inl (fun _ => 0)))] := hD
  refine lv_aload_n hx hb dX1_init_42 rfl (lv_at hl 0 rfl) ?_
  refine lv_bipush (v := nI 48) hx hb dX1_init_43 (by decide) ?_
  refine va_newa (atype := .int) (ty := .int) (N' := 48) (a0 := (48, .inl (fun _ => 0))) hx hb (hts _ q65) rfl hK hP hD hS hA (fun _ => rfl) (by decide) (by decide) (by decide) (Nat.le_of_ble_eq_true rfl) (Nat.le_of_ble_eq_true rfl) dX1_init_45 (fun q6_ c6_ H hK hP hD hS => ?_)
  refine W.widen (k := 6) (n := 198) (Nat.le_of_ble_eq_true rfl) (Nat.le_of_ble_eq_true rfl) ?_
  have hP : va_P D vwCl [(o, .inr (0, [.ref q1_, .ref q2_, .ref q3_, .ref q4_, .ref q5_, .null, .null, .int 0, .int 0])), (q1_, .inl (c1_, 48, .inl (fun _ => 0))), (q2_, .inl (c2_, 48, .inl (fun _ => 0))), (q3_, .inl (c3_, 3, .inl (fun _ => 0))), (q4_, .inl (c4_, 3, .inl (fun _ => 0))), (q5_, .inl (c5_, 48, .inl (fun _ => 0))), (q6_, .inl (c6_, 48, .inl (fun _ => 0)))] H := hP
  have hD : va_D A [(o, .inr (0, [.ref q1_, .ref q2_, .ref q3_, .ref q4_, .ref q5_, .null, .null, .int 0, .int 0])), (q1_, .inl (c1_, 48, .inl (fun _ => 0))), (q2_, .inl (c2_, 48, .inl (fun _ => 0))), (q3_, .inl (c3_, 3, .inl (fun _ => 0))), (q4_, .inl (c4_, 3, .inl (fun _ => 0))), (q5_, .inl (c5_, 48, .inl (fun _ => 0))), (q6_, .inl (c6_, 48, .inl (fun _ => 0)))] := hD
  have hK : va_K D vwCl [(c1_, .int), (c2_, .int), (c3_, .int), (c4_, .int), (c5_, .int), (c6_, .int)] s := hK
  refine va_putF (D := D) (ci := 0) (v := .ref q6_) (ty := .array .int) (C := RX1) (T := TX1) (N := 9) hx hb hts in_X1 tyX1 tyX1_ok nmX1 hown hK hP hD hS 0 rfl rfl 5 (by decide) (hts _ q42) (fun _ h9 => h9) rfl hin rfl (by decide +kernel) rfl rfl (Nat.le_of_ble_eq_true rfl) dX1_init_47 (fun H locs hP hD hS => ?_)
  have hP : va_P D vwCl [(o, .inr (0, [.ref q1_, .ref q2_, .ref q3_, .ref q4_, .ref q5_, .ref q6_, .null, .int 0, .int 0])), (q1_, .inl (c1_, 48, .inl (fun _ => 0))), (q2_, .inl (c2_, 48, .inl (fun _ => 0))), (q3_, .inl (c3_, 3, .inl (fun _ => 0))), (q4_, .inl (c4_, 3, .inl (fun _ => 0))), (q5_, .inl (c5_, 48, .inl (fun _ => 0))), (q6_, .inl (c6_, 48, .inl (fun _ => 0)))] H := hP
  have hD : va_D A [(o, .inr (0, [.ref q1_, .ref q2_, .ref q3_, .ref q4_, .ref q5_, .ref q6_, .null, .int 0, .int 0])), (q1_, .inl (c1_, 48, .inl (fun _ => 0))), (q2_, .inl (c2_, 48, .inl (fun _ => 0))), (q3_, .inl (c3_, 3, .inl (fun _ => 0))), (q4_, .inl (c4_, 3, .inl (fun _ => 0))), (q5_, .inl (c5_, 48, .inl (fun _ => 0))), (q6_, .inl (c6_, 48, .inl (fun _ => 0)))] := hD
  refine lv_aload_n hx hb dX1_init_50 rfl (lv_at hl 0 rfl) ?_
  refine lv_bipush (v := nI 16) hx hb dX1_init_51 (by decide) ?_
  refine va_newa (atype := .boolean) (ty := .boolean) (N' := 16) (a0 := (16, .inl (fun _ => 0))) hx hb (hts _ q66) rfl hK hP hD hS hA (fun _ => rfl) (by decide) (by decide) (by decide) (Nat.le_of_ble_eq_true rfl) (Nat.le_of_ble_eq_true rfl) dX1_init_53 (fun q7_ c7_ H hK hP hD hS => ?_)
  refine W.widen (k := 7) (n := 214) (Nat.le_of_ble_eq_true rfl) (Nat.le_of_ble_eq_true rfl) ?_
  have hP : va_P D vwCl [(o, .inr (0, [.ref q1_, .ref q2_, .ref q3_, .ref q4_, .ref q5_, .ref q6_, .null, .int 0, .int 0])), (q1_, .inl (c1_, 48, .inl (fun _ => 0))), (q2_, .inl (c2_, 48, .inl (fun _ => 0))), (q3_, .inl (c3_, 3, .inl (fun _ => 0))), (q4_, .inl (c4_, 3, .inl (fun _ => 0))), (q5_, .inl (c5_, 48, .inl (fun _ => 0))), (q6_, .inl (c6_, 48, .inl (fun _ => 0))), (q7_, .inl (c7_, 16, .inl (fun _ => 0)))] H := hP
  have hD : va_D A [(o, .inr (0, [.ref q1_, .ref q2_, .ref q3_, .ref q4_, .ref q5_, .ref q6_, .null, .int 0, .int 0])), (q1_, .inl (c1_, 48, .inl (fun _ => 0))), (q2_, .inl (c2_, 48, .inl (fun _ => 0))), (q3_, .inl (c3_, 3, .inl (fun _ => 0))), (q4_, .inl (c4_, 3, .inl (fun _ => 0))), (q5_, .inl (c5_, 48, .inl (fun _ => 0))), (q6_, .inl (c6_, 48, .inl (fun _ => 0))), (q7_, .inl (c7_, 16, .inl (fun _ => 0)))] := hD
  have hK : va_K D vwCl [(c1_, .int), (c2_, .int), (c3_, .int), (c4_, .int), (c5_, .int), (c6_, .int), (c7_, .boolean)] s := hK
  refine va_putF (D := D) (ci := 0) (v := .ref q7_) (ty := .array .boolean) (C := RX1) (T := TX1) (N := 9) hx hb hts in_X1 tyX1 tyX1_ok nmX1 hown hK hP hD hS 0 rfl rfl 6 (by decide) (hts _ q43) (fun _ h9 => h9) rfl hin rfl (by decide +kernel) rfl rfl (Nat.le_of_ble_eq_true rfl) dX1_init_55 (fun H locs hP hD hS => ?_)
  have hP : va_P D vwCl [(o, .inr (0, [.ref q1_, .ref q2_, .ref q3_, .ref q4_, .ref q5_, .ref q6_, .ref q7_, .int 0, .int 0])), (q1_, .inl (c1_, 48, .inl (fun _ => 0))), (q2_, .inl (c2_, 48, .inl (fun _ => 0))), (q3_, .inl (c3_, 3, .inl (fun _ => 0))), (q4_, .inl (c4_, 3, .inl (fun _ => 0))), (q5_, .inl (c5_, 48, .inl (fun _ => 0))), (q6_, .inl (c6_, 48, .inl (fun _ => 0))), (q7_, .inl (c7_, 16, .inl (fun _ => 0)))] H := hP
  have hD : va_D A [(o, .inr (0, [.ref q1_, .ref q2_, .ref q3_, .ref q4_, .ref q5_, .ref q6_, .ref q7_, .int 0, .int 0])), (q1_, .inl (c1_, 48, .inl (fun _ => 0))), (q2_, .inl (c2_, 48, .inl (fun _ => 0))), (q3_, .inl (c3_, 3, .inl (fun _ => 0))), (q4_, .inl (c4_, 3, .inl (fun _ => 0))), (q5_, .inl (c5_, 48, .inl (fun _ => 0))), (q6_, .inl (c6_, 48, .inl (fun _ => 0))), (q7_, .inl (c7_, 16, .inl (fun _ => 0)))] := hD
  obtain ⟨a, d, rfl, hP, hD, hK⟩ := packX hP hD hK
  refine lv_aload_n hx hb dX1_init_58 rfl (lv_at hl 0 rfl) ?_
  refine lv_iconst (v := nI 0) hx hb dX1_init_59 (by decide) ?_
  refine lv_iload_n hx hb dX1_init_60 rfl (lv_at hl 1 rfl) ?_
  refine cs_Wi (ci := 0) (As := [.int (nI 0), .int p0]) (rest := []) ⟨hx, hb, hml, hown, hts⟩ (met_secret0 l H.size D a d (fun _ => 0) (fun _ => 0) (fun _ => 0) (fun _ => 0) (fun _ => 0) (fun _ => 0) (fun _ => 0) 0 0 0 p0 (by decide)) (cwV 2 hts (lw_V q30 q31 q32 q20 q33) rfl rfl rfl (by decide +kernel) ⟨Nat.le_of_ble_eq_true rfl, Nat.le_of_ble_eq_true rfl⟩) hK hP hD hS hA rfl rfl rfl hl.1 rfl (Nat.le_of_ble_eq_true rfl) dX1_init_61 ⟨Nat.le_of_ble_eq_true rfl, Nat.le_of_ble_eq_true rfl⟩ (fun r u H locs hw hP hD hS _ => ?_)
  obtain ⟨x0, z0⟩ := u
  obtain ⟨e0, h0a, h0b, rfl⟩ := hw
  refine lv_pop hx hb dX1_init_64 rfl ?_
  refine lv_aload_n hx hb dX1_init_65 rfl (lv_at hl 0 rfl) ?_
  refine lv_iconst (v := nI 1) hx hb dX1_init_66 (by decide) ?_
  refine lv_iload_n hx hb dX1_init_67 rfl (lv_at hl 2 rfl) ?_
  refine cs_Wi (ci := 0) (As := [.int (nI 1), .int p1]) (rest := []) ⟨hx, hb, hml, hown, hts⟩ (met_secret0 l H.size D a d (fun _ => 0) (fun _ => 0) (fun _ => 0) (upd (fun _ => 0) 0 (nI e0)) (fun _ => 0) (fun _ => 0) (fun _ => 0) z0 0 1 p1 (by decide)) (cwV 2 hts (lw_V q30 q31 q32 q20 q33) rfl rfl rfl (by decide +kernel) ⟨Nat.le_of_ble_eq_true rfl, Nat.le_of_ble_eq_true rfl⟩) hK hP hD hS hA rfl rfl rfl hl.1 rfl (Nat.le_of_ble_eq_true rfl) dX1_init_68 ⟨Nat.le_of_ble_eq_true rfl, Nat.le_of_ble_eq_true rfl⟩ (fun r u H locs hw hP hD hS _ => ?_)
  obtain ⟨x1, z1⟩ := u
  obtain ⟨e1, h1a, h1b, rfl⟩ := hw
  refine lv_pop hx hb dX1_init_71 rfl ?_
  refine lv_aload_n hx hb dX1_init_72 rfl (lv_at hl 0 rfl) ?_
  refine lv_iconst (v := nI 2) hx hb dX1_init_73 (by decide) ?_
  refine lv_iload_n hx hb dX1_init_74 rfl (lv_at hl 3 rfl) ?_
  refine cs_Wi (ci := 0) (As := [.int (nI 2), .int p2]) (rest := []) ⟨hx, hb, hml, hown, hts⟩ (met_secret0 l H.size D a d (fun _ => 0) (fun _ => 0) (fun _ => 0) (upd (upd (fun _ => 0) 0 (nI e0)) 1 (nI e1)) (fun _ => 0) (fun _ => 0) (fun _ => 0) z1 0 2 p2 (by decide)) (cwV 2 hts (lw_V q30 q31 q32 q20 q33) rfl rfl rfl (by decide +kernel) ⟨Nat.le_of_ble_eq_true rfl, Nat.le_of_ble_eq_true rfl⟩) hK hP hD hS hA rfl rfl rfl hl.1 rfl (Nat.le_of_ble_eq_true rfl) dX1_init_75 ⟨Nat.le_of_ble_eq_true rfl, Nat.le_of_ble_eq_true rfl⟩ (fun r u H locs hw hP hD hS _ => ?_)
  obtain ⟨x2, z2⟩ := u
  obtain ⟨e2, h2a, h2b, rfl⟩ := hw
  refine lv_pop hx hb dX1_init_78 rfl ?_
  have hE : EI (upd (upd (upd (fun _ => 0) 0 (nI e0)) 1 (nI e1)) 2 (nI e2)) := by
    intro P hP
    rcases (show P = 0 ∨ P = 1 ∨ P = 2 by omega) with q1 | q1 | q1
    · subst q1
      exact ⟨e0, h0a, h0b, rfl⟩
    · subst q1
      exact ⟨e1, h1a, h1b, rfl⟩
    · subst q1
      exact ⟨e2, h2a, h2b, rfl⟩
  exact W.vret hx hb hr (fun t_ ht_ hW_ => ⟨⟨(a, d, (fun _ => 0), (fun _ => 0), (fun _ => 0), upd (upd (upd (fun _ => 0) 0 (nI e0)) 1 (nI e1)) 2 (nI e2), (fun _ => 0), (fun _ => 0), (fun _ => 0), z2, 0), rfl, ⟨rfl, XI_0 _ _ _, hE, rfl⟩, by rw [ht_]; exact hP, va_K.moved hW_.alike hK, hD⟩, hS.F ht_⟩) hS.2.2 dX1_init_79
set_option maxHeartbeats 4000000 in
set_option maxRecDepth 100000 in
theorem mem_init (l : Launch) (sz : Nat) (D : va_G) (o : Nat) (p0 p1 p2 : Int32) : Met l yX2_init (ws_ yX2_init cX2_init 4 none) ({ frames := 1, cells := 2, slots := 384, locals := 40 } : Room) (va_Pc [.ref o, .int p0, .int p1, .int p2] (fun U => U.heap.size = sz ∧ va_P D vwCl [(o, .inr (1, nuM))] U.heap ∧ va_K D vwCl [] U ∧ va_D (fun _ => True) [(o, .inr (1, nuM))])) (va_Qv (fun u => u.1 0 = o ∧ MV A00 u.2.2) (fun (u : (Nat → Nat) × (Nat → ClassId) × MS) t => va_P D vwCl (wMu u.1 u.2.1 u.2.2) t.heap ∧ va_K D vwCl (tyM u.2.1) t ∧ va_D (va_A [(o, .inr (1, nuM))] sz) (wMu u.1 u.2.1 u.2.2)) (va_A [(o, .inr (1, nuM))] sz)) 2 384 (va_A [(o, .inr (1, nuM))] sz) := by
  refine Met.ofW (cc := cX2_init) (maxL := 4) (ret := none) (by decide) rfl ?_
  intro p e s m args below meth c s₁ B hml hv
  obtain ⟨rfl, hsz, hP, hK, hD0⟩ := hv
  have hx := B.exec
  have hb := B.bytes
  have hr := B.returns
  have hlocks := B.notSynchronized
  have hts := atoms_spec (ws := ws_ yX2_init cX2_init 4 none) B.pre
  have hts : ∀ w ∈ lw_all, w.before _ s = true := fun w h => hts w (List.mem_cons_of_mem _ h)
  have hown : s.vm.findClass RX2 = some m.cls := findClass_of_methodNamed B.named
  have hin : meth.name = "<init>" := (name_of_methodNamed B.named B.method).1
  subst hsz
  have hD := hD0.self (sz := s.heap.size)
  generalize hAe : va_A [(o, .inr (1, nuM))] s.heap.size = A at hD ⊢
  have hA : ∀ q : Nat, s.heap.size ≤ q → A q := fun q h => by rw [← hAe]; exact Or.inr h
  have hS : va_S A s.heap s.heap [] := va_S.rf
  have hl := lv_entry ([.ref o, .int p0, .int p1, .int p2]) (n := 4) (Nat.le_of_ble_eq_true rfl)
  rw [lg_entry_eq]
  generalize (lg_sl ([.ref o, .int p0, .int p1, .int p2]) ++ List.replicate (4 - (lg_sl ([.ref o, .int p0, .int p1, .int p2])).length) Slot.unset).toArray = ls at hl ⊢
  have hl : lv_has ls 4 [(0, .ref o), (1, .int p0), (2, .int p1), (3, .int p2)] := hl
  refine lv_aload_n hx hb dX2_init_0 rfl (lv_at hl 0 rfl) ?_
  refine W.objInit hx hb hown (hts _ q192) (hts _ q28) (hts _ q29) rfl (by rw [hml]; exact hl.1) rfl dX2_init_1 (Nat.le_of_ble_eq_true rfl) (Nat.le_of_ble_eq_true rfl) ?_
  refine W.eq (g2 := F0 m 4 ls []) rfl ?_
  refine lv_aload_n hx hb dX2_init_4 rfl (lv_at hl 0 rfl) ?_
  refine lv_sipush (v := nI 192) hx hb dX2_init_5 (by decide) ?_
  refine va_newa (atype := .boolean) (ty := .boolean) (N' := 192) (a0 := (192, .inl (fun _ => 0))) hx hb (hts _ q66) rfl hK hP hD hS hA (fun _ => rfl) (by decide) (by decide) (by decide) (Nat.le_of_ble_eq_true rfl) (Nat.le_of_ble_eq_true rfl) dX2_init_8 (fun q1_ c1_ H hK hP hD hS => ?_)
  refine W.widen (k := 1) (n := 192) (Nat.le_of_ble_eq_true rfl) (Nat.le_of_ble_eq_true rfl) ?_
  have hP : va_P D vwCl [(o, .inr (1, [.null, .null, .int 0])), (q1_, .inl (c1_, 192, .inl (fun _ => 0)))] H := hP
  have hD : va_D A [(o, .inr (1, [.null, .null, .int 0])), (q1_, .inl (c1_, 192, .inl (fun _ => 0)))] := hD
  have hK : va_K D vwCl [(c1_, .boolean)] s := hK
  refine va_put (D := D) (ci := 1) (v := .ref q1_) (ty := .array .boolean) (C := RX2) (T := TX2) (N := 3) hx hb hts in_X2 tyX2 tyX2_ok nmX2 hown hK hP hD hS 0 rfl rfl 0 (by decide) (hts _ q193) (fun _ h9 => h9) rfl (by decide +kernel) rfl rfl (Nat.le_of_ble_eq_true rfl) dX2_init_10 (fun H locs hP hD hS => ?_)
  have hP : va_P D vwCl [(o, .inr (1, [.ref q1_, .null, .int 0])), (q1_, .inl (c1_, 192, .inl (fun _ => 0)))] H := hP
  have hD : va_D A [(o, .inr (1, [.ref q1_, .null, .int 0])), (q1_, .inl (c1_, 192, .inl (fun _ => 0)))] := hD
  refine lv_aload_n hx hb dX2_init_13 rfl (lv_at hl 0 rfl) ?_
  refine lv_sipush (v := nI 192) hx hb dX2_init_14 (by decide) ?_
  refine va_newa (atype := .int) (ty := .int) (N' := 192) (a0 := (192, .inl (fun _ => 0))) hx hb (hts _ q65) rfl hK hP hD hS hA (fun _ => rfl) (by decide) (by decide) (by decide) (Nat.le_of_ble_eq_true rfl) (Nat.le_of_ble_eq_true rfl) dX2_init_17 (fun q2_ c2_ H hK hP hD hS => ?_)
  refine W.widen (k := 2) (n := 384) (Nat.le_of_ble_eq_true rfl) (Nat.le_of_ble_eq_true rfl) ?_
  have hP : va_P D vwCl [(o, .inr (1, [.ref q1_, .null, .int 0])), (q1_, .inl (c1_, 192, .inl (fun _ => 0))), (q2_, .inl (c2_, 192, .inl (fun _ => 0)))] H := hP
  have hD : va_D A [(o, .inr (1, [.ref q1_, .null, .int 0])), (q1_, .inl (c1_, 192, .inl (fun _ => 0))), (q2_, .inl (c2_, 192, .inl (fun _ => 0)))] := hD
  have hK : va_K D vwCl [(c1_, .boolean), (c2_, .int)] s := hK
  refine va_put (D := D) (ci := 1) (v := .ref q2_) (ty := .array .int) (C := RX2) (T := TX2) (N := 3) hx hb hts in_X2 tyX2 tyX2_ok nmX2 hown hK hP hD hS 0 rfl rfl 1 (by decide) (hts _ q194) (fun _ h9 => h9) rfl (by decide +kernel) rfl rfl (Nat.le_of_ble_eq_true rfl) dX2_init_19 (fun H locs hP hD hS => ?_)
  have hP : va_P D vwCl [(o, .inr (1, [.ref q1_, .ref q2_, .int 0])), (q1_, .inl (c1_, 192, .inl (fun _ => 0))), (q2_, .inl (c2_, 192, .inl (fun _ => 0)))] H := hP
  have hD : va_D A [(o, .inr (1, [.ref q1_, .ref q2_, .int 0])), (q1_, .inl (c1_, 192, .inl (fun _ => 0))), (q2_, .inl (c2_, 192, .inl (fun _ => 0)))] := hD
  obtain ⟨a, d, rfl, hP, hD, hK⟩ := packM hP hD hK
  exact W.vret hx hb hr (fun t_ ht_ hW_ => ⟨⟨(a, d, (fun _ => 0), (fun _ => 0), 0), rfl, ⟨rfl, MI_0 _ _, rfl⟩, by rw [ht_]; exact hP, va_K.moved hW_.alike hK, hD⟩, hS.F ht_⟩) hS.2.2 dX2_init_22
end
section
theorem MPost.mk {F : Int32 × AS} {r : Int32} {has wgt : Nat → Int32} {sen : Int32} (A : AS) (h : F = (r, A)) (h1 : MI A.1 A.2.1 has wgt) (h3 : sen = A.2.2) : MPost F r (has, wgt, sen) := ⟨A, h, h1, h3⟩
theorem hold_ct (S : Nat → Nat → Bool) (i : Nat) : fb_ct (fun p => S p i) 3 = hold S i := by
  unfold hold
  show 0 + (if S 0 i = true then 1 else 0) + (if S 1 i = true then 1 else 0) + (if S 2 i = true then 1 else 0) = _
  cases S 0 i <;> cases S 1 i <;> cases S 2 i <;> rfl
theorem hold_le (S : Nat → Nat → Bool) (i : Nat) : hold S i ≤ 3 := by
  rw [← hold_ct]
  exact fb_ct_le _ _
theorem hk_y {S : Nat → Nat → Bool} {K i : Nat} (h : hold S i = K) : hk S K i = true := by
  unfold hk
  rw [h]
  exact beq_self_eq_true K
theorem hk_n {S : Nat → Nat → Bool} {K i : Nat} (h : hold S i ≠ K) : hk S K i = false := by
  unfold hk
  exact beq_false_of_ne h
theorem an_n1 {f g : Nat → Bool} {i : Nat} (h : f i = false) : an f g i = false := by
  unfold an
  rw [h, Bool.false_and]
theorem an_n2 {f g : Nat → Bool} {i : Nat} (h : g i = false) : an f g i = false := by
  unfold an
  rw [h, Bool.and_false]
theorem an_y {f g : Nat → Bool} {i : Nat} (h1 : f i = true) (h2 : g i = true) : an f g i = true := by
  unfold an
  rw [h1, h2]
  rfl
theorem frs_n1 {S : Nat → Nat → Bool} {P a k c i : Nat} (h : am a k c i = false) : frs S P a k c i = false := by
  unfold frs
  rw [h, Bool.false_and]
theorem frs_n2 {S : Nat → Nat → Bool} {P a k c i : Nat} (h : S P i = true) : frs S P a k c i = false := by
  unfold frs
  rw [h, Bool.not_true, Bool.and_false]
theorem frs_y {S : Nat → Nat → Bool} {P a k c i : Nat} (h1 : am a k c i = true) (h2 : S P i = false) : frs S P a k c i = true := by
  unfold frs
  rw [h1, h2]
  rfl
/-- a party's set while it is cleared -/
def clS (S : Nat → Nat → Bool) (P j : Nat) : Nat → Nat → Bool := fun p i => if p = P then !decide (i < j) && S P i else S p i
theorem cl_0 {S : Nat → Nat → Bool} {P p i : Nat} : S p i = clS S P 0 p i := by
  unfold clS
  split
  · rename_i e
    subst e
    rw [decide_eq_false (Nat.not_lt_zero i), Bool.not_false, Bool.true_and]
  · rfl
theorem cl_s {S : Nat → Nat → Bool} {P j p i : Nat} : sS (clS S P j) P j false p i = clS S P (j + 1) p i := by
  unfold sS
  by_cases e : p = P
  · subst e
    rw [if_pos rfl]
    unfold s1
    by_cases e2 : i = j
    · subst e2
      rw [if_pos rfl]
      unfold clS
      rw [if_pos rfl, decide_eq_true (Nat.lt_succ_self i), Bool.not_true, Bool.false_and]
    · rw [if_neg e2]
      unfold clS
      rw [if_pos rfl, if_pos rfl, gj_lt, decide_eq_false e2, Bool.or_false]
  · rw [if_neg e]
    unfold clS
    rw [if_neg e, if_neg e]
theorem cl_e {S : Nat → Nat → Bool} {P p i : Nat} (hi : i < 64) : clS S P 64 p i = sC S P p i := by
  unfold clS sC
  split
  · rw [decide_eq_true hi, Bool.not_true, Bool.false_and]
  · rfl
set_option maxHeartbeats 4000000 in
set_option maxRecDepth 100000 in
theorem mem_bad (l : Launch) (a : Nat → Nat) (p0 : Int32) : Met l yX2_bad (ws_ yX2_bad cX2_bad 2 (some .boolean)) ({ frames := 0, cells := 0, slots := 0, locals := 0 } : Room) (va_Pc [.ref (a 0), .int p0] (fun _ => True)) (vp_Si (fun r => (r = nI 0 ∧ ∃ P, P < 3 ∧ p0 = nI P) ∨ (r = nI 1 ∧ ∀ P, P < 3 → p0 ≠ nI P))) 0 0 (fun _ => False) := by
  refine Met.ofW (cc := cX2_bad) (maxL := 2) (ret := (some .boolean)) (by decide) rfl ?_
  intro p e s m args below meth c s₁ B hml hv
  obtain ⟨rfl, -⟩ := hv
  have hx := B.exec
  have hb := B.bytes
  have hr := B.returns
  have hlocks := B.notSynchronized
  have hts := atoms_spec (ws := ws_ yX2_bad cX2_bad 2 (some .boolean)) B.pre
  have hts : ∀ w ∈ lw_all, w.before _ s = true := fun w h => hts w (List.mem_cons_of_mem _ h)
  have hown : s.vm.findClass RX2 = some m.cls := findClass_of_methodNamed B.named
  have hl := lv_entry ([.ref (a 0), .int p0]) (n := 2) (Nat.le_of_ble_eq_true rfl)
  rw [lg_entry_eq]
  generalize (lg_sl ([.ref (a 0), .int p0]) ++ List.replicate (2 - (lg_sl ([.ref (a 0), .int p0])).length) Slot.unset).toArray = ls at hl ⊢
  have hl : lv_has ls 2 [(0, .ref (a 0)), (1, .int p0)] := hl
  refine lv_iload_n hx hb dX2_bad_0 rfl (lv_at hl 1 rfl) ?_
  refine lv_if_lt (tgt := 9) hx hb dX2_bad_1 (by decide) (fun c1 => ?_) (fun c1 => ?_)
  · refine lv_iconst (v := nI 1) hx hb dX2_bad_9 (by decide) ?_
    refine lv_goto (tgt := 14) hx hb dX2_bad_10 (by decide) ?_
    exact W.zret (v := nI 1) hx hb hr rfl (fun t_ ht_ hW_ => ⟨_, rfl, Or.inr ⟨rfl, out_neg (by decide) c1⟩, ht_⟩) (fun _ h => absurd h List.not_mem_nil) dX2_bad_14
  · refine lv_iload_n hx hb dX2_bad_4 rfl (lv_at hl 1 rfl) ?_
    refine lv_iconst (v := nI 2) hx hb dX2_bad_5 (by decide) ?_
    refine lv_icmp_le (tgt := 13) hx hb dX2_bad_6 (by decide) (fun c2 => ?_) (fun c2 => ?_)
    · refine lv_iconst (v := nI 0) hx hb dX2_bad_13 (by decide) ?_
      exact W.zret (v := nI 0) hx hb hr rfl (fun t_ ht_ hW_ => ⟨_, rfl, Or.inl ⟨rfl, in_le (by decide) c1 (fun q => by rw [i_le] at c2; rw [i_lt] at q; omega)⟩, ht_⟩) (fun _ h => absurd h List.not_mem_nil) dX2_bad_14
    · refine lv_iconst (v := nI 1) hx hb dX2_bad_9 (by decide) ?_
      refine lv_goto (tgt := 14) hx hb dX2_bad_10 (by decide) ?_
      exact W.zret (v := nI 1) hx hb hr rfl (fun t_ ht_ hW_ => ⟨_, rfl, Or.inr ⟨rfl, out_gt (by decide) (i_nle c2)⟩, ht_⟩) (fun _ h => absurd h List.not_mem_nil) dX2_bad_14
set_option maxHeartbeats 4000000 in
set_option maxRecDepth 100000 in
theorem mem_badItem (l : Launch) (a : Nat → Nat) (p0 : Int32) : Met l yX2_badItem (ws_ yX2_badItem cX2_badItem 2 (some .boolean)) ({ frames := 0, cells := 0, slots := 0, locals := 0 } : Room) (va_Pc [.ref (a 0), .int p0] (fun _ => True)) (vp_Si (fun r => (r = nI 0 ∧ ∃ P, P < 64 ∧ p0 = nI P) ∨ (r = nI 1 ∧ ∀ P, P < 64 → p0 ≠ nI P))) 0 0 (fun _ => False) := by
  refine Met.ofW (cc := cX2_badItem) (maxL := 2) (ret := (some .boolean)) (by decide) rfl ?_
  intro p e s m args below meth c s₁ B hml hv
  obtain ⟨rfl, -⟩ := hv
  have hx := B.exec
  have hb := B.bytes
  have hr := B.returns
  have hlocks := B.notSynchronized
  have hts := atoms_spec (ws := ws_ yX2_badItem cX2_badItem 2 (some .boolean)) B.pre
  have hts : ∀ w ∈ lw_all, w.before _ s = true := fun w h => hts w (List.mem_cons_of_mem _ h)
  have hown : s.vm.findClass RX2 = some m.cls := findClass_of_methodNamed B.named
  have hl := lv_entry ([.ref (a 0), .int p0]) (n := 2) (Nat.le_of_ble_eq_true rfl)
  rw [lg_entry_eq]
  generalize (lg_sl ([.ref (a 0), .int p0]) ++ List.replicate (2 - (lg_sl ([.ref (a 0), .int p0])).length) Slot.unset).toArray = ls at hl ⊢
  have hl : lv_has ls 2 [(0, .ref (a 0)), (1, .int p0)] := hl
  refine lv_iload_n hx hb dX2_badItem_0 rfl (lv_at hl 1 rfl) ?_
  refine lv_if_lt (tgt := 10) hx hb dX2_badItem_1 (by decide) (fun c1 => ?_) (fun c1 => ?_)
  · refine lv_iconst (v := nI 1) hx hb dX2_badItem_10 (by decide) ?_
    refine lv_goto (tgt := 15) hx hb dX2_badItem_11 (by decide) ?_
    exact W.zret (v := nI 1) hx hb hr rfl (fun t_ ht_ hW_ => ⟨_, rfl, Or.inr ⟨rfl, out_neg (by decide) c1⟩, ht_⟩) (fun _ h => absurd h List.not_mem_nil) dX2_badItem_15
  · refine lv_iload_n hx hb dX2_badItem_4 rfl (lv_at hl 1 rfl) ?_
    refine lv_bipush (v := nI 63) hx hb dX2_badItem_5 (by decide) ?_
    refine lv_icmp_le (tgt := 14) hx hb dX2_badItem_7 (by decide) (fun c2 => ?_) (fun c2 => ?_)
    · refine lv_iconst (v := nI 0) hx hb dX2_badItem_14 (by decide) ?_
      exact W.zret (v := nI 0) hx hb hr rfl (fun t_ ht_ hW_ => ⟨_, rfl, Or.inl ⟨rfl, in_le (by decide) c1 (fun q => by rw [i_le] at c2; rw [i_lt] at q; omega)⟩, ht_⟩) (fun _ h => absurd h List.not_mem_nil) dX2_badItem_15
    · refine lv_iconst (v := nI 1) hx hb dX2_badItem_10 (by decide) ?_
      refine lv_goto (tgt := 15) hx hb dX2_badItem_11 (by decide) ?_
      exact W.zret (v := nI 1) hx hb hr rfl (fun t_ ht_ hW_ => ⟨_, rfl, Or.inr ⟨rfl, out_gt (by decide) (i_nle c2)⟩, ht_⟩) (fun _ h => absurd h List.not_mem_nil) dX2_badItem_15
set_option maxHeartbeats 4000000 in
set_option maxRecDepth 100000 in
theorem mem_size (l : Launch) (D : va_G) (a : Nat → Nat) (d : Nat → ClassId) (has wgt : Nat → Int32) (sen : Int32) (S : Nat → Nat → Bool) (w : Nat → Nat → Int32) (P : Nat) (hP3 : P < 3) (hm : MI S w has wgt) : Met l yX2_size (ws_ yX2_size cX2_size 4 (some .int)) ({ frames := 0, cells := 0, slots := 0, locals := 0 } : Room) (va_Pc [.ref (a 0), .int (nI P)] (fun U => va_P D vwCl (wM a d has wgt sen) U.heap ∧ va_K D vwCl (tyM d) U)) (vp_Si (fun r => r = nI (fb_ct (S P) 64))) 0 0 (fun _ => False) := by
  refine Met.ofW (cc := cX2_size) (maxL := 4) (ret := (some .int)) (by decide) rfl ?_
  intro p e s m args below meth c s₁ B hml hv
  obtain ⟨rfl, hP, hK⟩ := hv
  have hx := B.exec
  have hb := B.bytes
  have hr := B.returns
  have hlocks := B.notSynchronized
  have hts := atoms_spec (ws := ws_ yX2_size cX2_size 4 (some .int)) B.pre
  have hts : ∀ w ∈ lw_all, w.before _ s = true := fun w h => hts w (List.mem_cons_of_mem _ h)
  have hown : s.vm.findClass RX2 = some m.cls := findClass_of_methodNamed B.named
  have hl := lv_entry ([.ref (a 0), .int (nI P)]) (n := 4) (Nat.le_of_ble_eq_true rfl)
  rw [lg_entry_eq]
  generalize (lg_sl ([.ref (a 0), .int (nI P)]) ++ List.replicate (4 - (lg_sl ([.ref (a 0), .int (nI P)])).length) Slot.unset).toArray = ls at hl ⊢
  have hl : lv_has ls 4 [(0, .ref (a 0)), (1, .int (nI P))] := hl
  refine lv_iconst (v := nI 0) hx hb dX2_size_0 (by decide) ?_
  refine lv_istore_n (lv' := [(2, .int (nI 0)), (0, .ref (a 0)), (1, .int (nI P))]) hx hb dX2_size_1 rfl hl (by decide) rfl (fun ls hl => ?_)
  refine lv_iconst (v := nI 0) hx hb dX2_size_2 (by decide) ?_
  refine lv_istore_n (lv' := [(3, .int (nI 0)), (2, .int (nI 0)), (0, .ref (a 0)), (1, .int (nI P))]) hx hb dX2_size_3 rfl hl (by decide) rfl (fun ls hl => ?_)
  have loop : ∀ (q : Nat) (i : Nat), 64 < i + q → (i ≤ 64) → ∀ (ls : Array Slot), lv_has ls 4 [(3, .int (nI i)), (2, .int (nI (fb_ct (S P) i))), (0, .ref (a 0)), (1, .int (nI P))] → W p l e (headSpec (ws_ yX2_size cX2_size 4 (some .int)) ({ frames := 0, cells := 0, slots := 0, locals := 0 } : Room)).room s m ([.ref (a 0), .int (nI P)] : List Value).toArray below meth c s.heap [] 0 0 (MQ below (vp_Si (fun r => r = nI (fb_ct (S P) 64))) ([.ref (a 0), .int (nI P)] : List Value).toArray s 0 0 (fun _ => False)) (F0 m 4 ls []) := by
    intro q
    induction q with
    | zero =>
      intro i hq hi
      exact absurd hq (by omega)
    | succ q ih =>
      intro i hq hi ls hl
      refine lv_iload_n hx hb dX2_size_4 rfl (lv_at hl 0 rfl) ?_
      refine lv_bipush (v := nI 64) hx hb dX2_size_5 (by decide) ?_
      refine xb_ge (tgt := 33) hx hb dX2_size_7 (by decide) (by omega) (by omega) (fun c1 => ?_) (fun c1 => ?_)
      · refine lv_iload_n hx hb dX2_size_33 rfl (lv_at hl 1 rfl) ?_
        exact W.iret (v := nI (fb_ct (S P) i)) hx hb hr (fun t_ ht_ hW_ => ⟨_, rfl, by rw [show i = 64 by omega], ht_⟩) (fun _ h => absurd h List.not_mem_nil) dX2_size_34
      · refine lv_aload_n hx hb dX2_size_10 rfl (lv_at hl 2 rfl) ?_
        refine mg_has hx hb hts hown hK hP dX2_size_11 ?_
        refine lv_bipush (v := nI 64) hx hb dX2_size_14 (by decide) ?_
        refine lv_iload_n hx hb dX2_size_16 rfl (lv_at hl 3 rfl) ?_
        refine lv_imul hx hb dX2_size_17 ?_
        refine xr_set (y := nI (64 * P)) (pk_mul _ _) ?_
        refine lv_iload_n hx hb dX2_size_18 rfl (lv_at hl 0 rfl) ?_
        refine lv_iadd hx hb dX2_size_19 ?_
        refine xr_set (y := nI ((64 * P) + i)) (nI_add _ _) ?_
        refine ml_has hx hb hK hP (j := ((64 * P) + i)) (by omega) dX2_size_20 ?_
        refine xr_set (y := bI (S P i)) (hm P hP3 i c1).1 ?_
        refine lv_if_eq (tgt := 27) hx hb dX2_size_21 (by decide) (fun c2 => ?_) (fun c2 => ?_)
        · refine lv_iinc (v := nI (i + 1)) (lv' := [(3, .int (nI (i + 1))), (2, .int (nI (fb_ct (S P) i))), (0, .ref (a 0)), (1, .int (nI P))]) hx hb dX2_size_27 hl (k := 0) rfl (nI_1 _) (by decide) rfl (fun ls hl => ?_)
          refine lv_goto (tgt := 4) hx hb dX2_size_30 (by decide) ?_
          exact ih (i + 1) (by omega) (by omega) ls (by rw [ct_n (bI_0.mp c2)]; exact (lv_sub hl [0, 1, 2, 3] rfl))
        · refine lv_iinc (v := nI ((fb_ct (S P) i) + 1)) (lv' := [(2, .int (nI ((fb_ct (S P) i) + 1))), (3, .int (nI i)), (0, .ref (a 0)), (1, .int (nI P))]) hx hb dX2_size_24 hl (k := 1) rfl (nI_1 _) (by decide) rfl (fun ls hl => ?_)
          refine lv_iinc (v := nI (i + 1)) (lv' := [(3, .int (nI (i + 1))), (2, .int (nI ((fb_ct (S P) i) + 1))), (0, .ref (a 0)), (1, .int (nI P))]) hx hb dX2_size_27 hl (k := 1) rfl (nI_1 _) (by decide) rfl (fun ls hl => ?_)
          refine lv_goto (tgt := 4) hx hb dX2_size_30 (by decide) ?_
          exact ih (i + 1) (by omega) (by omega) ls (by rw [ct_y (bI_n0.mp c2)]; exact (lv_sub hl [0, 1, 2, 3] rfl))
  exact loop 65 0 (by omega) (by omega) ls (lv_sub hl [0, 1, 2, 3] rfl)
set_option maxHeartbeats 4000000 in
set_option maxRecDepth 100000 in
theorem mem_shared (l : Launch) (D : va_G) (a : Nat → Nat) (d : Nat → ClassId) (has wgt : Nat → Int32) (sen : Int32) (S : Nat → Nat → Bool) (w : Nat → Nat → Int32) (P Q : Nat) (hP3 : P < 3) (hQ3 : Q < 3) (hm : MI S w has wgt) : Met l yX2_shared (ws_ yX2_shared cX2_shared 5 (some .int)) ({ frames := 0, cells := 0, slots := 0, locals := 0 } : Room) (va_Pc [.ref (a 0), .int (nI P), .int (nI Q)] (fun U => va_P D vwCl (wM a d has wgt sen) U.heap ∧ va_K D vwCl (tyM d) U)) (vp_Si (fun r => r = nI (fb_ct (an (S P) (S Q)) 64))) 0 0 (fun _ => False) := by
  refine Met.ofW (cc := cX2_shared) (maxL := 5) (ret := (some .int)) (by decide) rfl ?_
  intro p e s m args below meth c s₁ B hml hv
  obtain ⟨rfl, hP, hK⟩ := hv
  have hx := B.exec
  have hb := B.bytes
  have hr := B.returns
  have hlocks := B.notSynchronized
  have hts := atoms_spec (ws := ws_ yX2_shared cX2_shared 5 (some .int)) B.pre
  have hts : ∀ w ∈ lw_all, w.before _ s = true := fun w h => hts w (List.mem_cons_of_mem _ h)
  have hown : s.vm.findClass RX2 = some m.cls := findClass_of_methodNamed B.named
  have hl := lv_entry ([.ref (a 0), .int (nI P), .int (nI Q)]) (n := 5) (Nat.le_of_ble_eq_true rfl)
  rw [lg_entry_eq]
  generalize (lg_sl ([.ref (a 0), .int (nI P), .int (nI Q)]) ++ List.replicate (5 - (lg_sl ([.ref (a 0), .int (nI P), .int (nI Q)])).length) Slot.unset).toArray = ls at hl ⊢
  have hl : lv_has ls 5 [(0, .ref (a 0)), (1, .int (nI P)), (2, .int (nI Q))] := hl
  refine lv_iconst (v := nI 0) hx hb dX2_shared_0 (by decide) ?_
  refine lv_istore_n (lv' := [(3, .int (nI 0)), (0, .ref (a 0)), (1, .int (nI P)), (2, .int (nI Q))]) hx hb dX2_shared_1 rfl hl (by decide) rfl (fun ls hl => ?_)
  refine lv_iconst (v := nI 0) hx hb dX2_shared_2 (by decide) ?_
  refine lv_istore (lv' := [(4, .int (nI 0)), (3, .int (nI 0)), (0, .ref (a 0)), (1, .int (nI P)), (2, .int (nI Q))]) hx hb dX2_shared_3 hl (by decide) rfl (fun ls hl => ?_)
  have loop : ∀ (q : Nat) (i : Nat), 64 < i + q → (i ≤ 64) → ∀ (ls : Array Slot), lv_has ls 5 [(4, .int (nI i)), (3, .int (nI (fb_ct (an (S P) (S Q)) i))), (0, .ref (a 0)), (1, .int (nI P)), (2, .int (nI Q))] → W p l e (headSpec (ws_ yX2_shared cX2_shared 5 (some .int)) ({ frames := 0, cells := 0, slots := 0, locals := 0 } : Room)).room s m ([.ref (a 0), .int (nI P), .int (nI Q)] : List Value).toArray below meth c s.heap [] 0 0 (MQ below (vp_Si (fun r => r = nI (fb_ct (an (S P) (S Q)) 64))) ([.ref (a 0), .int (nI P), .int (nI Q)] : List Value).toArray s 0 0 (fun _ => False)) (F0 m 5 ls []) := by
    intro q
    induction q with
    | zero =>
      intro i hq hi
      exact absurd hq (by omega)
    | succ q ih =>
      intro i hq hi ls hl
      refine lv_iload hx hb dX2_shared_5 (lv_at hl 0 rfl) ?_
      refine lv_bipush (v := nI 64) hx hb dX2_shared_7 (by decide) ?_
      refine xb_ge (tgt := 51) hx hb dX2_shared_9 (by decide) (by omega) (by omega) (fun c1 => ?_) (fun c1 => ?_)
      · refine lv_iload_n hx hb dX2_shared_51 rfl (lv_at hl 1 rfl) ?_
        exact W.iret (v := nI (fb_ct (an (S P) (S Q)) i)) hx hb hr (fun t_ ht_ hW_ => ⟨_, rfl, by rw [show i = 64 by omega], ht_⟩) (fun _ h => absurd h List.not_mem_nil) dX2_shared_52
      · refine lv_aload_n hx hb dX2_shared_12 rfl (lv_at hl 2 rfl) ?_
        refine mg_has hx hb hts hown hK hP dX2_shared_13 ?_
        refine lv_bipush (v := nI 64) hx hb dX2_shared_16 (by decide) ?_
        refine lv_iload_n hx hb dX2_shared_18 rfl (lv_at hl 3 rfl) ?_
        refine lv_imul hx hb dX2_shared_19 ?_
        refine xr_set (y := nI (64 * P)) (pk_mul _ _) ?_
        refine lv_iload hx hb dX2_shared_20 (lv_at hl 0 rfl) ?_
        refine lv_iadd hx hb dX2_shared_22 ?_
        refine xr_set (y := nI ((64 * P) + i)) (nI_add _ _) ?_
        refine ml_has hx hb hK hP (j := ((64 * P) + i)) (by omega) dX2_shared_23 ?_
        refine xr_set (y := bI (S P i)) (hm P hP3 i c1).1 ?_
        refine lv_if_eq (tgt := 45) hx hb dX2_shared_24 (by decide) (fun c2 => ?_) (fun c2 => ?_)
        · refine lv_iinc (v := nI (i + 1)) (lv' := [(4, .int (nI (i + 1))), (3, .int (nI (fb_ct (an (S P) (S Q)) i))), (0, .ref (a 0)), (1, .int (nI P)), (2, .int (nI Q))]) hx hb dX2_shared_45 hl (k := 0) rfl (nI_1 _) (by decide) rfl (fun ls hl => ?_)
          refine lv_goto (tgt := 5) hx hb dX2_shared_48 (by decide) ?_
          exact ih (i + 1) (by omega) (by omega) ls (by rw [ct_n (an_n1 (bI_0.mp c2))]; exact (lv_sub hl [0, 1, 2, 3, 4] rfl))
        · refine lv_aload_n hx hb dX2_shared_27 rfl (lv_at hl 2 rfl) ?_
          refine mg_has hx hb hts hown hK hP dX2_shared_28 ?_
          refine lv_bipush (v := nI 64) hx hb dX2_shared_31 (by decide) ?_
          refine lv_iload_n hx hb dX2_shared_33 rfl (lv_at hl 4 rfl) ?_
          refine lv_imul hx hb dX2_shared_34 ?_
          refine xr_set (y := nI (64 * Q)) (pk_mul _ _) ?_
          refine lv_iload hx hb dX2_shared_35 (lv_at hl 0 rfl) ?_
          refine lv_iadd hx hb dX2_shared_37 ?_
          refine xr_set (y := nI ((64 * Q) + i)) (nI_add _ _) ?_
          refine ml_has hx hb hK hP (j := ((64 * Q) + i)) (by omega) dX2_shared_38 ?_
          refine xr_set (y := bI (S Q i)) (hm Q hQ3 i c1).1 ?_
          refine lv_if_eq (tgt := 45) hx hb dX2_shared_39 (by decide) (fun c3 => ?_) (fun c3 => ?_)
          · refine lv_iinc (v := nI (i + 1)) (lv' := [(4, .int (nI (i + 1))), (3, .int (nI (fb_ct (an (S P) (S Q)) i))), (0, .ref (a 0)), (1, .int (nI P)), (2, .int (nI Q))]) hx hb dX2_shared_45 hl (k := 0) rfl (nI_1 _) (by decide) rfl (fun ls hl => ?_)
            refine lv_goto (tgt := 5) hx hb dX2_shared_48 (by decide) ?_
            exact ih (i + 1) (by omega) (by omega) ls (by rw [ct_n (an_n2 (bI_0.mp c3))]; exact (lv_sub hl [0, 1, 2, 3, 4] rfl))
          · refine lv_iinc (v := nI ((fb_ct (an (S P) (S Q)) i) + 1)) (lv' := [(3, .int (nI ((fb_ct (an (S P) (S Q)) i) + 1))), (4, .int (nI i)), (0, .ref (a 0)), (1, .int (nI P)), (2, .int (nI Q))]) hx hb dX2_shared_42 hl (k := 1) rfl (nI_1 _) (by decide) rfl (fun ls hl => ?_)
            refine lv_iinc (v := nI (i + 1)) (lv' := [(4, .int (nI (i + 1))), (3, .int (nI ((fb_ct (an (S P) (S Q)) i) + 1))), (0, .ref (a 0)), (1, .int (nI P)), (2, .int (nI Q))]) hx hb dX2_shared_45 hl (k := 1) rfl (nI_1 _) (by decide) rfl (fun ls hl => ?_)
            refine lv_goto (tgt := 5) hx hb dX2_shared_48 (by decide) ?_
            exact ih (i + 1) (by omega) (by omega) ls (by rw [ct_y (an_y (bI_n0.mp c2) (bI_n0.mp c3))]; exact (lv_sub hl [0, 1, 2, 3, 4] rfl))
  exact loop 65 0 (by omega) (by omega) ls (lv_sub hl [0, 1, 2, 3, 4] rfl)
set_option maxHeartbeats 4000000 in
set_option maxRecDepth 100000 in
theorem mem_holders (l : Launch) (D : va_G) (a : Nat → Nat) (d : Nat → ClassId) (has wgt : Nat → Int32) (sen : Int32) (S : Nat → Nat → Bool) (w : Nat → Nat → Int32) (i : Nat) (hi : i < 64) (hm : MI S w has wgt) : Met l yX2_holders (ws_ yX2_holders cX2_holders 4 (some .int)) ({ frames := 0, cells := 0, slots := 0, locals := 0 } : Room) (va_Pc [.ref (a 0), .int (nI i)] (fun U => va_P D vwCl (wM a d has wgt sen) U.heap ∧ va_K D vwCl (tyM d) U)) (vp_Si (fun r => r = nI (hold S i))) 0 0 (fun _ => False) := by
  refine Met.ofW (cc := cX2_holders) (maxL := 4) (ret := (some .int)) (by decide) rfl ?_
  intro p e s m args below meth c s₁ B hml hv
  obtain ⟨rfl, hP, hK⟩ := hv
  have hx := B.exec
  have hb := B.bytes
  have hr := B.returns
  have hlocks := B.notSynchronized
  have hts := atoms_spec (ws := ws_ yX2_holders cX2_holders 4 (some .int)) B.pre
  have hts : ∀ w ∈ lw_all, w.before _ s = true := fun w h => hts w (List.mem_cons_of_mem _ h)
  have hown : s.vm.findClass RX2 = some m.cls := findClass_of_methodNamed B.named
  have hl := lv_entry ([.ref (a 0), .int (nI i)]) (n := 4) (Nat.le_of_ble_eq_true rfl)
  rw [lg_entry_eq]
  generalize (lg_sl ([.ref (a 0), .int (nI i)]) ++ List.replicate (4 - (lg_sl ([.ref (a 0), .int (nI i)])).length) Slot.unset).toArray = ls at hl ⊢
  have hl : lv_has ls 4 [(0, .ref (a 0)), (1, .int (nI i))] := hl
  refine lv_iconst (v := nI 0) hx hb dX2_holders_0 (by decide) ?_
  refine lv_istore_n (lv' := [(2, .int (nI 0)), (0, .ref (a 0)), (1, .int (nI i))]) hx hb dX2_holders_1 rfl hl (by decide) rfl (fun ls hl => ?_)
  refine lv_iconst (v := nI 0) hx hb dX2_holders_2 (by decide) ?_
  refine lv_istore_n (lv' := [(3, .int (nI 0)), (2, .int (nI 0)), (0, .ref (a 0)), (1, .int (nI i))]) hx hb dX2_holders_3 rfl hl (by decide) rfl (fun ls hl => ?_)
  have loop : ∀ (q : Nat) (j : Nat), 3 < j + q → (j ≤ 3) → ∀ (ls : Array Slot), lv_has ls 4 [(3, .int (nI j)), (2, .int (nI (fb_ct (fun p => S p i) j))), (0, .ref (a 0)), (1, .int (nI i))] → W p l e (headSpec (ws_ yX2_holders cX2_holders 4 (some .int)) ({ frames := 0, cells := 0, slots := 0, locals := 0 } : Room)).room s m ([.ref (a 0), .int (nI i)] : List Value).toArray below meth c s.heap [] 0 0 (MQ below (vp_Si (fun r => r = nI (hold S i))) ([.ref (a 0), .int (nI i)] : List Value).toArray s 0 0 (fun _ => False)) (F0 m 4 ls []) := by
    intro q
    induction q with
    | zero =>
      intro j hq hj
      exact absurd hq (by omega)
    | succ q ih =>
      intro j hq hj ls hl
      refine lv_iload_n hx hb dX2_holders_4 rfl (lv_at hl 0 rfl) ?_
      refine lv_iconst (v := nI 3) hx hb dX2_holders_5 (by decide) ?_
      refine xb_ge (tgt := 32) hx hb dX2_holders_6 (by decide) (by omega) (by omega) (fun c1 => ?_) (fun c1 => ?_)
      · refine lv_iload_n hx hb dX2_holders_32 rfl (lv_at hl 1 rfl) ?_
        exact W.iret (v := nI (fb_ct (fun p => S p i) j)) hx hb hr (fun t_ ht_ hW_ => ⟨_, rfl, by rw [show j = 3 by omega, hold_ct], ht_⟩) (fun _ h => absurd h List.not_mem_nil) dX2_holders_33
      · refine lv_aload_n hx hb dX2_holders_9 rfl (lv_at hl 2 rfl) ?_
        refine mg_has hx hb hts hown hK hP dX2_holders_10 ?_
        refine lv_bipush (v := nI 64) hx hb dX2_holders_13 (by decide) ?_
        refine lv_iload_n hx hb dX2_holders_15 rfl (lv_at hl 0 rfl) ?_
        refine lv_imul hx hb dX2_holders_16 ?_
        refine xr_set (y := nI (64 * j)) (pk_mul _ _) ?_
        refine lv_iload_n hx hb dX2_holders_17 rfl (lv_at hl 3 rfl) ?_
        refine lv_iadd hx hb dX2_holders_18 ?_
        refine xr_set (y := nI ((64 * j) + i)) (nI_add _ _) ?_
        refine ml_has hx hb hK hP (j := ((64 * j) + i)) (by omega) dX2_holders_19 ?_
        refine xr_set (y := bI (S j i)) (hm j c1 i hi).1 ?_
        refine lv_if_eq (tgt := 26) hx hb dX2_holders_20 (by decide) (fun c2 => ?_) (fun c2 => ?_)
        · refine lv_iinc (v := nI (j + 1)) (lv' := [(3, .int (nI (j + 1))), (2, .int (nI (fb_ct (fun p => S p i) j))), (0, .ref (a 0)), (1, .int (nI i))]) hx hb dX2_holders_26 hl (k := 0) rfl (nI_1 _) (by decide) rfl (fun ls hl => ?_)
          refine lv_goto (tgt := 4) hx hb dX2_holders_29 (by decide) ?_
          exact ih (j + 1) (by omega) (by omega) ls (by rw [ct_n (f := fun p => S p i) (bI_0.mp c2)]; exact (lv_sub hl [0, 1, 2, 3] rfl))
        · refine lv_iinc (v := nI ((fb_ct (fun p => S p i) j) + 1)) (lv' := [(2, .int (nI ((fb_ct (fun p => S p i) j) + 1))), (3, .int (nI j)), (0, .ref (a 0)), (1, .int (nI i))]) hx hb dX2_holders_23 hl (k := 1) rfl (nI_1 _) (by decide) rfl (fun ls hl => ?_)
          refine lv_iinc (v := nI (j + 1)) (lv' := [(3, .int (nI (j + 1))), (2, .int (nI ((fb_ct (fun p => S p i) j) + 1))), (0, .ref (a 0)), (1, .int (nI i))]) hx hb dX2_holders_26 hl (k := 1) rfl (nI_1 _) (by decide) rfl (fun ls hl => ?_)
          refine lv_goto (tgt := 4) hx hb dX2_holders_29 (by decide) ?_
          exact ih (j + 1) (by omega) (by omega) ls (by rw [ct_y (f := fun p => S p i) (bI_n0.mp c2)]; exact (lv_sub hl [0, 1, 2, 3] rfl))
  exact loop 4 0 (by omega) (by omega) ls (lv_sub hl [0, 1, 2, 3] rfl)
set_option maxHeartbeats 4000000 in
set_option maxRecDepth 100000 in
theorem mem_heldBy (l : Launch) (D : va_G) (a : Nat → Nat) (d : Nat → ClassId) (has wgt : Nat → Int32) (sen : Int32) (S : Nat → Nat → Bool) (w : Nat → Nat → Int32) (K : Nat) (hK4 : K < 4) (hm : MI S w has wgt) : Met l yX2_heldBy (ws_ yX2_heldBy cX2_heldBy 4 (some .int)) ({ frames := 1, cells := 0, slots := 0, locals := 40 } : Room) (va_Pc [.ref (a 0), .int (nI K)] (fun U => va_P D vwCl (wM a d has wgt sen) U.heap ∧ va_K D vwCl (tyM d) U)) (vp_Si (fun r => r = nI (fb_ct (hk S K) 64))) 0 0 (fun _ => False) := by
  refine Met.ofW (cc := cX2_heldBy) (maxL := 4) (ret := (some .int)) (by decide) rfl ?_
  intro p e s m args below meth c s₁ B hml hv
  obtain ⟨rfl, hP, hK⟩ := hv
  have hx := B.exec
  have hb := B.bytes
  have hr := B.returns
  have hlocks := B.notSynchronized
  have hts := atoms_spec (ws := ws_ yX2_heldBy cX2_heldBy 4 (some .int)) B.pre
  have hts : ∀ w ∈ lw_all, w.before _ s = true := fun w h => hts w (List.mem_cons_of_mem _ h)
  have hown : s.vm.findClass RX2 = some m.cls := findClass_of_methodNamed B.named
  have hl := lv_entry ([.ref (a 0), .int (nI K)]) (n := 4) (Nat.le_of_ble_eq_true rfl)
  rw [lg_entry_eq]
  generalize (lg_sl ([.ref (a 0), .int (nI K)]) ++ List.replicate (4 - (lg_sl ([.ref (a 0), .int (nI K)])).length) Slot.unset).toArray = ls at hl ⊢
  have hl : lv_has ls 4 [(0, .ref (a 0)), (1, .int (nI K))] := hl
  refine lv_iconst (v := nI 0) hx hb dX2_heldBy_0 (by decide) ?_
  refine lv_istore_n (lv' := [(2, .int (nI 0)), (0, .ref (a 0)), (1, .int (nI K))]) hx hb dX2_heldBy_1 rfl hl (by decide) rfl (fun ls hl => ?_)
  refine lv_iconst (v := nI 0) hx hb dX2_heldBy_2 (by decide) ?_
  refine lv_istore_n (lv' := [(3, .int (nI 0)), (2, .int (nI 0)), (0, .ref (a 0)), (1, .int (nI K))]) hx hb dX2_heldBy_3 rfl hl (by decide) rfl (fun ls hl => ?_)
  have loop : ∀ (q : Nat) (i : Nat), 64 < i + q → (i ≤ 64) → ∀ (ls : Array Slot), lv_has ls 4 [(3, .int (nI i)), (2, .int (nI (fb_ct (hk S K) i))), (0, .ref (a 0)), (1, .int (nI K))] → W p l e (headSpec (ws_ yX2_heldBy cX2_heldBy 4 (some .int)) ({ frames := 1, cells := 0, slots := 0, locals := 40 } : Room)).room s m ([.ref (a 0), .int (nI K)] : List Value).toArray below meth c s.heap [] 0 0 (MQ below (vp_Si (fun r => r = nI (fb_ct (hk S K) 64))) ([.ref (a 0), .int (nI K)] : List Value).toArray s 0 0 (fun _ => False)) (F0 m 4 ls []) := by
    intro q
    induction q with
    | zero =>
      intro i hq hi
      exact absurd hq (by omega)
    | succ q ih =>
      intro i hq hi ls hl
      refine lv_iload_n hx hb dX2_heldBy_4 rfl (lv_at hl 0 rfl) ?_
      refine lv_bipush (v := nI 64) hx hb dX2_heldBy_5 (by decide) ?_
      refine xb_ge (tgt := 28) hx hb dX2_heldBy_7 (by decide) (by omega) (by omega) (fun c1 => ?_) (fun c1 => ?_)
      · refine lv_iload_n hx hb dX2_heldBy_28 rfl (lv_at hl 1 rfl) ?_
        exact W.iret (v := nI (fb_ct (hk S K) i)) hx hb hr (fun t_ ht_ hW_ => ⟨_, rfl, by rw [show i = 64 by omega], ht_⟩) (fun _ h => absurd h List.not_mem_nil) dX2_heldBy_29
      · refine lv_aload_n hx hb dX2_heldBy_10 rfl (lv_at hl 2 rfl) ?_
        refine lv_iload_n hx hb dX2_heldBy_11 rfl (lv_at hl 0 rfl) ?_
        refine cs_R (ci := 1) (As := [.int (nI i)]) (rest := []) ⟨hx, hb, hml, hown, hts⟩ (mem_holders l D a d has wgt sen S w i c1 hm) (cwV 1 hts (lw_V q275 q277 qs18 q21 q278) rfl rfl rfl (by decide +kernel) ⟨Nat.le_of_ble_eq_true rfl, Nat.le_of_ble_eq_true rfl⟩) hK hP rfl rfl rfl hl.1 rfl (Nat.le_of_ble_eq_true rfl) dX2_heldBy_12 ⟨Nat.zero_le _, Nat.zero_le _⟩ (fun r hw => ?_)
        subst hw
        have hle := hold_le S i
        refine lv_iload_n hx hb dX2_heldBy_15 rfl (lv_at hl 3 rfl) ?_
        refine xb_ne (tgt := 22) hx hb dX2_heldBy_16 (by decide) (by omega) (by omega) (fun c2 => ?_) (fun c2 => ?_)
        · refine lv_iinc (v := nI (i + 1)) (lv' := [(3, .int (nI (i + 1))), (2, .int (nI (fb_ct (hk S K) i))), (0, .ref (a 0)), (1, .int (nI K))]) hx hb dX2_heldBy_22 hl (k := 0) rfl (nI_1 _) (by decide) rfl (fun ls hl => ?_)
          refine lv_goto (tgt := 4) hx hb dX2_heldBy_25 (by decide) ?_
          exact ih (i + 1) (by omega) (by omega) ls (by rw [ct_n (hk_n c2)]; exact (lv_sub hl [0, 1, 2, 3] rfl))
        · refine lv_iinc (v := nI ((fb_ct (hk S K) i) + 1)) (lv' := [(2, .int (nI ((fb_ct (hk S K) i) + 1))), (3, .int (nI i)), (0, .ref (a 0)), (1, .int (nI K))]) hx hb dX2_heldBy_19 hl (k := 1) rfl (nI_1 _) (by decide) rfl (fun ls hl => ?_)
          refine lv_iinc (v := nI (i + 1)) (lv' := [(3, .int (nI (i + 1))), (2, .int (nI ((fb_ct (hk S K) i) + 1))), (0, .ref (a 0)), (1, .int (nI K))]) hx hb dX2_heldBy_22 hl (k := 1) rfl (nI_1 _) (by decide) rfl (fun ls hl => ?_)
          refine lv_goto (tgt := 4) hx hb dX2_heldBy_25 (by decide) ?_
          exact ih (i + 1) (by omega) (by omega) ls (by rw [ct_y (hk_y c2)]; exact (lv_sub hl [0, 1, 2, 3] rfl))
  exact loop 65 0 (by omega) (by omega) ls (lv_sub hl [0, 1, 2, 3] rfl)
set_option maxHeartbeats 4000000 in
set_option maxRecDepth 100000 in
theorem mem_among (l : Launch) (a : Nat → Nat) (x n t i : Nat) (hx64 : x < 64) (hn : n ≤ 16) (ht : t ≤ 63) (hi : i < 64) : Met l yX2_among (ws_ yX2_among cX2_among 6 (some .boolean)) ({ frames := 0, cells := 0, slots := 0, locals := 0 } : Room) (va_Pc [.ref (a 0), .int (nI x), .int (nI n), .int (nI t), .int (nI i)] (fun _ => True)) (vp_Si (fun r => r = bI (am x t n i))) 0 0 (fun _ => False) := by
  refine Met.ofW (cc := cX2_among) (maxL := 6) (ret := (some .boolean)) (by decide) rfl ?_
  intro p e s m args below meth c s₁ B hml hv
  obtain ⟨rfl, -⟩ := hv
  have hx := B.exec
  have hb := B.bytes
  have hr := B.returns
  have hlocks := B.notSynchronized
  have hts := atoms_spec (ws := ws_ yX2_among cX2_among 6 (some .boolean)) B.pre
  have hts : ∀ w ∈ lw_all, w.before _ s = true := fun w h => hts w (List.mem_cons_of_mem _ h)
  have hown : s.vm.findClass RX2 = some m.cls := findClass_of_methodNamed B.named
  have hl := lv_entry ([.ref (a 0), .int (nI x), .int (nI n), .int (nI t), .int (nI i)]) (n := 6) (Nat.le_of_ble_eq_true rfl)
  rw [lg_entry_eq]
  generalize (lg_sl ([.ref (a 0), .int (nI x), .int (nI n), .int (nI t), .int (nI i)]) ++ List.replicate (6 - (lg_sl ([.ref (a 0), .int (nI x), .int (nI n), .int (nI t), .int (nI i)])).length) Slot.unset).toArray = ls at hl ⊢
  have hl : lv_has ls 6 [(0, .ref (a 0)), (1, .int (nI x)), (2, .int (nI n)), (3, .int (nI t)), (4, .int (nI i))] := hl
  refine lv_iconst (v := nI 0) hx hb dX2_among_0 (by decide) ?_
  refine lv_istore (lv' := [(5, .int (nI 0)), (0, .ref (a 0)), (1, .int (nI x)), (2, .int (nI n)), (3, .int (nI t)), (4, .int (nI i))]) hx hb dX2_among_1 hl (by decide) rfl (fun ls hl => ?_)
  have loop : ∀ (q : Nat) (k : Nat), n < k + q → (k ≤ n) → (∀ j, j < k → (x + j * t) % 64 ≠ i) → ∀ (ls : Array Slot), lv_has ls 6 [(5, .int (nI k)), (0, .ref (a 0)), (1, .int (nI x)), (2, .int (nI n)), (3, .int (nI t)), (4, .int (nI i))] → W p l e (headSpec (ws_ yX2_among cX2_among 6 (some .boolean)) ({ frames := 0, cells := 0, slots := 0, locals := 0 } : Room)).room s m ([.ref (a 0), .int (nI x), .int (nI n), .int (nI t), .int (nI i)] : List Value).toArray below meth c s.heap [] 0 0 (MQ below (vp_Si (fun r => r = bI (am x t n i))) ([.ref (a 0), .int (nI x), .int (nI n), .int (nI t), .int (nI i)] : List Value).toArray s 0 0 (fun _ => False)) (F0 m 3 ls []) := by
    intro q
    induction q with
    | zero =>
      intro k hq hk hno
      exact absurd hq (by omega)
    | succ q ih =>
      intro k hq hk hno ls hl
      have hkt : k * t ≤ 16 * 63 := Nat.mul_le_mul (by omega) ht
      refine lv_iload hx hb dX2_among_3 (lv_at hl 0 rfl) ?_
      refine lv_iload_n hx hb dX2_among_5 rfl (lv_at hl 3 rfl) ?_
      refine xb_ge (tgt := 31) hx hb dX2_among_6 (by decide) (by omega) (by omega) (fun c1 => ?_) (fun c1 => ?_)
      · refine lv_iconst (v := nI 0) hx hb dX2_among_31 (by decide) ?_
        exact W.zret (v := nI 0) hx hb hr rfl (fun t_ ht_ hW_ => ⟨_, rfl, by
          rw [am_no (fun j hj => hno j (by omega))]
          rfl, ht_⟩) (fun _ h => absurd h List.not_mem_nil) dX2_among_32
      · refine lv_iload_n hx hb dX2_among_9 rfl (lv_at hl 2 rfl) ?_
        refine lv_iload hx hb dX2_among_10 (lv_at hl 0 rfl) ?_
        refine lv_iload_n hx hb dX2_among_12 rfl (lv_at hl 4 rfl) ?_
        refine lv_imul hx hb dX2_among_13 ?_
        refine xr_set (y := nI (k * t)) (pk_mul _ _) ?_
        refine lv_iadd hx hb dX2_among_14 ?_
        refine xr_set (y := nI (x + (k * t))) (nI_add _ _) ?_
        refine lv_bipush (v := nI 64) hx hb dX2_among_15 (by decide) ?_
        refine lv_irem hx hb dX2_among_17 (by decide) ?_
        refine xr_set (y := nI ((x + (k * t)) % 64)) (pk_rem (by omega) (by omega) (by omega)) ?_
        refine lv_iload hx hb dX2_among_18 (lv_at hl 5 rfl) ?_
        refine xb_ne (tgt := 25) hx hb dX2_among_20 (by decide) (by omega) (by omega) (fun c2 => ?_) (fun c2 => ?_)
        · refine lv_iinc (v := nI (k + 1)) (lv' := [(5, .int (nI (k + 1))), (0, .ref (a 0)), (1, .int (nI x)), (2, .int (nI n)), (3, .int (nI t)), (4, .int (nI i))]) hx hb dX2_among_25 hl (k := 0) rfl (nI_1 _) (by decide) rfl (fun ls hl => ?_)
          refine lv_goto (tgt := 3) hx hb dX2_among_28 (by decide) ?_
          exact ih (k + 1) (by omega) (by omega) (fun j hj => by
            rcases Nat.lt_or_ge j k with q1 | q1
            · exact hno j q1
            · rw [show j = k by omega]
              exact c2) ls (lv_sub hl [0, 1, 2, 3, 4, 5] rfl)
        · refine lv_iconst (v := nI 1) hx hb dX2_among_23 (by decide) ?_
          exact W.zret (v := nI 1) hx hb hr rfl (fun t_ ht_ hW_ => ⟨_, rfl, by
            rw [am_of c2 c1]
            rfl, ht_⟩) (fun _ h => absurd h List.not_mem_nil) dX2_among_24
  exact loop (n + 1) 0 (by omega) (by omega) (fun j hj => absurd hj (Nat.not_lt_zero j)) ls (lv_sub hl [0, 1, 2, 3, 4, 5] rfl)
set_option maxHeartbeats 4000000 in
set_option maxRecDepth 100000 in
theorem mem_note (l : Launch) (sz : Nat) (D : va_G) (a : Nat → Nat) (d : Nat → ClassId) (has wgt : Nat → Int32) (sen : Int32) (S : Nat → Nat → Bool) (w : Nat → Nat → Int32) (P Q : Nat) (hP3 : P < 3) (hQ3 : Q < 3) (hm : MI S w has wgt) : Met l yX2_note (ws_ yX2_note cX2_note 3 none) ({ frames := 1, cells := 0, slots := 0, locals := 40 } : Room) (va_Pc [.ref (a 0), .int (nI P), .int (nI Q)] (fun U => U.heap.size = sz ∧ va_P D vwCl (wM a d has wgt sen) U.heap ∧ va_K D vwCl (tyM d) U ∧ va_D (fun _ => True) (wM a d has wgt sen))) (QMv D d (va_A (wM a d has wgt sen) sz) (fun u : Int32 => wM a d has wgt u) (fun u => u = trf S P Q sen)) 0 0 (va_A (wM a d has wgt sen) sz) := by
  refine Met.ofW (cc := cX2_note) (maxL := 3) (ret := none) (by decide) rfl ?_
  intro p e s m args below meth c s₁ B hml hv
  obtain ⟨rfl, hsz, hP, hK, hD0⟩ := hv
  have hx := B.exec
  have hb := B.bytes
  have hr := B.returns
  have hlocks := B.notSynchronized
  have hts := atoms_spec (ws := ws_ yX2_note cX2_note 3 none) B.pre
  have hts : ∀ w ∈ lw_all, w.before _ s = true := fun w h => hts w (List.mem_cons_of_mem _ h)
  have hown : s.vm.findClass RX2 = some m.cls := findClass_of_methodNamed B.named
  subst hsz
  have hD := hD0.self (sz := s.heap.size)
  generalize hAe : va_A (wM a d has wgt sen) s.heap.size = A at hD ⊢
  have hA : ∀ q : Nat, s.heap.size ≤ q → A q := fun q h => by rw [← hAe]; exact Or.inr h
  have hS : va_S A s.heap s.heap [] := va_S.rf
  have hl := lv_entry ([.ref (a 0), .int (nI P), .int (nI Q)]) (n := 3) (Nat.le_of_ble_eq_true rfl)
  rw [lg_entry_eq]
  generalize (lg_sl ([.ref (a 0), .int (nI P), .int (nI Q)]) ++ List.replicate (3 - (lg_sl ([.ref (a 0), .int (nI P), .int (nI Q)])).length) Slot.unset).toArray = ls at hl ⊢
  have hl : lv_has ls 3 [(0, .ref (a 0)), (1, .int (nI P)), (2, .int (nI Q))] := hl
  refine lv_iload_n hx hb dX2_note_0 rfl (lv_at hl 1 rfl) ?_
  refine lv_iload_n hx hb dX2_note_1 rfl (lv_at hl 2 rfl) ?_
  refine xb_eq (tgt := 27) hx hb dX2_note_2 (by decide) (by omega) (by omega) (fun c1 => ?_) (fun c1 => ?_)
  · exact W.vret hx hb hr (fun t_ ht_ hW_ => ⟨⟨sen, rfl, (if_pos c1).symm, by rw [ht_]; exact hP, va_K.moved hW_.alike hK, hD⟩, hS.F ht_⟩) hS.2.2 dX2_note_27
  · refine lv_aload_n hx hb dX2_note_5 rfl (lv_at hl 0 rfl) ?_
    refine lv_aload_n hx hb dX2_note_6 rfl (lv_at hl 0 rfl) ?_
    refine lv_iload_n hx hb dX2_note_7 rfl (lv_at hl 1 rfl) ?_
    refine cs_R (ci := 1) (As := [.int (nI P)]) (rest := [.ref (a 0)]) ⟨hx, hb, hml, hown, hts⟩ (mem_size l D a d has wgt sen S w P hP3 hm) (cwV 1 hts (lw_V q219 q221 qs13 q21 q222) rfl rfl rfl (by decide +kernel) ⟨Nat.le_of_ble_eq_true rfl, Nat.le_of_ble_eq_true rfl⟩) hK hP rfl rfl rfl hl.1 rfl (Nat.le_of_ble_eq_true rfl) dX2_note_8 ⟨Nat.zero_le _, Nat.zero_le _⟩ (fun r hw => ?_)
    subst hw
    refine lv_aload_n hx hb dX2_note_11 rfl (lv_at hl 0 rfl) ?_
    refine lv_iload_n hx hb dX2_note_12 rfl (lv_at hl 2 rfl) ?_
    refine cs_R (ci := 1) (As := [.int (nI Q)]) (rest := [.int (nI (fb_ct (S P) 64)), .ref (a 0)]) ⟨hx, hb, hml, hown, hts⟩ (mem_size l D a d has wgt sen S w Q hQ3 hm) (cwV 1 hts (lw_V q219 q221 qs13 q21 q222) rfl rfl rfl (by decide +kernel) ⟨Nat.le_of_ble_eq_true rfl, Nat.le_of_ble_eq_true rfl⟩) hK hP rfl rfl rfl hl.1 rfl (Nat.le_of_ble_eq_true rfl) dX2_note_13 ⟨Nat.zero_le _, Nat.zero_le _⟩ (fun r hw => ?_)
    subst hw
    refine lv_iadd hx hb dX2_note_16 ?_
    refine lv_aload_n hx hb dX2_note_17 rfl (lv_at hl 0 rfl) ?_
    refine lv_iload_n hx hb dX2_note_18 rfl (lv_at hl 1 rfl) ?_
    refine lv_iload_n hx hb dX2_note_19 rfl (lv_at hl 2 rfl) ?_
    refine cs_R (ci := 1) (As := [.int (nI P), .int (nI Q)]) (rest := [.int ((nI (fb_ct (S P) 64)) + (nI (fb_ct (S Q) 64))), .ref (a 0)]) ⟨hx, hb, hml, hown, hts⟩ (mem_shared l D a d has wgt sen S w P Q hP3 hQ3 hm) (cwV 2 hts (lw_V q255 q257 qs16 q21 q258) rfl rfl rfl (by decide +kernel) ⟨Nat.le_of_ble_eq_true rfl, Nat.le_of_ble_eq_true rfl⟩) hK hP rfl rfl rfl hl.1 rfl (Nat.le_of_ble_eq_true rfl) dX2_note_20 ⟨Nat.zero_le _, Nat.zero_le _⟩ (fun r hw => ?_)
    subst hw
    refine lv_isub hx hb dX2_note_23 ?_
    refine mp_sen hx hb hts hown hK hP hD hS dX2_note_24 (fun H locs hP hD hS => ?_)
    exact W.vret hx hb hr (fun t_ ht_ hW_ => ⟨⟨((nI (fb_ct (S P) 64)) + (nI (fb_ct (S Q) 64))) - (nI (fb_ct (an (S P) (S Q)) 64)), rfl, (if_neg c1).symm, by rw [ht_]; exact hP, va_K.moved hW_.alike hK, hD⟩, hS.F ht_⟩) hS.2.2 dX2_note_27
end
section
set_option maxHeartbeats 4000000 in
set_option maxRecDepth 100000 in
theorem mem_traffic (l : Launch) (sz : Nat) (D : va_G) (a : Nat → Nat) (d : Nat → ClassId) (has wgt : Nat → Int32) (sen : Int32) (S : Nat → Nat → Bool) (w : Nat → Nat → Int32) (hm : MI S w has wgt) : Met l yX2_traffic (ws_ yX2_traffic cX2_traffic 1 (some .int)) ({ frames := 0, cells := 0, slots := 0, locals := 0 } : Room) (va_Pc [.ref (a 0)] (fun U => U.heap.size = sz ∧ va_P D vwCl (wM a d has wgt sen) U.heap ∧ va_K D vwCl (tyM d) U ∧ va_D (fun _ => True) (wM a d has wgt sen))) (QMi D d (va_A (wM a d has wgt sen) sz) (wMu a d) (MPost (F_traffic (S, w, sen)))) 0 0 (va_A (wM a d has wgt sen) sz) := by
  refine Met.ofW (cc := cX2_traffic) (maxL := 1) (ret := (some .int)) (by decide) rfl ?_
  intro p e s m args below meth c s₁ B hml hv
  obtain ⟨rfl, hsz, hP, hK, hD0⟩ := hv
  have hx := B.exec
  have hb := B.bytes
  have hr := B.returns
  have hlocks := B.notSynchronized
  have hts := atoms_spec (ws := ws_ yX2_traffic cX2_traffic 1 (some .int)) B.pre
  have hts : ∀ w ∈ lw_all, w.before _ s = true := fun w h => hts w (List.mem_cons_of_mem _ h)
  have hown : s.vm.findClass RX2 = some m.cls := findClass_of_methodNamed B.named
  subst hsz
  have hD := hD0.self (sz := s.heap.size)
  generalize hAe : va_A (wM a d has wgt sen) s.heap.size = A at hD ⊢
  have hA : ∀ q : Nat, s.heap.size ≤ q → A q := fun q h => by rw [← hAe]; exact Or.inr h
  have hS : va_S A s.heap s.heap [] := va_S.rf
  have hl := lv_entry ([.ref (a 0)]) (n := 1) (Nat.le_of_ble_eq_true rfl)
  rw [lg_entry_eq]
  generalize (lg_sl ([.ref (a 0)]) ++ List.replicate (1 - (lg_sl ([.ref (a 0)])).length) Slot.unset).toArray = ls at hl ⊢
  have hl : lv_has ls 1 [(0, .ref (a 0))] := hl
  refine lv_aload_n hx hb dX2_traffic_0 rfl (lv_at hl 0 rfl) ?_
  refine mg_sen hx hb hts hown hK hP dX2_traffic_1 ?_
  exact W.iret (v := sen) hx hb hr (fun t_ ht_ hW_ => ⟨⟨_, (has, wgt, sen), rfl, MPost.mk (S, w, sen) (rfl) (hm) rfl, by rw [ht_]; exact hP, va_K.moved hW_.alike hK, hD⟩, hS.F ht_⟩) hS.2.2 dX2_traffic_4
set_option maxHeartbeats 4000000 in
set_option maxRecDepth 100000 in
theorem mem_secret (l : Launch) (sz : Nat) (D : va_G) (a : Nat → Nat) (d : Nat → ClassId) (has wgt : Nat → Int32) (sen : Int32) (S : Nat → Nat → Bool) (w : Nat → Nat → Int32) (p0 : Int32) (p1 : Int32) (hm : MI S w has wgt) : Met l yX2_secret (ws_ yX2_secret cX2_secret 3 (some .int)) ({ frames := 1, cells := 0, slots := 0, locals := 40 } : Room) (va_Pc [.ref (a 0), .int p0, .int p1] (fun U => U.heap.size = sz ∧ va_P D vwCl (wM a d has wgt sen) U.heap ∧ va_K D vwCl (tyM d) U ∧ va_D (fun _ => True) (wM a d has wgt sen))) (QMi D d (va_A (wM a d has wgt sen) sz) (wMu a d) (MPost (F_secret (S, w, sen) p0 p1))) 0 0 (va_A (wM a d has wgt sen) sz) := by
  refine Met.ofW (cc := cX2_secret) (maxL := 3) (ret := (some .int)) (by decide) rfl ?_
  intro p e s m args below meth c s₁ B hml hv
  obtain ⟨rfl, hsz, hP, hK, hD0⟩ := hv
  have hx := B.exec
  have hb := B.bytes
  have hr := B.returns
  have hlocks := B.notSynchronized
  have hts := atoms_spec (ws := ws_ yX2_secret cX2_secret 3 (some .int)) B.pre
  have hts : ∀ w ∈ lw_all, w.before _ s = true := fun w h => hts w (List.mem_cons_of_mem _ h)
  have hown : s.vm.findClass RX2 = some m.cls := findClass_of_methodNamed B.named
  subst hsz
  have hD := hD0.self (sz := s.heap.size)
  generalize hAe : va_A (wM a d has wgt sen) s.heap.size = A at hD ⊢
  have hA : ∀ q : Nat, s.heap.size ≤ q → A q := fun q h => by rw [← hAe]; exact Or.inr h
  have hS : va_S A s.heap s.heap [] := va_S.rf
  have hl := lv_entry ([.ref (a 0), .int p0, .int p1]) (n := 3) (Nat.le_of_ble_eq_true rfl)
  rw [lg_entry_eq]
  generalize (lg_sl ([.ref (a 0), .int p0, .int p1]) ++ List.replicate (3 - (lg_sl ([.ref (a 0), .int p0, .int p1])).length) Slot.unset).toArray = ls at hl ⊢
  have hl : lv_has ls 3 [(0, .ref (a 0)), (1, .int p0), (2, .int p1)] := hl
  refine lv_aload_n hx hb dX2_secret_0 rfl (lv_at hl 0 rfl) ?_
  refine lv_iload_n hx hb dX2_secret_1 rfl (lv_at hl 1 rfl) ?_
  refine cs_P (ci := 1) (As := [.int p0]) (rest := []) ⟨hx, hb, hml, hown, hts⟩ (mem_bad l a p0) (cwV 1 hts (lw_V q207 q209 qs11 q21 q210) rfl rfl rfl (by decide +kernel) ⟨Nat.le_of_ble_eq_true rfl, Nat.le_of_ble_eq_true rfl⟩) hK hP rfl rfl rfl hl.1 rfl (Nat.le_of_ble_eq_true rfl) dX2_secret_2 ⟨Nat.zero_le _, Nat.zero_le _⟩ (fun r hw => ?_)
  rcases hw with ⟨rfl, P, hP3, rfl⟩ | ⟨rfl, hbad⟩
  · refine lv_if_eq (tgt := 12) hx hb dX2_secret_5 (by decide) (fun _ => ?_) (fun c => absurd c (by decide))
    refine lv_iconst (v := nI 0) hx hb dX2_secret_12 (by decide) ?_
    exact W.iret (v := nI 0) hx hb hr (fun t_ ht_ hW_ => ⟨⟨_, (has, wgt, sen), rfl, MPost.mk (S, w, sen) (onN_ok hP3 (by decide) _ _) (hm) rfl, by rw [ht_]; exact hP, va_K.moved hW_.alike hK, hD⟩, hS.F ht_⟩) hS.2.2 dX2_secret_13
  · refine lv_if_eq (tgt := 12) hx hb dX2_secret_5 (by decide) (fun c => absurd c (by decide)) (fun _ => ?_)
    refine lv_iconst (v := (-1)) hx hb dX2_secret_8 (by decide) ?_
    refine lv_goto (tgt := 13) hx hb dX2_secret_9 (by decide) ?_
    exact W.iret (v := (-1)) hx hb hr (fun t_ ht_ hW_ => ⟨⟨_, (has, wgt, sen), rfl, MPost.mk (S, w, sen) (onN_bad (by decide) hbad _ _) (hm) rfl, by rw [ht_]; exact hP, va_K.moved hW_.alike hK, hD⟩, hS.F ht_⟩) hS.2.2 dX2_secret_13
set_option maxHeartbeats 4000000 in
set_option maxRecDepth 100000 in
theorem mem_held (l : Launch) (sz : Nat) (D : va_G) (a : Nat → Nat) (d : Nat → ClassId) (has wgt : Nat → Int32) (sen : Int32) (S : Nat → Nat → Bool) (w : Nat → Nat → Int32) (p0 : Int32) (hm : MI S w has wgt) : Met l yX2_held (ws_ yX2_held cX2_held 2 (some .int)) ({ frames := 1, cells := 0, slots := 0, locals := 40 } : Room) (va_Pc [.ref (a 0), .int p0] (fun U => U.heap.size = sz ∧ va_P D vwCl (wM a d has wgt sen) U.heap ∧ va_K D vwCl (tyM d) U ∧ va_D (fun _ => True) (wM a d has wgt sen))) (QMi D d (va_A (wM a d has wgt sen) sz) (wMu a d) (MPost (F_held (S, w, sen) p0))) 0 0 (va_A (wM a d has wgt sen) sz) := by
  refine Met.ofW (cc := cX2_held) (maxL := 2) (ret := (some .int)) (by decide) rfl ?_
  intro p e s m args below meth c s₁ B hml hv
  obtain ⟨rfl, hsz, hP, hK, hD0⟩ := hv
  have hx := B.exec
  have hb := B.bytes
  have hr := B.returns
  have hlocks := B.notSynchronized
  have hts := atoms_spec (ws := ws_ yX2_held cX2_held 2 (some .int)) B.pre
  have hts : ∀ w ∈ lw_all, w.before _ s = true := fun w h => hts w (List.mem_cons_of_mem _ h)
  have hown : s.vm.findClass RX2 = some m.cls := findClass_of_methodNamed B.named
  subst hsz
  have hD := hD0.self (sz := s.heap.size)
  generalize hAe : va_A (wM a d has wgt sen) s.heap.size = A at hD ⊢
  have hA : ∀ q : Nat, s.heap.size ≤ q → A q := fun q h => by rw [← hAe]; exact Or.inr h
  have hS : va_S A s.heap s.heap [] := va_S.rf
  have hl := lv_entry ([.ref (a 0), .int p0]) (n := 2) (Nat.le_of_ble_eq_true rfl)
  rw [lg_entry_eq]
  generalize (lg_sl ([.ref (a 0), .int p0]) ++ List.replicate (2 - (lg_sl ([.ref (a 0), .int p0])).length) Slot.unset).toArray = ls at hl ⊢
  have hl : lv_has ls 2 [(0, .ref (a 0)), (1, .int p0)] := hl
  refine lv_aload_n hx hb dX2_held_0 rfl (lv_at hl 0 rfl) ?_
  refine lv_iload_n hx hb dX2_held_1 rfl (lv_at hl 1 rfl) ?_
  refine cs_P (ci := 1) (As := [.int p0]) (rest := []) ⟨hx, hb, hml, hown, hts⟩ (mem_bad l a p0) (cwV 1 hts (lw_V q207 q209 qs11 q21 q210) rfl rfl rfl (by decide +kernel) ⟨Nat.le_of_ble_eq_true rfl, Nat.le_of_ble_eq_true rfl⟩) hK hP rfl rfl rfl hl.1 rfl (Nat.le_of_ble_eq_true rfl) dX2_held_2 ⟨Nat.zero_le _, Nat.zero_le _⟩ (fun r hw => ?_)
  rcases hw with ⟨rfl, P, hP3, rfl⟩ | ⟨rfl, hbad⟩
  · refine lv_if_eq (tgt := 12) hx hb dX2_held_5 (by decide) (fun _ => ?_) (fun c => absurd c (by decide))
    refine lv_aload_n hx hb dX2_held_12 rfl (lv_at hl 0 rfl) ?_
    refine lv_iload_n hx hb dX2_held_13 rfl (lv_at hl 1 rfl) ?_
    refine cs_R (ci := 1) (As := [.int (nI P)]) (rest := []) ⟨hx, hb, hml, hown, hts⟩ (mem_size l D a d has wgt sen S w P hP3 hm) (cwV 1 hts (lw_V q219 q221 qs13 q21 q222) rfl rfl rfl (by decide +kernel) ⟨Nat.le_of_ble_eq_true rfl, Nat.le_of_ble_eq_true rfl⟩) hK hP rfl rfl rfl hl.1 rfl (Nat.le_of_ble_eq_true rfl) dX2_held_14 ⟨Nat.zero_le _, Nat.zero_le _⟩ (fun r hw => ?_)
    subst hw
    exact W.iret (v := nI (fb_ct (S P) 64)) hx hb hr (fun t_ ht_ hW_ => ⟨⟨_, (has, wgt, sen), rfl, MPost.mk (S, w, sen) (onN_ok hP3 (by decide) _ _) (hm) rfl, by rw [ht_]; exact hP, va_K.moved hW_.alike hK, hD⟩, hS.F ht_⟩) hS.2.2 dX2_held_17
  · refine lv_if_eq (tgt := 12) hx hb dX2_held_5 (by decide) (fun c => absurd c (by decide)) (fun _ => ?_)
    refine lv_iconst (v := (-1)) hx hb dX2_held_8 (by decide) ?_
    refine lv_goto (tgt := 17) hx hb dX2_held_9 (by decide) ?_
    exact W.iret (v := (-1)) hx hb hr (fun t_ ht_ hW_ => ⟨⟨_, (has, wgt, sen), rfl, MPost.mk (S, w, sen) (onN_bad (by decide) hbad _ _) (hm) rfl, by rw [ht_]; exact hP, va_K.moved hW_.alike hK, hD⟩, hS.F ht_⟩) hS.2.2 dX2_held_17
set_option maxHeartbeats 4000000 in
set_option maxRecDepth 100000 in
theorem mem_holds (l : Launch) (sz : Nat) (D : va_G) (a : Nat → Nat) (d : Nat → ClassId) (has wgt : Nat → Int32) (sen : Int32) (S : Nat → Nat → Bool) (w : Nat → Nat → Int32) (p0 : Int32) (p1 : Int32) (hm : MI S w has wgt) : Met l yX2_holds (ws_ yX2_holds cX2_holds 3 (some .int)) ({ frames := 1, cells := 0, slots := 0, locals := 40 } : Room) (va_Pc [.ref (a 0), .int p0, .int p1] (fun U => U.heap.size = sz ∧ va_P D vwCl (wM a d has wgt sen) U.heap ∧ va_K D vwCl (tyM d) U ∧ va_D (fun _ => True) (wM a d has wgt sen))) (QMi D d (va_A (wM a d has wgt sen) sz) (wMu a d) (MPost (F_holds (S, w, sen) p0 p1))) 0 0 (va_A (wM a d has wgt sen) sz) := by
  refine Met.ofW (cc := cX2_holds) (maxL := 3) (ret := (some .int)) (by decide) rfl ?_
  intro p e s m args below meth c s₁ B hml hv
  obtain ⟨rfl, hsz, hP, hK, hD0⟩ := hv
  have hx := B.exec
  have hb := B.bytes
  have hr := B.returns
  have hlocks := B.notSynchronized
  have hts := atoms_spec (ws := ws_ yX2_holds cX2_holds 3 (some .int)) B.pre
  have hts : ∀ w ∈ lw_all, w.before _ s = true := fun w h => hts w (List.mem_cons_of_mem _ h)
  have hown : s.vm.findClass RX2 = some m.cls := findClass_of_methodNamed B.named
  subst hsz
  have hD := hD0.self (sz := s.heap.size)
  generalize hAe : va_A (wM a d has wgt sen) s.heap.size = A at hD ⊢
  have hA : ∀ q : Nat, s.heap.size ≤ q → A q := fun q h => by rw [← hAe]; exact Or.inr h
  have hS : va_S A s.heap s.heap [] := va_S.rf
  have hl := lv_entry ([.ref (a 0), .int p0, .int p1]) (n := 3) (Nat.le_of_ble_eq_true rfl)
  rw [lg_entry_eq]
  generalize (lg_sl ([.ref (a 0), .int p0, .int p1]) ++ List.replicate (3 - (lg_sl ([.ref (a 0), .int p0, .int p1])).length) Slot.unset).toArray = ls at hl ⊢
  have hl : lv_has ls 3 [(0, .ref (a 0)), (1, .int p0), (2, .int p1)] := hl
  refine lv_aload_n hx hb dX2_holds_0 rfl (lv_at hl 0 rfl) ?_
  refine lv_iload_n hx hb dX2_holds_1 rfl (lv_at hl 1 rfl) ?_
  refine cs_P (ci := 1) (As := [.int p0]) (rest := []) ⟨hx, hb, hml, hown, hts⟩ (mem_bad l a p0) (cwV 1 hts (lw_V q207 q209 qs11 q21 q210) rfl rfl rfl (by decide +kernel) ⟨Nat.le_of_ble_eq_true rfl, Nat.le_of_ble_eq_true rfl⟩) hK hP rfl rfl rfl hl.1 rfl (Nat.le_of_ble_eq_true rfl) dX2_holds_2 ⟨Nat.zero_le _, Nat.zero_le _⟩ (fun r hw => ?_)
  rcases hw with ⟨rfl, P, hP3, rfl⟩ | ⟨rfl, hbad⟩
  · refine lv_if_eq (tgt := 10) hx hb dX2_holds_5 (by decide) (fun _ => ?_) (fun c => absurd c (by decide))
    refine lv_aload_n hx hb dX2_holds_10 rfl (lv_at hl 0 rfl) ?_
    refine lv_iload_n hx hb dX2_holds_11 rfl (lv_at hl 2 rfl) ?_
    refine cs_P (ci := 1) (As := [.int p1]) (rest := []) ⟨hx, hb, hml, hown, hts⟩ (mem_badItem l a p1) (cwV 1 hts (lw_V q215 q217 qs12 q21 q218) rfl rfl rfl (by decide +kernel) ⟨Nat.le_of_ble_eq_true rfl, Nat.le_of_ble_eq_true rfl⟩) hK hP rfl rfl rfl hl.1 rfl (Nat.le_of_ble_eq_true rfl) dX2_holds_12 ⟨Nat.zero_le _, Nat.zero_le _⟩ (fun r hw => ?_)
    rcases hw with ⟨rfl, I, hI, rfl⟩ | ⟨rfl, hbad⟩
    · refine lv_if_eq (tgt := 21) hx hb dX2_holds_15 (by decide) (fun _ => ?_) (fun c => absurd c (by decide))
      refine lv_aload_n hx hb dX2_holds_21 rfl (lv_at hl 0 rfl) ?_
      refine mg_has hx hb hts hown hK hP dX2_holds_22 ?_
      refine lv_bipush (v := nI 64) hx hb dX2_holds_25 (by decide) ?_
      refine lv_iload_n hx hb dX2_holds_27 rfl (lv_at hl 1 rfl) ?_
      refine lv_imul hx hb dX2_holds_28 ?_
      refine xr_set (y := nI (64 * P)) (pk_mul _ _) ?_
      refine lv_iload_n hx hb dX2_holds_29 rfl (lv_at hl 2 rfl) ?_
      refine lv_iadd hx hb dX2_holds_30 ?_
      refine xr_set (y := nI ((64 * P) + I)) (nI_add _ _) ?_
      refine ml_has hx hb hK hP (j := ((64 * P) + I)) (by omega) dX2_holds_31 ?_
      refine xr_set (y := bI (S P I)) (hm P hP3 I hI).1 ?_
      refine lv_if_eq (tgt := 39) hx hb dX2_holds_32 (by decide) (fun c1 => ?_) (fun c1 => ?_)
      · refine lv_iconst (v := nI 0) hx hb dX2_holds_39 (by decide) ?_
        exact W.iret (v := nI 0) hx hb hr (fun t_ ht_ hW_ => ⟨⟨_, (has, wgt, sen), rfl, MPost.mk (S, w, sen) ((onN_ok hP3 (by decide) _ _).trans ((onN_ok hI (by decide) _ _).trans (by show (bI (S P I), _) = _; rw [bI_0.mp c1]; rfl))) (hm) rfl, by rw [ht_]; exact hP, va_K.moved hW_.alike hK, hD⟩, hS.F ht_⟩) hS.2.2 dX2_holds_40
      · refine lv_iconst (v := nI 1) hx hb dX2_holds_35 (by decide) ?_
        refine lv_goto (tgt := 40) hx hb dX2_holds_36 (by decide) ?_
        exact W.iret (v := nI 1) hx hb hr (fun t_ ht_ hW_ => ⟨⟨_, (has, wgt, sen), rfl, MPost.mk (S, w, sen) ((onN_ok hP3 (by decide) _ _).trans ((onN_ok hI (by decide) _ _).trans (by show (bI (S P I), _) = _; rw [bI_n0.mp c1]; rfl))) (hm) rfl, by rw [ht_]; exact hP, va_K.moved hW_.alike hK, hD⟩, hS.F ht_⟩) hS.2.2 dX2_holds_40
    · refine lv_if_eq (tgt := 21) hx hb dX2_holds_15 (by decide) (fun c => absurd c (by decide)) (fun _ => ?_)
      refine lv_bipush (v := (-2)) hx hb dX2_holds_18 (by decide) ?_
      exact W.iret (v := (-2)) hx hb hr (fun t_ ht_ hW_ => ⟨⟨_, (has, wgt, sen), rfl, MPost.mk (S, w, sen) ((onN_ok hP3 (by decide) _ _).trans (onN_bad (by decide) hbad _ _)) (hm) rfl, by rw [ht_]; exact hP, va_K.moved hW_.alike hK, hD⟩, hS.F ht_⟩) hS.2.2 dX2_holds_20
  · refine lv_if_eq (tgt := 10) hx hb dX2_holds_5 (by decide) (fun c => absurd c (by decide)) (fun _ => ?_)
    refine lv_iconst (v := (-1)) hx hb dX2_holds_8 (by decide) ?_
    exact W.iret (v := (-1)) hx hb hr (fun t_ ht_ hW_ => ⟨⟨_, (has, wgt, sen), rfl, MPost.mk (S, w, sen) (onN_bad (by decide) hbad _ _) (hm) rfl, by rw [ht_]; exact hP, va_K.moved hW_.alike hK, hD⟩, hS.F ht_⟩) hS.2.2 dX2_holds_9
set_option maxHeartbeats 4000000 in
set_option maxRecDepth 100000 in
theorem mem_take (l : Launch) (sz : Nat) (D : va_G) (a : Nat → Nat) (d : Nat → ClassId) (has wgt : Nat → Int32) (sen : Int32) (S : Nat → Nat → Bool) (w : Nat → Nat → Int32) (p0 : Int32) (p1 : Int32) (hm : MI S w has wgt) : Met l yX2_take (ws_ yX2_take cX2_take 3 (some .int)) ({ frames := 1, cells := 0, slots := 0, locals := 40 } : Room) (va_Pc [.ref (a 0), .int p0, .int p1] (fun U => U.heap.size = sz ∧ va_P D vwCl (wM a d has wgt sen) U.heap ∧ va_K D vwCl (tyM d) U ∧ va_D (fun _ => True) (wM a d has wgt sen))) (QMi D d (va_A (wM a d has wgt sen) sz) (wMu a d) (MPost (F_take (S, w, sen) p0 p1))) 0 0 (va_A (wM a d has wgt sen) sz) := by
  refine Met.ofW (cc := cX2_take) (maxL := 3) (ret := (some .int)) (by decide) rfl ?_
  intro p e s m args below meth c s₁ B hml hv
  obtain ⟨rfl, hsz, hP, hK, hD0⟩ := hv
  have hx := B.exec
  have hb := B.bytes
  have hr := B.returns
  have hlocks := B.notSynchronized
  have hts := atoms_spec (ws := ws_ yX2_take cX2_take 3 (some .int)) B.pre
  have hts : ∀ w ∈ lw_all, w.before _ s = true := fun w h => hts w (List.mem_cons_of_mem _ h)
  have hown : s.vm.findClass RX2 = some m.cls := findClass_of_methodNamed B.named
  subst hsz
  have hD := hD0.self (sz := s.heap.size)
  generalize hAe : va_A (wM a d has wgt sen) s.heap.size = A at hD ⊢
  have hA : ∀ q : Nat, s.heap.size ≤ q → A q := fun q h => by rw [← hAe]; exact Or.inr h
  have hS : va_S A s.heap s.heap [] := va_S.rf
  have hl := lv_entry ([.ref (a 0), .int p0, .int p1]) (n := 3) (Nat.le_of_ble_eq_true rfl)
  rw [lg_entry_eq]
  generalize (lg_sl ([.ref (a 0), .int p0, .int p1]) ++ List.replicate (3 - (lg_sl ([.ref (a 0), .int p0, .int p1])).length) Slot.unset).toArray = ls at hl ⊢
  have hl : lv_has ls 3 [(0, .ref (a 0)), (1, .int p0), (2, .int p1)] := hl
  refine lv_aload_n hx hb dX2_take_0 rfl (lv_at hl 0 rfl) ?_
  refine lv_iload_n hx hb dX2_take_1 rfl (lv_at hl 1 rfl) ?_
  refine cs_P (ci := 1) (As := [.int p0]) (rest := []) ⟨hx, hb, hml, hown, hts⟩ (mem_bad l a p0) (cwV 1 hts (lw_V q207 q209 qs11 q21 q210) rfl rfl rfl (by decide +kernel) ⟨Nat.le_of_ble_eq_true rfl, Nat.le_of_ble_eq_true rfl⟩) hK hP rfl rfl rfl hl.1 rfl (Nat.le_of_ble_eq_true rfl) dX2_take_2 ⟨Nat.zero_le _, Nat.zero_le _⟩ (fun r hw => ?_)
  rcases hw with ⟨rfl, P, hP3, rfl⟩ | ⟨rfl, hbad⟩
  · refine lv_if_eq (tgt := 10) hx hb dX2_take_5 (by decide) (fun _ => ?_) (fun c => absurd c (by decide))
    refine lv_aload_n hx hb dX2_take_10 rfl (lv_at hl 0 rfl) ?_
    refine lv_iload_n hx hb dX2_take_11 rfl (lv_at hl 2 rfl) ?_
    refine cs_P (ci := 1) (As := [.int p1]) (rest := []) ⟨hx, hb, hml, hown, hts⟩ (mem_badItem l a p1) (cwV 1 hts (lw_V q215 q217 qs12 q21 q218) rfl rfl rfl (by decide +kernel) ⟨Nat.le_of_ble_eq_true rfl, Nat.le_of_ble_eq_true rfl⟩) hK hP rfl rfl rfl hl.1 rfl (Nat.le_of_ble_eq_true rfl) dX2_take_12 ⟨Nat.zero_le _, Nat.zero_le _⟩ (fun r hw => ?_)
    rcases hw with ⟨rfl, I, hI, rfl⟩ | ⟨rfl, hbad⟩
    · refine lv_if_eq (tgt := 21) hx hb dX2_take_15 (by decide) (fun _ => ?_) (fun c => absurd c (by decide))
      refine lv_aload_n hx hb dX2_take_21 rfl (lv_at hl 0 rfl) ?_
      refine mg_has hx hb hts hown hK hP dX2_take_22 ?_
      refine lv_bipush (v := nI 64) hx hb dX2_take_25 (by decide) ?_
      refine lv_iload_n hx hb dX2_take_27 rfl (lv_at hl 1 rfl) ?_
      refine lv_imul hx hb dX2_take_28 ?_
      refine xr_set (y := nI (64 * P)) (pk_mul _ _) ?_
      refine lv_iload_n hx hb dX2_take_29 rfl (lv_at hl 2 rfl) ?_
      refine lv_iadd hx hb dX2_take_30 ?_
      refine xr_set (y := nI ((64 * P) + I)) (nI_add _ _) ?_
      refine ml_has hx hb hK hP (j := ((64 * P) + I)) (by omega) dX2_take_31 ?_
      refine xr_set (y := bI (S P I)) (hm P hP3 I hI).1 ?_
      refine lv_if_ne (tgt := 38) hx hb dX2_take_32 (by decide) (fun c1 => ?_) (fun c1 => ?_)
      · refine lv_aload_n hx hb dX2_take_38 rfl (lv_at hl 0 rfl) ?_
        refine mg_has hx hb hts hown hK hP dX2_take_39 ?_
        refine lv_bipush (v := nI 64) hx hb dX2_take_42 (by decide) ?_
        refine lv_iload_n hx hb dX2_take_44 rfl (lv_at hl 1 rfl) ?_
        refine lv_imul hx hb dX2_take_45 ?_
        refine xr_set (y := nI (64 * P)) (pk_mul _ _) ?_
        refine lv_iload_n hx hb dX2_take_46 rfl (lv_at hl 2 rfl) ?_
        refine lv_iadd hx hb dX2_take_47 ?_
        refine xr_set (y := nI ((64 * P) + I)) (nI_add _ _) ?_
        refine lv_iconst (v := nI 0) hx hb dX2_take_48 (by decide) ?_
        refine xr_set (y := bI false) rfl ?_
        refine ms_has hx hb hK hP hD hS (j := ((64 * P) + I)) (b := false) (by omega) dX2_take_49 (fun H locs hP hD hS => ?_)
        refine lv_aload_n hx hb dX2_take_50 rfl (lv_at hl 0 rfl) ?_
        refine lv_iload_n hx hb dX2_take_51 rfl (lv_at hl 1 rfl) ?_
        have hm2 := MI_off (P := P) hm hI
        refine cs_R (ci := 1) (As := [.int (nI P)]) (rest := []) ⟨hx, hb, hml, hown, hts⟩ (mem_size l D a d (upd has ((64 * P) + I) (bI false)) wgt sen (sS S P I false) w P hP3 hm2) (cwV 1 hts (lw_V q219 q221 qs13 q21 q222) rfl rfl rfl (by decide +kernel) ⟨Nat.le_of_ble_eq_true rfl, Nat.le_of_ble_eq_true rfl⟩) hK hP rfl rfl rfl hl.1 rfl (Nat.le_of_ble_eq_true rfl) dX2_take_52 ⟨Nat.zero_le _, Nat.zero_le _⟩ (fun r hw => ?_)
        subst hw
        exact W.iret (v := nI (fb_ct ((sS S P I false) P) 64)) hx hb hr (fun t_ ht_ hW_ => ⟨⟨_, (upd has ((64 * P) + I) (bI false), wgt, sen), rfl, MPost.mk (sS S P I false, w, sen) ((onN_ok hP3 (by decide) _ _).trans ((onN_ok hI (by decide) _ _).trans (if_pos (bI_n0.mp c1)))) (hm2) rfl, by rw [ht_]; exact hP, va_K.moved hW_.alike hK, hD⟩, hS.F ht_⟩) hS.2.2 dX2_take_55
      · refine lv_bipush (v := (-3)) hx hb dX2_take_35 (by decide) ?_
        exact W.iret (v := (-3)) hx hb hr (fun t_ ht_ hW_ => ⟨⟨_, (has, wgt, sen), rfl, MPost.mk (S, w, sen) ((onN_ok hP3 (by decide) _ _).trans ((onN_ok hI (by decide) _ _).trans (if_neg (by show ¬ S P I = true; rw [bI_0.mp c1]; decide)))) (hm) rfl, by rw [ht_]; exact hP, va_K.moved hW_.alike hK, hD⟩, hS.F ht_⟩) hS.2.2 dX2_take_37
    · refine lv_if_eq (tgt := 21) hx hb dX2_take_15 (by decide) (fun c => absurd c (by decide)) (fun _ => ?_)
      refine lv_bipush (v := (-2)) hx hb dX2_take_18 (by decide) ?_
      exact W.iret (v := (-2)) hx hb hr (fun t_ ht_ hW_ => ⟨⟨_, (has, wgt, sen), rfl, MPost.mk (S, w, sen) ((onN_ok hP3 (by decide) _ _).trans (onN_bad (by decide) hbad _ _)) (hm) rfl, by rw [ht_]; exact hP, va_K.moved hW_.alike hK, hD⟩, hS.F ht_⟩) hS.2.2 dX2_take_20
  · refine lv_if_eq (tgt := 10) hx hb dX2_take_5 (by decide) (fun c => absurd c (by decide)) (fun _ => ?_)
    refine lv_iconst (v := (-1)) hx hb dX2_take_8 (by decide) ?_
    exact W.iret (v := (-1)) hx hb hr (fun t_ ht_ hW_ => ⟨⟨_, (has, wgt, sen), rfl, MPost.mk (S, w, sen) (onN_bad (by decide) hbad _ _) (hm) rfl, by rw [ht_]; exact hP, va_K.moved hW_.alike hK, hD⟩, hS.F ht_⟩) hS.2.2 dX2_take_9
set_option maxHeartbeats 4000000 in
set_option maxRecDepth 100000 in
theorem mem_give (l : Launch) (sz : Nat) (D : va_G) (a : Nat → Nat) (d : Nat → ClassId) (has wgt : Nat → Int32) (sen : Int32) (S : Nat → Nat → Bool) (w : Nat → Nat → Int32) (p0 : Int32) (p1 : Int32) (p2 : Int32) (hm : MI S w has wgt) : Met l yX2_give (ws_ yX2_give cX2_give 4 (some .int)) ({ frames := 1, cells := 0, slots := 0, locals := 40 } : Room) (va_Pc [.ref (a 0), .int p0, .int p1, .int p2] (fun U => U.heap.size = sz ∧ va_P D vwCl (wM a d has wgt sen) U.heap ∧ va_K D vwCl (tyM d) U ∧ va_D (fun _ => True) (wM a d has wgt sen))) (QMi D d (va_A (wM a d has wgt sen) sz) (wMu a d) (MPost (F_give (S, w, sen) p0 p1 p2))) 0 0 (va_A (wM a d has wgt sen) sz) := by
  refine Met.ofW (cc := cX2_give) (maxL := 4) (ret := (some .int)) (by decide) rfl ?_
  intro p e s m args below meth c s₁ B hml hv
  obtain ⟨rfl, hsz, hP, hK, hD0⟩ := hv
  have hx := B.exec
  have hb := B.bytes
  have hr := B.returns
  have hlocks := B.notSynchronized
  have hts := atoms_spec (ws := ws_ yX2_give cX2_give 4 (some .int)) B.pre
  have hts : ∀ w ∈ lw_all, w.before _ s = true := fun w h => hts w (List.mem_cons_of_mem _ h)
  have hown : s.vm.findClass RX2 = some m.cls := findClass_of_methodNamed B.named
  subst hsz
  have hD := hD0.self (sz := s.heap.size)
  generalize hAe : va_A (wM a d has wgt sen) s.heap.size = A at hD ⊢
  have hA : ∀ q : Nat, s.heap.size ≤ q → A q := fun q h => by rw [← hAe]; exact Or.inr h
  have hS : va_S A s.heap s.heap [] := va_S.rf
  have hl := lv_entry ([.ref (a 0), .int p0, .int p1, .int p2]) (n := 4) (Nat.le_of_ble_eq_true rfl)
  rw [lg_entry_eq]
  generalize (lg_sl ([.ref (a 0), .int p0, .int p1, .int p2]) ++ List.replicate (4 - (lg_sl ([.ref (a 0), .int p0, .int p1, .int p2])).length) Slot.unset).toArray = ls at hl ⊢
  have hl : lv_has ls 4 [(0, .ref (a 0)), (1, .int p0), (2, .int p1), (3, .int p2)] := hl
  refine lv_aload_n hx hb dX2_give_0 rfl (lv_at hl 0 rfl) ?_
  refine lv_iload_n hx hb dX2_give_1 rfl (lv_at hl 1 rfl) ?_
  refine cs_P (ci := 1) (As := [.int p0]) (rest := []) ⟨hx, hb, hml, hown, hts⟩ (mem_bad l a p0) (cwV 1 hts (lw_V q207 q209 qs11 q21 q210) rfl rfl rfl (by decide +kernel) ⟨Nat.le_of_ble_eq_true rfl, Nat.le_of_ble_eq_true rfl⟩) hK hP rfl rfl rfl hl.1 rfl (Nat.le_of_ble_eq_true rfl) dX2_give_2 ⟨Nat.zero_le _, Nat.zero_le _⟩ (fun r hw => ?_)
  rcases hw with ⟨rfl, P, hP3, rfl⟩ | ⟨rfl, hbad⟩
  · refine lv_if_eq (tgt := 10) hx hb dX2_give_5 (by decide) (fun _ => ?_) (fun c => absurd c (by decide))
    refine lv_aload_n hx hb dX2_give_10 rfl (lv_at hl 0 rfl) ?_
    refine lv_iload_n hx hb dX2_give_11 rfl (lv_at hl 2 rfl) ?_
    refine cs_P (ci := 1) (As := [.int p1]) (rest := []) ⟨hx, hb, hml, hown, hts⟩ (mem_badItem l a p1) (cwV 1 hts (lw_V q215 q217 qs12 q21 q218) rfl rfl rfl (by decide +kernel) ⟨Nat.le_of_ble_eq_true rfl, Nat.le_of_ble_eq_true rfl⟩) hK hP rfl rfl rfl hl.1 rfl (Nat.le_of_ble_eq_true rfl) dX2_give_12 ⟨Nat.zero_le _, Nat.zero_le _⟩ (fun r hw => ?_)
    rcases hw with ⟨rfl, I, hI, rfl⟩ | ⟨rfl, hbad⟩
    · refine lv_if_eq (tgt := 21) hx hb dX2_give_15 (by decide) (fun _ => ?_) (fun c => absurd c (by decide))
      refine lv_aload_n hx hb dX2_give_21 rfl (lv_at hl 0 rfl) ?_
      refine lv_iload_n hx hb dX2_give_22 rfl (lv_at hl 1 rfl) ?_
      refine cs_R (ci := 1) (As := [.int (nI P)]) (rest := []) ⟨hx, hb, hml, hown, hts⟩ (mem_size l D a d has wgt sen S w P hP3 hm) (cwV 1 hts (lw_V q219 q221 qs13 q21 q222) rfl rfl rfl (by decide +kernel) ⟨Nat.le_of_ble_eq_true rfl, Nat.le_of_ble_eq_true rfl⟩) hK hP rfl rfl rfl hl.1 rfl (Nat.le_of_ble_eq_true rfl) dX2_give_23 ⟨Nat.zero_le _, Nat.zero_le _⟩ (fun r hw => ?_)
      subst hw
      have hle : fb_ct (S P) 64 ≤ 64 := fb_ct_le _ _
      refine lv_bipush (v := nI 16) hx hb dX2_give_26 (by decide) ?_
      refine xb_ne (tgt := 48) hx hb dX2_give_28 (by decide) (by omega) (by omega) (fun c1 => ?_) (fun c1 => ?_)
      · refine lv_aload_n hx hb dX2_give_48 rfl (lv_at hl 0 rfl) ?_
        refine mg_has hx hb hts hown hK hP dX2_give_49 ?_
        refine lv_bipush (v := nI 64) hx hb dX2_give_52 (by decide) ?_
        refine lv_iload_n hx hb dX2_give_54 rfl (lv_at hl 1 rfl) ?_
        refine lv_imul hx hb dX2_give_55 ?_
        refine xr_set (y := nI (64 * P)) (pk_mul _ _) ?_
        refine lv_iload_n hx hb dX2_give_56 rfl (lv_at hl 2 rfl) ?_
        refine lv_iadd hx hb dX2_give_57 ?_
        refine xr_set (y := nI ((64 * P) + I)) (nI_add _ _) ?_
        refine lv_iconst (v := nI 1) hx hb dX2_give_58 (by decide) ?_
        refine xr_set (y := bI true) rfl ?_
        refine ms_has hx hb hK hP hD hS (j := ((64 * P) + I)) (b := true) (by omega) dX2_give_59 (fun H locs hP hD hS => ?_)
        refine lv_aload_n hx hb dX2_give_60 rfl (lv_at hl 0 rfl) ?_
        refine mg_wgt hx hb hts hown hK hP dX2_give_61 ?_
        refine lv_bipush (v := nI 64) hx hb dX2_give_64 (by decide) ?_
        refine lv_iload_n hx hb dX2_give_66 rfl (lv_at hl 1 rfl) ?_
        refine lv_imul hx hb dX2_give_67 ?_
        refine xr_set (y := nI (64 * P)) (pk_mul _ _) ?_
        refine lv_iload_n hx hb dX2_give_68 rfl (lv_at hl 2 rfl) ?_
        refine lv_iadd hx hb dX2_give_69 ?_
        refine xr_set (y := nI ((64 * P) + I)) (nI_add _ _) ?_
        refine lv_iload_n hx hb dX2_give_70 rfl (lv_at hl 3 rfl) ?_
        refine ms_wgt hx hb hK hP hD hS (j := ((64 * P) + I)) (by omega) dX2_give_71 (fun H locs hP hD hS => ?_)
        refine lv_aload_n hx hb dX2_give_72 rfl (lv_at hl 0 rfl) ?_
        refine lv_iload_n hx hb dX2_give_73 rfl (lv_at hl 1 rfl) ?_
        have hm2 := MI_on (P := P) p2 hm hI
        refine cs_R (ci := 1) (As := [.int (nI P)]) (rest := []) ⟨hx, hb, hml, hown, hts⟩ (mem_size l D a d (upd has ((64 * P) + I) (bI true)) (upd wgt ((64 * P) + I) p2) sen (sS S P I true) (sW w P I p2) P hP3 hm2) (cwV 1 hts (lw_V q219 q221 qs13 q21 q222) rfl rfl rfl (by decide +kernel) ⟨Nat.le_of_ble_eq_true rfl, Nat.le_of_ble_eq_true rfl⟩) hK hP rfl rfl rfl hl.1 rfl (Nat.le_of_ble_eq_true rfl) dX2_give_74 ⟨Nat.zero_le _, Nat.zero_le _⟩ (fun r hw => ?_)
        subst hw
        exact W.iret (v := nI (fb_ct ((sS S P I true) P) 64)) hx hb hr (fun t_ ht_ hW_ => ⟨⟨_, (upd has ((64 * P) + I) (bI true), upd wgt ((64 * P) + I) p2, sen), rfl, MPost.mk (sS S P I true, sW w P I p2, sen) ((onN_ok hP3 (by decide) _ _).trans ((onN_ok hI (by decide) _ _).trans (if_neg (fun q => c1 q.1)))) (hm2) rfl, by rw [ht_]; exact hP, va_K.moved hW_.alike hK, hD⟩, hS.F ht_⟩) hS.2.2 dX2_give_77
      · refine lv_aload_n hx hb dX2_give_31 rfl (lv_at hl 0 rfl) ?_
        refine mg_has hx hb hts hown hK hP dX2_give_32 ?_
        refine lv_bipush (v := nI 64) hx hb dX2_give_35 (by decide) ?_
        refine lv_iload_n hx hb dX2_give_37 rfl (lv_at hl 1 rfl) ?_
        refine lv_imul hx hb dX2_give_38 ?_
        refine xr_set (y := nI (64 * P)) (pk_mul _ _) ?_
        refine lv_iload_n hx hb dX2_give_39 rfl (lv_at hl 2 rfl) ?_
        refine lv_iadd hx hb dX2_give_40 ?_
        refine xr_set (y := nI ((64 * P) + I)) (nI_add _ _) ?_
        refine ml_has hx hb hK hP (j := ((64 * P) + I)) (by omega) dX2_give_41 ?_
        refine xr_set (y := bI (S P I)) (hm P hP3 I hI).1 ?_
        refine lv_if_ne (tgt := 48) hx hb dX2_give_42 (by decide) (fun c2 => ?_) (fun c2 => ?_)
        · refine lv_aload_n hx hb dX2_give_48 rfl (lv_at hl 0 rfl) ?_
          refine mg_has hx hb hts hown hK hP dX2_give_49 ?_
          refine lv_bipush (v := nI 64) hx hb dX2_give_52 (by decide) ?_
          refine lv_iload_n hx hb dX2_give_54 rfl (lv_at hl 1 rfl) ?_
          refine lv_imul hx hb dX2_give_55 ?_
          refine xr_set (y := nI (64 * P)) (pk_mul _ _) ?_
          refine lv_iload_n hx hb dX2_give_56 rfl (lv_at hl 2 rfl) ?_
          refine lv_iadd hx hb dX2_give_57 ?_
          refine xr_set (y := nI ((64 * P) + I)) (nI_add _ _) ?_
          refine lv_iconst (v := nI 1) hx hb dX2_give_58 (by decide) ?_
          refine xr_set (y := bI true) rfl ?_
          refine ms_has hx hb hK hP hD hS (j := ((64 * P) + I)) (b := true) (by omega) dX2_give_59 (fun H locs hP hD hS => ?_)
          refine lv_aload_n hx hb dX2_give_60 rfl (lv_at hl 0 rfl) ?_
          refine mg_wgt hx hb hts hown hK hP dX2_give_61 ?_
          refine lv_bipush (v := nI 64) hx hb dX2_give_64 (by decide) ?_
          refine lv_iload_n hx hb dX2_give_66 rfl (lv_at hl 1 rfl) ?_
          refine lv_imul hx hb dX2_give_67 ?_
          refine xr_set (y := nI (64 * P)) (pk_mul _ _) ?_
          refine lv_iload_n hx hb dX2_give_68 rfl (lv_at hl 2 rfl) ?_
          refine lv_iadd hx hb dX2_give_69 ?_
          refine xr_set (y := nI ((64 * P) + I)) (nI_add _ _) ?_
          refine lv_iload_n hx hb dX2_give_70 rfl (lv_at hl 3 rfl) ?_
          refine ms_wgt hx hb hK hP hD hS (j := ((64 * P) + I)) (by omega) dX2_give_71 (fun H locs hP hD hS => ?_)
          refine lv_aload_n hx hb dX2_give_72 rfl (lv_at hl 0 rfl) ?_
          refine lv_iload_n hx hb dX2_give_73 rfl (lv_at hl 1 rfl) ?_
          have hm2 := MI_on (P := P) p2 hm hI
          refine cs_R (ci := 1) (As := [.int (nI P)]) (rest := []) ⟨hx, hb, hml, hown, hts⟩ (mem_size l D a d (upd has ((64 * P) + I) (bI true)) (upd wgt ((64 * P) + I) p2) sen (sS S P I true) (sW w P I p2) P hP3 hm2) (cwV 1 hts (lw_V q219 q221 qs13 q21 q222) rfl rfl rfl (by decide +kernel) ⟨Nat.le_of_ble_eq_true rfl, Nat.le_of_ble_eq_true rfl⟩) hK hP rfl rfl rfl hl.1 rfl (Nat.le_of_ble_eq_true rfl) dX2_give_74 ⟨Nat.zero_le _, Nat.zero_le _⟩ (fun r hw => ?_)
          subst hw
          exact W.iret (v := nI (fb_ct ((sS S P I true) P) 64)) hx hb hr (fun t_ ht_ hW_ => ⟨⟨_, (upd has ((64 * P) + I) (bI true), upd wgt ((64 * P) + I) p2, sen), rfl, MPost.mk (sS S P I true, sW w P I p2, sen) ((onN_ok hP3 (by decide) _ _).trans ((onN_ok hI (by decide) _ _).trans (if_neg (fun q => by have q2 : S P I = false := q.2; rw [q2] at c2; exact c2 rfl)))) (hm2) rfl, by rw [ht_]; exact hP, va_K.moved hW_.alike hK, hD⟩, hS.F ht_⟩) hS.2.2 dX2_give_77
        · refine lv_bipush (v := (-3)) hx hb dX2_give_45 (by decide) ?_
          exact W.iret (v := (-3)) hx hb hr (fun t_ ht_ hW_ => ⟨⟨_, (has, wgt, sen), rfl, MPost.mk (S, w, sen) ((onN_ok hP3 (by decide) _ _).trans ((onN_ok hI (by decide) _ _).trans (if_pos ⟨c1, bI_0.mp c2⟩))) (hm) rfl, by rw [ht_]; exact hP, va_K.moved hW_.alike hK, hD⟩, hS.F ht_⟩) hS.2.2 dX2_give_47
    · refine lv_if_eq (tgt := 21) hx hb dX2_give_15 (by decide) (fun c => absurd c (by decide)) (fun _ => ?_)
      refine lv_bipush (v := (-2)) hx hb dX2_give_18 (by decide) ?_
      exact W.iret (v := (-2)) hx hb hr (fun t_ ht_ hW_ => ⟨⟨_, (has, wgt, sen), rfl, MPost.mk (S, w, sen) ((onN_ok hP3 (by decide) _ _).trans (onN_bad (by decide) hbad _ _)) (hm) rfl, by rw [ht_]; exact hP, va_K.moved hW_.alike hK, hD⟩, hS.F ht_⟩) hS.2.2 dX2_give_20
  · refine lv_if_eq (tgt := 10) hx hb dX2_give_5 (by decide) (fun c => absurd c (by decide)) (fun _ => ?_)
    refine lv_iconst (v := (-1)) hx hb dX2_give_8 (by decide) ?_
    exact W.iret (v := (-1)) hx hb hr (fun t_ ht_ hW_ => ⟨⟨_, (has, wgt, sen), rfl, MPost.mk (S, w, sen) (onN_bad (by decide) hbad _ _) (hm) rfl, by rw [ht_]; exact hP, va_K.moved hW_.alike hK, hD⟩, hS.F ht_⟩) hS.2.2 dX2_give_9
set_option maxHeartbeats 4000000 in
set_option maxRecDepth 100000 in
theorem mem_clear (l : Launch) (sz : Nat) (D : va_G) (a : Nat → Nat) (d : Nat → ClassId) (has wgt : Nat → Int32) (sen : Int32) (S : Nat → Nat → Bool) (w : Nat → Nat → Int32) (p0 : Int32) (hm : MI S w has wgt) : Met l yX2_clear (ws_ yX2_clear cX2_clear 4 (some .int)) ({ frames := 1, cells := 0, slots := 0, locals := 40 } : Room) (va_Pc [.ref (a 0), .int p0] (fun U => U.heap.size = sz ∧ va_P D vwCl (wM a d has wgt sen) U.heap ∧ va_K D vwCl (tyM d) U ∧ va_D (fun _ => True) (wM a d has wgt sen))) (QMi D d (va_A (wM a d has wgt sen) sz) (wMu a d) (MPost (F_clear (S, w, sen) p0))) 0 0 (va_A (wM a d has wgt sen) sz) := by
  refine Met.ofW (cc := cX2_clear) (maxL := 4) (ret := (some .int)) (by decide) rfl ?_
  intro p e s m args below meth c s₁ B hml hv
  obtain ⟨rfl, hsz, hP, hK, hD0⟩ := hv
  have hx := B.exec
  have hb := B.bytes
  have hr := B.returns
  have hlocks := B.notSynchronized
  have hts := atoms_spec (ws := ws_ yX2_clear cX2_clear 4 (some .int)) B.pre
  have hts : ∀ w ∈ lw_all, w.before _ s = true := fun w h => hts w (List.mem_cons_of_mem _ h)
  have hown : s.vm.findClass RX2 = some m.cls := findClass_of_methodNamed B.named
  subst hsz
  have hD := hD0.self (sz := s.heap.size)
  generalize hAe : va_A (wM a d has wgt sen) s.heap.size = A at hD ⊢
  have hA : ∀ q : Nat, s.heap.size ≤ q → A q := fun q h => by rw [← hAe]; exact Or.inr h
  have hS : va_S A s.heap s.heap [] := va_S.rf
  have hl := lv_entry ([.ref (a 0), .int p0]) (n := 4) (Nat.le_of_ble_eq_true rfl)
  rw [lg_entry_eq]
  generalize (lg_sl ([.ref (a 0), .int p0]) ++ List.replicate (4 - (lg_sl ([.ref (a 0), .int p0])).length) Slot.unset).toArray = ls at hl ⊢
  have hl : lv_has ls 4 [(0, .ref (a 0)), (1, .int p0)] := hl
  refine lv_aload_n hx hb dX2_clear_0 rfl (lv_at hl 0 rfl) ?_
  refine lv_iload_n hx hb dX2_clear_1 rfl (lv_at hl 1 rfl) ?_
  refine cs_P (ci := 1) (As := [.int p0]) (rest := []) ⟨hx, hb, hml, hown, hts⟩ (mem_bad l a p0) (cwV 1 hts (lw_V q207 q209 qs11 q21 q210) rfl rfl rfl (by decide +kernel) ⟨Nat.le_of_ble_eq_true rfl, Nat.le_of_ble_eq_true rfl⟩) hK hP rfl rfl rfl hl.1 rfl (Nat.le_of_ble_eq_true rfl) dX2_clear_2 ⟨Nat.zero_le _, Nat.zero_le _⟩ (fun r hw => ?_)
  rcases hw with ⟨rfl, P, hP3, rfl⟩ | ⟨rfl, hbad⟩
  · refine lv_if_eq (tgt := 10) hx hb dX2_clear_5 (by decide) (fun _ => ?_) (fun c => absurd c (by decide))
    refine lv_aload_n hx hb dX2_clear_10 rfl (lv_at hl 0 rfl) ?_
    refine lv_iload_n hx hb dX2_clear_11 rfl (lv_at hl 1 rfl) ?_
    refine cs_R (ci := 1) (As := [.int (nI P)]) (rest := []) ⟨hx, hb, hml, hown, hts⟩ (mem_size l D a d has wgt sen S w P hP3 hm) (cwV 1 hts (lw_V q219 q221 qs13 q21 q222) rfl rfl rfl (by decide +kernel) ⟨Nat.le_of_ble_eq_true rfl, Nat.le_of_ble_eq_true rfl⟩) hK hP rfl rfl rfl hl.1 rfl (Nat.le_of_ble_eq_true rfl) dX2_clear_12 ⟨Nat.zero_le _, Nat.zero_le _⟩ (fun r hw => ?_)
    subst hw
    refine lv_istore_n (lv' := [(2, .int (nI (fb_ct (S P) 64))), (0, .ref (a 0)), (1, .int (nI P))]) hx hb dX2_clear_15 rfl hl (by decide) rfl (fun ls hl => ?_)
    refine lv_iconst (v := nI 0) hx hb dX2_clear_16 (by decide) ?_
    refine lv_istore_n (lv' := [(3, .int (nI 0)), (2, .int (nI (fb_ct (S P) 64))), (0, .ref (a 0)), (1, .int (nI P))]) hx hb dX2_clear_17 rfl hl (by decide) rfl (fun ls hl => ?_)
    have loop : ∀ (q : Nat) (j : Nat) (f : Nat → Int32), 64 < j + q → (j ≤ 64) → (MI (clS S P j) w f wgt) → ∀ (H : Heap) (locs : List Loc), va_P D vwCl (wM a d f wgt sen) H → va_D A (wM a d f wgt sen) → va_S A s.heap H locs → ∀ (ls : Array Slot), lv_has ls 4 [(3, .int (nI j)), (2, .int (nI (fb_ct (S P) 64))), (0, .ref (a 0)), (1, .int (nI P))] → W p l e (headSpec (ws_ yX2_clear cX2_clear 4 (some .int)) ({ frames := 1, cells := 0, slots := 0, locals := 40 } : Room)).room s m ([.ref (a 0), .int (nI P)] : List Value).toArray below meth c H locs 0 0 (MQ below (QMi D d A (wMu a d) (MPost (F_clear (S, w, sen) (nI P)))) ([.ref (a 0), .int (nI P)] : List Value).toArray s 0 0 A) (F0 m 18 ls []) := by
      intro q
      induction q with
      | zero =>
        intro j f hq hj hJ
        exact absurd hq (by omega)
      | succ q ih =>
        intro j f hq hj hJ H locs hP hD hS ls hl
        refine lv_iload_n hx hb dX2_clear_18 rfl (lv_at hl 0 rfl) ?_
        refine lv_bipush (v := nI 64) hx hb dX2_clear_19 (by decide) ?_
        refine xb_ge (tgt := 42) hx hb dX2_clear_21 (by decide) (by omega) (by omega) (fun c1 => ?_) (fun c1 => ?_)
        · have ej : j = 64 := by omega
          subst ej
          refine lv_iload_n hx hb dX2_clear_42 rfl (lv_at hl 1 rfl) ?_
          exact W.iret (v := nI (fb_ct (S P) 64)) hx hb hr (fun t_ ht_ hW_ => ⟨⟨_, (f, wgt, sen), rfl, MPost.mk (sC S P, w, sen) (onN_ok hP3 (by decide) _ _) (MI_cong hJ (fun _ _ _ hi => cl_e hi) (fun _ _ _ _ _ => rfl)) rfl, by rw [ht_]; exact hP, va_K.moved hW_.alike hK, hD⟩, hS.F ht_⟩) hS.2.2 dX2_clear_43
        · refine lv_aload_n hx hb dX2_clear_24 rfl (lv_at hl 2 rfl) ?_
          refine mg_has hx hb hts hown hK hP dX2_clear_25 ?_
          refine lv_bipush (v := nI 64) hx hb dX2_clear_28 (by decide) ?_
          refine lv_iload_n hx hb dX2_clear_30 rfl (lv_at hl 3 rfl) ?_
          refine lv_imul hx hb dX2_clear_31 ?_
          refine xr_set (y := nI (64 * P)) (pk_mul _ _) ?_
          refine lv_iload_n hx hb dX2_clear_32 rfl (lv_at hl 0 rfl) ?_
          refine lv_iadd hx hb dX2_clear_33 ?_
          refine xr_set (y := nI ((64 * P) + j)) (nI_add _ _) ?_
          refine lv_iconst (v := nI 0) hx hb dX2_clear_34 (by decide) ?_
          refine xr_set (y := bI false) rfl ?_
          refine ms_has hx hb hK hP hD hS (j := ((64 * P) + j)) (b := false) (by omega) dX2_clear_35 (fun H locs hP hD hS => ?_)
          refine lv_iinc (v := nI (j + 1)) (lv' := [(3, .int (nI (j + 1))), (2, .int (nI (fb_ct (S P) 64))), (0, .ref (a 0)), (1, .int (nI P))]) hx hb dX2_clear_36 hl (k := 0) rfl (nI_1 _) (by decide) rfl (fun ls hl => ?_)
          refine lv_goto (tgt := 18) hx hb dX2_clear_39 (by decide) ?_
          exact ih (j + 1) _ (by omega) (by omega) (MI_cong (MI_off (P := P) hJ c1) (fun _ _ _ _ => cl_s) (fun _ _ _ _ _ => rfl)) H locs hP hD hS ls (lv_sub hl [0, 1, 2, 3] rfl)
    exact loop 65 0 has (by omega) (by omega) (MI_cong hm (fun _ _ _ _ => cl_0) (fun _ _ _ _ _ => rfl)) _ _ hP hD hS ls (lv_sub hl [0, 1, 2, 3] rfl)
  · refine lv_if_eq (tgt := 10) hx hb dX2_clear_5 (by decide) (fun c => absurd c (by decide)) (fun _ => ?_)
    refine lv_iconst (v := (-1)) hx hb dX2_clear_8 (by decide) ?_
    exact W.iret (v := (-1)) hx hb hr (fun t_ ht_ hW_ => ⟨⟨_, (has, wgt, sen), rfl, MPost.mk (S, w, sen) (onN_bad (by decide) hbad _ _) (hm) rfl, by rw [ht_]; exact hP, va_K.moved hW_.alike hK, hD⟩, hS.F ht_⟩) hS.2.2 dX2_clear_9
set_option maxHeartbeats 4000000 in
set_option maxRecDepth 100000 in
theorem mem_common (l : Launch) (sz : Nat) (D : va_G) (a : Nat → Nat) (d : Nat → ClassId) (has wgt : Nat → Int32) (sen : Int32) (S : Nat → Nat → Bool) (w : Nat → Nat → Int32) (p0 : Int32) (p1 : Int32) (hm : MI S w has wgt) : Met l yX2_common (ws_ yX2_common cX2_common 3 (some .int)) ({ frames := 2, cells := 0, slots := 0, locals := 80 } : Room) (va_Pc [.ref (a 0), .int p0, .int p1] (fun U => U.heap.size = sz ∧ va_P D vwCl (wM a d has wgt sen) U.heap ∧ va_K D vwCl (tyM d) U ∧ va_D (fun _ => True) (wM a d has wgt sen))) (QMi D d (va_A (wM a d has wgt sen) sz) (wMu a d) (MPost (F_common (S, w, sen) p0 p1))) 0 0 (va_A (wM a d has wgt sen) sz) := by
  refine Met.ofW (cc := cX2_common) (maxL := 3) (ret := (some .int)) (by decide) rfl ?_
  intro p e s m args below meth c s₁ B hml hv
  obtain ⟨rfl, hsz, hP, hK, hD0⟩ := hv
  have hx := B.exec
  have hb := B.bytes
  have hr := B.returns
  have hlocks := B.notSynchronized
  have hts := atoms_spec (ws := ws_ yX2_common cX2_common 3 (some .int)) B.pre
  have hts : ∀ w ∈ lw_all, w.before _ s = true := fun w h => hts w (List.mem_cons_of_mem _ h)
  have hown : s.vm.findClass RX2 = some m.cls := findClass_of_methodNamed B.named
  subst hsz
  have hD := hD0.self (sz := s.heap.size)
  generalize hAe : va_A (wM a d has wgt sen) s.heap.size = A at hD ⊢
  have hA : ∀ q : Nat, s.heap.size ≤ q → A q := fun q h => by rw [← hAe]; exact Or.inr h
  have hS : va_S A s.heap s.heap [] := va_S.rf
  have hl := lv_entry ([.ref (a 0), .int p0, .int p1]) (n := 3) (Nat.le_of_ble_eq_true rfl)
  rw [lg_entry_eq]
  generalize (lg_sl ([.ref (a 0), .int p0, .int p1]) ++ List.replicate (3 - (lg_sl ([.ref (a 0), .int p0, .int p1])).length) Slot.unset).toArray = ls at hl ⊢
  have hl : lv_has ls 3 [(0, .ref (a 0)), (1, .int p0), (2, .int p1)] := hl
  refine lv_aload_n hx hb dX2_common_0 rfl (lv_at hl 0 rfl) ?_
  refine lv_iload_n hx hb dX2_common_1 rfl (lv_at hl 1 rfl) ?_
  refine cs_P (ci := 1) (As := [.int p0]) (rest := []) ⟨hx, hb, hml, hown, hts⟩ (mem_bad l a p0) (cwV 1 hts (lw_V q207 q209 qs11 q21 q210) rfl rfl rfl (by decide +kernel) ⟨Nat.le_of_ble_eq_true rfl, Nat.le_of_ble_eq_true rfl⟩) hK hP rfl rfl rfl hl.1 rfl (Nat.le_of_ble_eq_true rfl) dX2_common_2 ⟨Nat.zero_le _, Nat.zero_le _⟩ (fun r hw => ?_)
  rcases hw with ⟨rfl, P, hP3, rfl⟩ | ⟨rfl, hbad⟩
  · refine lv_if_ne (tgt := 16) hx hb dX2_common_5 (by decide) (fun c => absurd c (by decide)) (fun _ => ?_)
    refine lv_aload_n hx hb dX2_common_8 rfl (lv_at hl 0 rfl) ?_
    refine lv_iload_n hx hb dX2_common_9 rfl (lv_at hl 2 rfl) ?_
    refine cs_P (ci := 1) (As := [.int p1]) (rest := []) ⟨hx, hb, hml, hown, hts⟩ (mem_bad l a p1) (cwV 1 hts (lw_V q207 q209 qs11 q21 q210) rfl rfl rfl (by decide +kernel) ⟨Nat.le_of_ble_eq_true rfl, Nat.le_of_ble_eq_true rfl⟩) hK hP rfl rfl rfl hl.1 rfl (Nat.le_of_ble_eq_true rfl) dX2_common_10 ⟨Nat.zero_le _, Nat.zero_le _⟩ (fun r hw => ?_)
    rcases hw with ⟨rfl, Q, hQ3, rfl⟩ | ⟨rfl, hbad⟩
    · refine lv_if_eq (tgt := 18) hx hb dX2_common_13 (by decide) (fun _ => ?_) (fun c => absurd c (by decide))
      refine lv_aload_n hx hb dX2_common_18 rfl (lv_at hl 0 rfl) ?_
      refine lv_iload_n hx hb dX2_common_19 rfl (lv_at hl 1 rfl) ?_
      refine lv_iload_n hx hb dX2_common_20 rfl (lv_at hl 2 rfl) ?_
      refine cs_Wv (ci := 1) (As := [.int (nI P), .int (nI Q)]) (rest := []) ⟨hx, hb, hml, hown, hts⟩ (mem_note l s.heap.size D a d has wgt sen S w P Q hP3 hQ3 hm) (cwV 2 hts (lw_V q251 q253 qs15 q21 q254) rfl rfl rfl (by decide +kernel) ⟨Nat.le_of_ble_eq_true rfl, Nat.le_of_ble_eq_true rfl⟩) hK hP hD hS hA rfl rfl rfl hl.1 rfl (Nat.le_of_ble_eq_true rfl) dX2_common_21 ⟨Nat.zero_le _, Nat.zero_le _⟩ (fun u H locs hw hP hD hS _ => ?_)
      subst hw
      refine lv_aload_n hx hb dX2_common_24 rfl (lv_at hl 0 rfl) ?_
      refine lv_iload_n hx hb dX2_common_25 rfl (lv_at hl 1 rfl) ?_
      refine lv_iload_n hx hb dX2_common_26 rfl (lv_at hl 2 rfl) ?_
      refine cs_R (ci := 1) (As := [.int (nI P), .int (nI Q)]) (rest := []) ⟨hx, hb, hml, hown, hts⟩ (mem_shared l D a d has wgt (trf S P Q sen) S w P Q hP3 hQ3 hm) (cwV 2 hts (lw_V q255 q257 qs16 q21 q258) rfl rfl rfl (by decide +kernel) ⟨Nat.le_of_ble_eq_true rfl, Nat.le_of_ble_eq_true rfl⟩) hK hP rfl rfl rfl hl.1 rfl (Nat.le_of_ble_eq_true rfl) dX2_common_27 ⟨Nat.zero_le _, Nat.zero_le _⟩ (fun r hw => ?_)
      subst hw
      exact W.iret (v := nI (fb_ct (an (S P) (S Q)) 64)) hx hb hr (fun t_ ht_ hW_ => ⟨⟨_, (has, wgt, trf S P Q sen), rfl, MPost.mk (S, w, trf S P Q sen) ((onN_ok hP3 (by decide) _ _).trans ((onN_ok hQ3 (by decide) _ _).trans (rfl))) (hm) rfl, by rw [ht_]; exact hP, va_K.moved hW_.alike hK, hD⟩, hS.F ht_⟩) hS.2.2 dX2_common_30
    · refine lv_if_eq (tgt := 18) hx hb dX2_common_13 (by decide) (fun c => absurd c (by decide)) (fun _ => ?_)
      refine lv_iconst (v := (-1)) hx hb dX2_common_16 (by decide) ?_
      exact W.iret (v := (-1)) hx hb hr (fun t_ ht_ hW_ => ⟨⟨_, (has, wgt, sen), rfl, MPost.mk (S, w, sen) ((onN_ok hP3 (by decide) _ _).trans (onN_bad (by decide) hbad _ _)) (hm) rfl, by rw [ht_]; exact hP, va_K.moved hW_.alike hK, hD⟩, hS.F ht_⟩) hS.2.2 dX2_common_17
  · refine lv_if_ne (tgt := 16) hx hb dX2_common_5 (by decide) (fun _ => ?_) (fun c => absurd c (by decide))
    refine lv_iconst (v := (-1)) hx hb dX2_common_16 (by decide) ?_
    exact W.iret (v := (-1)) hx hb hr (fun t_ ht_ hW_ => ⟨⟨_, (has, wgt, sen), rfl, MPost.mk (S, w, sen) (onN_bad (by decide) hbad _ _) (hm) rfl, by rw [ht_]; exact hP, va_K.moved hW_.alike hK, hD⟩, hS.F ht_⟩) hS.2.2 dX2_common_17
set_option maxHeartbeats 4000000 in
set_option maxRecDepth 100000 in
theorem mem_within (l : Launch) (sz : Nat) (D : va_G) (a : Nat → Nat) (d : Nat → ClassId) (has wgt : Nat → Int32) (sen : Int32) (S : Nat → Nat → Bool) (w : Nat → Nat → Int32) (p0 : Int32) (p1 : Int32) (hm : MI S w has wgt) : Met l yX2_within (ws_ yX2_within cX2_within 3 (some .int)) ({ frames := 2, cells := 0, slots := 0, locals := 80 } : Room) (va_Pc [.ref (a 0), .int p0, .int p1] (fun U => U.heap.size = sz ∧ va_P D vwCl (wM a d has wgt sen) U.heap ∧ va_K D vwCl (tyM d) U ∧ va_D (fun _ => True) (wM a d has wgt sen))) (QMi D d (va_A (wM a d has wgt sen) sz) (wMu a d) (MPost (F_within (S, w, sen) p0 p1))) 0 0 (va_A (wM a d has wgt sen) sz) := by
  refine Met.ofW (cc := cX2_within) (maxL := 3) (ret := (some .int)) (by decide) rfl ?_
  intro p e s m args below meth c s₁ B hml hv
  obtain ⟨rfl, hsz, hP, hK, hD0⟩ := hv
  have hx := B.exec
  have hb := B.bytes
  have hr := B.returns
  have hlocks := B.notSynchronized
  have hts := atoms_spec (ws := ws_ yX2_within cX2_within 3 (some .int)) B.pre
  have hts : ∀ w ∈ lw_all, w.before _ s = true := fun w h => hts w (List.mem_cons_of_mem _ h)
  have hown : s.vm.findClass RX2 = some m.cls := findClass_of_methodNamed B.named
  subst hsz
  have hD := hD0.self (sz := s.heap.size)
  generalize hAe : va_A (wM a d has wgt sen) s.heap.size = A at hD ⊢
  have hA : ∀ q : Nat, s.heap.size ≤ q → A q := fun q h => by rw [← hAe]; exact Or.inr h
  have hS : va_S A s.heap s.heap [] := va_S.rf
  have hl := lv_entry ([.ref (a 0), .int p0, .int p1]) (n := 3) (Nat.le_of_ble_eq_true rfl)
  rw [lg_entry_eq]
  generalize (lg_sl ([.ref (a 0), .int p0, .int p1]) ++ List.replicate (3 - (lg_sl ([.ref (a 0), .int p0, .int p1])).length) Slot.unset).toArray = ls at hl ⊢
  have hl : lv_has ls 3 [(0, .ref (a 0)), (1, .int p0), (2, .int p1)] := hl
  refine lv_aload_n hx hb dX2_within_0 rfl (lv_at hl 0 rfl) ?_
  refine lv_iload_n hx hb dX2_within_1 rfl (lv_at hl 1 rfl) ?_
  refine cs_P (ci := 1) (As := [.int p0]) (rest := []) ⟨hx, hb, hml, hown, hts⟩ (mem_bad l a p0) (cwV 1 hts (lw_V q207 q209 qs11 q21 q210) rfl rfl rfl (by decide +kernel) ⟨Nat.le_of_ble_eq_true rfl, Nat.le_of_ble_eq_true rfl⟩) hK hP rfl rfl rfl hl.1 rfl (Nat.le_of_ble_eq_true rfl) dX2_within_2 ⟨Nat.zero_le _, Nat.zero_le _⟩ (fun r hw => ?_)
  rcases hw with ⟨rfl, P, hP3, rfl⟩ | ⟨rfl, hbad⟩
  · refine lv_if_ne (tgt := 16) hx hb dX2_within_5 (by decide) (fun c => absurd c (by decide)) (fun _ => ?_)
    refine lv_aload_n hx hb dX2_within_8 rfl (lv_at hl 0 rfl) ?_
    refine lv_iload_n hx hb dX2_within_9 rfl (lv_at hl 2 rfl) ?_
    refine cs_P (ci := 1) (As := [.int p1]) (rest := []) ⟨hx, hb, hml, hown, hts⟩ (mem_bad l a p1) (cwV 1 hts (lw_V q207 q209 qs11 q21 q210) rfl rfl rfl (by decide +kernel) ⟨Nat.le_of_ble_eq_true rfl, Nat.le_of_ble_eq_true rfl⟩) hK hP rfl rfl rfl hl.1 rfl (Nat.le_of_ble_eq_true rfl) dX2_within_10 ⟨Nat.zero_le _, Nat.zero_le _⟩ (fun r hw => ?_)
    rcases hw with ⟨rfl, Q, hQ3, rfl⟩ | ⟨rfl, hbad⟩
    · refine lv_if_eq (tgt := 18) hx hb dX2_within_13 (by decide) (fun _ => ?_) (fun c => absurd c (by decide))
      refine lv_aload_n hx hb dX2_within_18 rfl (lv_at hl 0 rfl) ?_
      refine lv_iload_n hx hb dX2_within_19 rfl (lv_at hl 1 rfl) ?_
      refine lv_iload_n hx hb dX2_within_20 rfl (lv_at hl 2 rfl) ?_
      refine cs_Wv (ci := 1) (As := [.int (nI P), .int (nI Q)]) (rest := []) ⟨hx, hb, hml, hown, hts⟩ (mem_note l s.heap.size D a d has wgt sen S w P Q hP3 hQ3 hm) (cwV 2 hts (lw_V q251 q253 qs15 q21 q254) rfl rfl rfl (by decide +kernel) ⟨Nat.le_of_ble_eq_true rfl, Nat.le_of_ble_eq_true rfl⟩) hK hP hD hS hA rfl rfl rfl hl.1 rfl (Nat.le_of_ble_eq_true rfl) dX2_within_21 ⟨Nat.zero_le _, Nat.zero_le _⟩ (fun u H locs hw hP hD hS _ => ?_)
      subst hw
      refine lv_aload_n hx hb dX2_within_24 rfl (lv_at hl 0 rfl) ?_
      refine lv_iload_n hx hb dX2_within_25 rfl (lv_at hl 1 rfl) ?_
      refine lv_iload_n hx hb dX2_within_26 rfl (lv_at hl 2 rfl) ?_
      refine cs_R (ci := 1) (As := [.int (nI P), .int (nI Q)]) (rest := []) ⟨hx, hb, hml, hown, hts⟩ (mem_shared l D a d has wgt (trf S P Q sen) S w P Q hP3 hQ3 hm) (cwV 2 hts (lw_V q255 q257 qs16 q21 q258) rfl rfl rfl (by decide +kernel) ⟨Nat.le_of_ble_eq_true rfl, Nat.le_of_ble_eq_true rfl⟩) hK hP rfl rfl rfl hl.1 rfl (Nat.le_of_ble_eq_true rfl) dX2_within_27 ⟨Nat.zero_le _, Nat.zero_le _⟩ (fun r hw => ?_)
      subst hw
      refine lv_aload_n hx hb dX2_within_30 rfl (lv_at hl 0 rfl) ?_
      refine lv_iload_n hx hb dX2_within_31 rfl (lv_at hl 1 rfl) ?_
      refine cs_R (ci := 1) (As := [.int (nI P)]) (rest := [.int (nI (fb_ct (an (S P) (S Q)) 64))]) ⟨hx, hb, hml, hown, hts⟩ (mem_size l D a d has wgt (trf S P Q sen) S w P hP3 hm) (cwV 1 hts (lw_V q219 q221 qs13 q21 q222) rfl rfl rfl (by decide +kernel) ⟨Nat.le_of_ble_eq_true rfl, Nat.le_of_ble_eq_true rfl⟩) hK hP rfl rfl rfl hl.1 rfl (Nat.le_of_ble_eq_true rfl) dX2_within_32 ⟨Nat.zero_le _, Nat.zero_le _⟩ (fun r hw => ?_)
      subst hw
      have hle1 : fb_ct (S P) 64 ≤ 64 := fb_ct_le _ _
      have hle2 : fb_ct (an (S P) (S Q)) 64 ≤ 64 := fb_ct_le _ _
      refine xb_ne (tgt := 42) hx hb dX2_within_35 (by decide) (by omega) (by omega) (fun c1 => ?_) (fun c1 => ?_)
      · refine lv_iconst (v := nI 0) hx hb dX2_within_42 (by decide) ?_
        exact W.iret (v := nI 0) hx hb hr (fun t_ ht_ hW_ => ⟨⟨_, (has, wgt, trf S P Q sen), rfl, MPost.mk (S, w, trf S P Q sen) ((onN_ok hP3 (by decide) _ _).trans ((onN_ok hQ3 (by decide) _ _).trans (congrArg (fun x => (bI x, S, w, trf S P Q sen)) (decide_eq_false c1)))) (hm) rfl, by rw [ht_]; exact hP, va_K.moved hW_.alike hK, hD⟩, hS.F ht_⟩) hS.2.2 dX2_within_43
      · refine lv_iconst (v := nI 1) hx hb dX2_within_38 (by decide) ?_
        refine lv_goto (tgt := 43) hx hb dX2_within_39 (by decide) ?_
        exact W.iret (v := nI 1) hx hb hr (fun t_ ht_ hW_ => ⟨⟨_, (has, wgt, trf S P Q sen), rfl, MPost.mk (S, w, trf S P Q sen) ((onN_ok hP3 (by decide) _ _).trans ((onN_ok hQ3 (by decide) _ _).trans (congrArg (fun x => (bI x, S, w, trf S P Q sen)) (decide_eq_true c1)))) (hm) rfl, by rw [ht_]; exact hP, va_K.moved hW_.alike hK, hD⟩, hS.F ht_⟩) hS.2.2 dX2_within_43
    · refine lv_if_eq (tgt := 18) hx hb dX2_within_13 (by decide) (fun c => absurd c (by decide)) (fun _ => ?_)
      refine lv_iconst (v := (-1)) hx hb dX2_within_16 (by decide) ?_
      exact W.iret (v := (-1)) hx hb hr (fun t_ ht_ hW_ => ⟨⟨_, (has, wgt, sen), rfl, MPost.mk (S, w, sen) ((onN_ok hP3 (by decide) _ _).trans (onN_bad (by decide) hbad _ _)) (hm) rfl, by rw [ht_]; exact hP, va_K.moved hW_.alike hK, hD⟩, hS.F ht_⟩) hS.2.2 dX2_within_17
  · refine lv_if_ne (tgt := 16) hx hb dX2_within_5 (by decide) (fun _ => ?_) (fun c => absurd c (by decide))
    refine lv_iconst (v := (-1)) hx hb dX2_within_16 (by decide) ?_
    exact W.iret (v := (-1)) hx hb hr (fun t_ ht_ hW_ => ⟨⟨_, (has, wgt, sen), rfl, MPost.mk (S, w, sen) (onN_bad (by decide) hbad _ _) (hm) rfl, by rw [ht_]; exact hP, va_K.moved hW_.alike hK, hD⟩, hS.F ht_⟩) hS.2.2 dX2_within_17
set_option maxHeartbeats 4000000 in
set_option maxRecDepth 100000 in
theorem mem_commonItem (l : Launch) (sz : Nat) (D : va_G) (a : Nat → Nat) (d : Nat → ClassId) (has wgt : Nat → Int32) (sen : Int32) (S : Nat → Nat → Bool) (w : Nat → Nat → Int32) (p0 : Int32) (p1 : Int32) (p2 : Int32) (hm : MI S w has wgt) : Met l yX2_commonItem (ws_ yX2_commonItem cX2_commonItem 6 (some .int)) ({ frames := 2, cells := 0, slots := 0, locals := 80 } : Room) (va_Pc [.ref (a 0), .int p0, .int p1, .int p2] (fun U => U.heap.size = sz ∧ va_P D vwCl (wM a d has wgt sen) U.heap ∧ va_K D vwCl (tyM d) U ∧ va_D (fun _ => True) (wM a d has wgt sen))) (QMi D d (va_A (wM a d has wgt sen) sz) (wMu a d) (MPost (F_commonItem (S, w, sen) p0 p1 p2))) 0 0 (va_A (wM a d has wgt sen) sz) := by
  refine Met.ofW (cc := cX2_commonItem) (maxL := 6) (ret := (some .int)) (by decide) rfl ?_
  intro p e s m args below meth c s₁ B hml hv
  obtain ⟨rfl, hsz, hP, hK, hD0⟩ := hv
  have hx := B.exec
  have hb := B.bytes
  have hr := B.returns
  have hlocks := B.notSynchronized
  have hts := atoms_spec (ws := ws_ yX2_commonItem cX2_commonItem 6 (some .int)) B.pre
  have hts : ∀ w ∈ lw_all, w.before _ s = true := fun w h => hts w (List.mem_cons_of_mem _ h)
  have hown : s.vm.findClass RX2 = some m.cls := findClass_of_methodNamed B.named
  subst hsz
  have hD := hD0.self (sz := s.heap.size)
  generalize hAe : va_A (wM a d has wgt sen) s.heap.size = A at hD ⊢
  have hA : ∀ q : Nat, s.heap.size ≤ q → A q := fun q h => by rw [← hAe]; exact Or.inr h
  have hS : va_S A s.heap s.heap [] := va_S.rf
  have hl := lv_entry ([.ref (a 0), .int p0, .int p1, .int p2]) (n := 6) (Nat.le_of_ble_eq_true rfl)
  rw [lg_entry_eq]
  generalize (lg_sl ([.ref (a 0), .int p0, .int p1, .int p2]) ++ List.replicate (6 - (lg_sl ([.ref (a 0), .int p0, .int p1, .int p2])).length) Slot.unset).toArray = ls at hl ⊢
  have hl : lv_has ls 6 [(0, .ref (a 0)), (1, .int p0), (2, .int p1), (3, .int p2)] := hl
  refine lv_aload_n hx hb dX2_commonItem_0 rfl (lv_at hl 0 rfl) ?_
  refine lv_iload_n hx hb dX2_commonItem_1 rfl (lv_at hl 1 rfl) ?_
  refine cs_P (ci := 1) (As := [.int p0]) (rest := []) ⟨hx, hb, hml, hown, hts⟩ (mem_bad l a p0) (cwV 1 hts (lw_V q207 q209 qs11 q21 q210) rfl rfl rfl (by decide +kernel) ⟨Nat.le_of_ble_eq_true rfl, Nat.le_of_ble_eq_true rfl⟩) hK hP rfl rfl rfl hl.1 rfl (Nat.le_of_ble_eq_true rfl) dX2_commonItem_2 ⟨Nat.zero_le _, Nat.zero_le _⟩ (fun r hw => ?_)
  rcases hw with ⟨rfl, P, hP3, rfl⟩ | ⟨rfl, hbad⟩
  · refine lv_if_ne (tgt := 16) hx hb dX2_commonItem_5 (by decide) (fun c => absurd c (by decide)) (fun _ => ?_)
    refine lv_aload_n hx hb dX2_commonItem_8 rfl (lv_at hl 0 rfl) ?_
    refine lv_iload_n hx hb dX2_commonItem_9 rfl (lv_at hl 2 rfl) ?_
    refine cs_P (ci := 1) (As := [.int p1]) (rest := []) ⟨hx, hb, hml, hown, hts⟩ (mem_bad l a p1) (cwV 1 hts (lw_V q207 q209 qs11 q21 q210) rfl rfl rfl (by decide +kernel) ⟨Nat.le_of_ble_eq_true rfl, Nat.le_of_ble_eq_true rfl⟩) hK hP rfl rfl rfl hl.1 rfl (Nat.le_of_ble_eq_true rfl) dX2_commonItem_10 ⟨Nat.zero_le _, Nat.zero_le _⟩ (fun r hw => ?_)
    rcases hw with ⟨rfl, Q, hQ3, rfl⟩ | ⟨rfl, hbad⟩
    · refine lv_if_eq (tgt := 18) hx hb dX2_commonItem_13 (by decide) (fun _ => ?_) (fun c => absurd c (by decide))
      refine lv_aload_n hx hb dX2_commonItem_18 rfl (lv_at hl 0 rfl) ?_
      refine lv_iload_n hx hb dX2_commonItem_19 rfl (lv_at hl 1 rfl) ?_
      refine lv_iload_n hx hb dX2_commonItem_20 rfl (lv_at hl 2 rfl) ?_
      refine cs_Wv (ci := 1) (As := [.int (nI P), .int (nI Q)]) (rest := []) ⟨hx, hb, hml, hown, hts⟩ (mem_note l s.heap.size D a d has wgt sen S w P Q hP3 hQ3 hm) (cwV 2 hts (lw_V q251 q253 qs15 q21 q254) rfl rfl rfl (by decide +kernel) ⟨Nat.le_of_ble_eq_true rfl, Nat.le_of_ble_eq_true rfl⟩) hK hP hD hS hA rfl rfl rfl hl.1 rfl (Nat.le_of_ble_eq_true rfl) dX2_commonItem_21 ⟨Nat.zero_le _, Nat.zero_le _⟩ (fun u H locs hw hP hD hS _ => ?_)
      subst hw
      refine lv_iconst (v := nI 0) hx hb dX2_commonItem_24 (by decide) ?_
      refine lv_istore (lv' := [(4, .int (nI 0)), (0, .ref (a 0)), (1, .int (nI P)), (2, .int (nI Q)), (3, .int p2)]) hx hb dX2_commonItem_25 hl (by decide) rfl (fun ls hl => ?_)
      refine lv_iconst (v := nI 0) hx hb dX2_commonItem_27 (by decide) ?_
      refine lv_istore (lv' := [(5, .int (nI 0)), (4, .int (nI 0)), (0, .ref (a 0)), (1, .int (nI P)), (2, .int (nI Q)), (3, .int p2)]) hx hb dX2_commonItem_28 hl (by decide) rfl (fun ls hl => ?_)
      have loop : ∀ (q : Nat) (i : Nat), 64 < i + q → (i ≤ 64) → (∀ x, x < i → (an (S P) (S Q)) x = true → nI (fb_ct (an (S P) (S Q)) x) ≠ p2) → ∀ (H : Heap) (locs : List Loc), va_P D vwCl (wM a d has wgt (trf S P Q sen)) H → va_D A (wM a d has wgt (trf S P Q sen)) → va_S A s.heap H locs → ∀ (ls : Array Slot), lv_has ls 6 [(5, .int (nI i)), (4, .int (nI (fb_ct (an (S P) (S Q)) i))), (0, .ref (a 0)), (1, .int (nI P)), (2, .int (nI Q)), (3, .int p2)] → W p l e (headSpec (ws_ yX2_commonItem cX2_commonItem 6 (some .int)) ({ frames := 2, cells := 0, slots := 0, locals := 80 } : Room)).room s m ([.ref (a 0), .int (nI P), .int (nI Q), .int p2] : List Value).toArray below meth c H locs 0 0 (MQ below (QMi D d A (wMu a d) (MPost (F_commonItem (S, w, sen) (nI P) (nI Q) p2))) ([.ref (a 0), .int (nI P), .int (nI Q), .int p2] : List Value).toArray s 0 0 A) (F0 m 30 ls []) := by
        intro q
        induction q with
        | zero =>
          intro i hq hi hno
          exact absurd hq (by omega)
        | succ q ih =>
          intro i hq hi hno H locs hP hD hS ls hl
          refine lv_iload hx hb dX2_commonItem_30 (lv_at hl 0 rfl) ?_
          refine lv_bipush (v := nI 64) hx hb dX2_commonItem_32 (by decide) ?_
          refine xb_ge (tgt := 85) hx hb dX2_commonItem_34 (by decide) (by omega) (by omega) (fun c1 => ?_) (fun c1 => ?_)
          · have ei : i = 64 := by omega
            subst ei
            refine lv_bipush (v := (-2)) hx hb dX2_commonItem_85 (by decide) ?_
            exact W.iret (v := (-2)) hx hb hr (fun t_ ht_ hW_ => ⟨⟨_, (has, wgt, trf S P Q sen), rfl, MPost.mk (S, w, trf S P Q sen) ((onN_ok hP3 (by decide) _ _).trans ((onN_ok hQ3 (by decide) _ _).trans (congrArg (fun x => (opt x (-2), S, w, trf S P Q sen)) (pick_no hno)))) (hm) rfl, by rw [ht_]; exact hP, va_K.moved hW_.alike hK, hD⟩, hS.F ht_⟩) hS.2.2 dX2_commonItem_87
          · refine lv_aload_n hx hb dX2_commonItem_37 rfl (lv_at hl 2 rfl) ?_
            refine mg_has hx hb hts hown hK hP dX2_commonItem_38 ?_
            refine lv_bipush (v := nI 64) hx hb dX2_commonItem_41 (by decide) ?_
            refine lv_iload_n hx hb dX2_commonItem_43 rfl (lv_at hl 3 rfl) ?_
            refine lv_imul hx hb dX2_commonItem_44 ?_
            refine xr_set (y := nI (64 * P)) (pk_mul _ _) ?_
            refine lv_iload hx hb dX2_commonItem_45 (lv_at hl 0 rfl) ?_
            refine lv_iadd hx hb dX2_commonItem_47 ?_
            refine xr_set (y := nI ((64 * P) + i)) (nI_add _ _) ?_
            refine ml_has hx hb hK hP (j := ((64 * P) + i)) (by omega) dX2_commonItem_48 ?_
            refine xr_set (y := bI (S P i)) (hm P hP3 i c1).1 ?_
            refine lv_if_eq (tgt := 79) hx hb dX2_commonItem_49 (by decide) (fun c2 => ?_) (fun c2 => ?_)
            · refine lv_iinc (v := nI (i + 1)) (lv' := [(5, .int (nI (i + 1))), (4, .int (nI (fb_ct (an (S P) (S Q)) i))), (0, .ref (a 0)), (1, .int (nI P)), (2, .int (nI Q)), (3, .int p2)]) hx hb dX2_commonItem_79 hl (k := 0) rfl (nI_1 _) (by decide) rfl (fun ls hl => ?_)
              refine lv_goto (tgt := 30) hx hb dX2_commonItem_82 (by decide) ?_
              exact ih (i + 1) (by omega) (by omega) (fun x hx hgx => by
                rcases Nat.lt_or_ge x i with q1 | q1
                · exact hno x q1 hgx
                · have ex : x = i := by omega
                  subst ex
                  rw [an_n1 (bI_0.mp c2)] at hgx
                  cases hgx) H locs hP hD hS ls (by rw [ct_n (an_n1 (bI_0.mp c2))]; exact (lv_sub hl [0, 1, 2, 3, 4, 5] rfl))
            · refine lv_aload_n hx hb dX2_commonItem_52 rfl (lv_at hl 2 rfl) ?_
              refine mg_has hx hb hts hown hK hP dX2_commonItem_53 ?_
              refine lv_bipush (v := nI 64) hx hb dX2_commonItem_56 (by decide) ?_
              refine lv_iload_n hx hb dX2_commonItem_58 rfl (lv_at hl 4 rfl) ?_
              refine lv_imul hx hb dX2_commonItem_59 ?_
              refine xr_set (y := nI (64 * Q)) (pk_mul _ _) ?_
              refine lv_iload hx hb dX2_commonItem_60 (lv_at hl 0 rfl) ?_
              refine lv_iadd hx hb dX2_commonItem_62 ?_
              refine xr_set (y := nI ((64 * Q) + i)) (nI_add _ _) ?_
              refine ml_has hx hb hK hP (j := ((64 * Q) + i)) (by omega) dX2_commonItem_63 ?_
              refine xr_set (y := bI (S Q i)) (hm Q hQ3 i c1).1 ?_
              refine lv_if_eq (tgt := 79) hx hb dX2_commonItem_64 (by decide) (fun c3 => ?_) (fun c3 => ?_)
              · refine lv_iinc (v := nI (i + 1)) (lv' := [(5, .int (nI (i + 1))), (4, .int (nI (fb_ct (an (S P) (S Q)) i))), (0, .ref (a 0)), (1, .int (nI P)), (2, .int (nI Q)), (3, .int p2)]) hx hb dX2_commonItem_79 hl (k := 0) rfl (nI_1 _) (by decide) rfl (fun ls hl => ?_)
                refine lv_goto (tgt := 30) hx hb dX2_commonItem_82 (by decide) ?_
                exact ih (i + 1) (by omega) (by omega) (fun x hx hgx => by
                  rcases Nat.lt_or_ge x i with q1 | q1
                  · exact hno x q1 hgx
                  · have ex : x = i := by omega
                    subst ex
                    rw [an_n2 (bI_0.mp c3)] at hgx
                    cases hgx) H locs hP hD hS ls (by rw [ct_n (an_n2 (bI_0.mp c3))]; exact (lv_sub hl [0, 1, 2, 3, 4, 5] rfl))
              · refine lv_iload hx hb dX2_commonItem_67 (lv_at hl 1 rfl) ?_
                refine lv_iload_n hx hb dX2_commonItem_69 rfl (lv_at hl 5 rfl) ?_
                refine lv_icmp_ne (tgt := 76) hx hb dX2_commonItem_70 (by decide) (fun c4 => ?_) (fun c4 => ?_)
                · refine lv_iinc (v := nI ((fb_ct (an (S P) (S Q)) i) + 1)) (lv' := [(4, .int (nI ((fb_ct (an (S P) (S Q)) i) + 1))), (5, .int (nI i)), (0, .ref (a 0)), (1, .int (nI P)), (2, .int (nI Q)), (3, .int p2)]) hx hb dX2_commonItem_76 hl (k := 1) rfl (nI_1 _) (by decide) rfl (fun ls hl => ?_)
                  refine lv_iinc (v := nI (i + 1)) (lv' := [(5, .int (nI (i + 1))), (4, .int (nI ((fb_ct (an (S P) (S Q)) i) + 1))), (0, .ref (a 0)), (1, .int (nI P)), (2, .int (nI Q)), (3, .int p2)]) hx hb dX2_commonItem_79 hl (k := 1) rfl (nI_1 _) (by decide) rfl (fun ls hl => ?_)
                  refine lv_goto (tgt := 30) hx hb dX2_commonItem_82 (by decide) ?_
                  exact ih (i + 1) (by omega) (by omega) (fun x hx hgx => by
                    rcases Nat.lt_or_ge x i with q1 | q1
                    · exact hno x q1 hgx
                    · have ex : x = i := by omega
                      subst ex
                      exact c4) H locs hP hD hS ls (by rw [ct_y (an_y (bI_n0.mp c2) (bI_n0.mp c3))]; exact (lv_sub hl [0, 1, 2, 3, 4, 5] rfl))
                · refine lv_iload hx hb dX2_commonItem_73 (lv_at hl 0 rfl) ?_
                  exact W.iret (v := nI i) hx hb hr (fun t_ ht_ hW_ => ⟨⟨_, (has, wgt, trf S P Q sen), rfl, MPost.mk (S, w, trf S P Q sen) ((onN_ok hP3 (by decide) _ _).trans ((onN_ok hQ3 (by decide) _ _).trans (congrArg (fun x => (opt x (-2), S, w, trf S P Q sen)) (pick_yes (an_y (bI_n0.mp c2) (bI_n0.mp c3)) c4 c1 (by decide))))) (hm) rfl, by rw [ht_]; exact hP, va_K.moved hW_.alike hK, hD⟩, hS.F ht_⟩) hS.2.2 dX2_commonItem_75
      exact loop 65 0 (by omega) (by omega) (fun x hx => absurd hx (Nat.not_lt_zero x)) H locs hP hD hS ls (lv_sub hl [0, 1, 2, 3, 4, 5] rfl)
    · refine lv_if_eq (tgt := 18) hx hb dX2_commonItem_13 (by decide) (fun c => absurd c (by decide)) (fun _ => ?_)
      refine lv_iconst (v := (-1)) hx hb dX2_commonItem_16 (by decide) ?_
      exact W.iret (v := (-1)) hx hb hr (fun t_ ht_ hW_ => ⟨⟨_, (has, wgt, sen), rfl, MPost.mk (S, w, sen) ((onN_ok hP3 (by decide) _ _).trans (onN_bad (by decide) hbad _ _)) (hm) rfl, by rw [ht_]; exact hP, va_K.moved hW_.alike hK, hD⟩, hS.F ht_⟩) hS.2.2 dX2_commonItem_17
  · refine lv_if_ne (tgt := 16) hx hb dX2_commonItem_5 (by decide) (fun _ => ?_) (fun c => absurd c (by decide))
    refine lv_iconst (v := (-1)) hx hb dX2_commonItem_16 (by decide) ?_
    exact W.iret (v := (-1)) hx hb hr (fun t_ ht_ hW_ => ⟨⟨_, (has, wgt, sen), rfl, MPost.mk (S, w, sen) (onN_bad (by decide) hbad _ _) (hm) rfl, by rw [ht_]; exact hP, va_K.moved hW_.alike hK, hD⟩, hS.F ht_⟩) hS.2.2 dX2_commonItem_17
set_option maxHeartbeats 4000000 in
set_option maxRecDepth 100000 in
theorem mem_commonWeight (l : Launch) (sz : Nat) (D : va_G) (a : Nat → Nat) (d : Nat → ClassId) (has wgt : Nat → Int32) (sen : Int32) (S : Nat → Nat → Bool) (w : Nat → Nat → Int32) (p0 : Int32) (p1 : Int32) (hm : MI S w has wgt) : Met l yX2_commonWeight (ws_ yX2_commonWeight cX2_commonWeight 5 (some .int)) ({ frames := 2, cells := 0, slots := 0, locals := 80 } : Room) (va_Pc [.ref (a 0), .int p0, .int p1] (fun U => U.heap.size = sz ∧ va_P D vwCl (wM a d has wgt sen) U.heap ∧ va_K D vwCl (tyM d) U ∧ va_D (fun _ => True) (wM a d has wgt sen))) (QMi D d (va_A (wM a d has wgt sen) sz) (wMu a d) (MPost (F_commonWeight (S, w, sen) p0 p1))) 0 0 (va_A (wM a d has wgt sen) sz) := by
  refine Met.ofW (cc := cX2_commonWeight) (maxL := 5) (ret := (some .int)) (by decide) rfl ?_
  intro p e s m args below meth c s₁ B hml hv
  obtain ⟨rfl, hsz, hP, hK, hD0⟩ := hv
  have hx := B.exec
  have hb := B.bytes
  have hr := B.returns
  have hlocks := B.notSynchronized
  have hts := atoms_spec (ws := ws_ yX2_commonWeight cX2_commonWeight 5 (some .int)) B.pre
  have hts : ∀ w ∈ lw_all, w.before _ s = true := fun w h => hts w (List.mem_cons_of_mem _ h)
  have hown : s.vm.findClass RX2 = some m.cls := findClass_of_methodNamed B.named
  subst hsz
  have hD := hD0.self (sz := s.heap.size)
  generalize hAe : va_A (wM a d has wgt sen) s.heap.size = A at hD ⊢
  have hA : ∀ q : Nat, s.heap.size ≤ q → A q := fun q h => by rw [← hAe]; exact Or.inr h
  have hS : va_S A s.heap s.heap [] := va_S.rf
  have hl := lv_entry ([.ref (a 0), .int p0, .int p1]) (n := 5) (Nat.le_of_ble_eq_true rfl)
  rw [lg_entry_eq]
  generalize (lg_sl ([.ref (a 0), .int p0, .int p1]) ++ List.replicate (5 - (lg_sl ([.ref (a 0), .int p0, .int p1])).length) Slot.unset).toArray = ls at hl ⊢
  have hl : lv_has ls 5 [(0, .ref (a 0)), (1, .int p0), (2, .int p1)] := hl
  refine lv_aload_n hx hb dX2_commonWeight_0 rfl (lv_at hl 0 rfl) ?_
  refine lv_iload_n hx hb dX2_commonWeight_1 rfl (lv_at hl 1 rfl) ?_
  refine cs_P (ci := 1) (As := [.int p0]) (rest := []) ⟨hx, hb, hml, hown, hts⟩ (mem_bad l a p0) (cwV 1 hts (lw_V q207 q209 qs11 q21 q210) rfl rfl rfl (by decide +kernel) ⟨Nat.le_of_ble_eq_true rfl, Nat.le_of_ble_eq_true rfl⟩) hK hP rfl rfl rfl hl.1 rfl (Nat.le_of_ble_eq_true rfl) dX2_commonWeight_2 ⟨Nat.zero_le _, Nat.zero_le _⟩ (fun r hw => ?_)
  rcases hw with ⟨rfl, P, hP3, rfl⟩ | ⟨rfl, hbad⟩
  · refine lv_if_ne (tgt := 16) hx hb dX2_commonWeight_5 (by decide) (fun c => absurd c (by decide)) (fun _ => ?_)
    refine lv_aload_n hx hb dX2_commonWeight_8 rfl (lv_at hl 0 rfl) ?_
    refine lv_iload_n hx hb dX2_commonWeight_9 rfl (lv_at hl 2 rfl) ?_
    refine cs_P (ci := 1) (As := [.int p1]) (rest := []) ⟨hx, hb, hml, hown, hts⟩ (mem_bad l a p1) (cwV 1 hts (lw_V q207 q209 qs11 q21 q210) rfl rfl rfl (by decide +kernel) ⟨Nat.le_of_ble_eq_true rfl, Nat.le_of_ble_eq_true rfl⟩) hK hP rfl rfl rfl hl.1 rfl (Nat.le_of_ble_eq_true rfl) dX2_commonWeight_10 ⟨Nat.zero_le _, Nat.zero_le _⟩ (fun r hw => ?_)
    rcases hw with ⟨rfl, Q, hQ3, rfl⟩ | ⟨rfl, hbad⟩
    · refine lv_if_eq (tgt := 18) hx hb dX2_commonWeight_13 (by decide) (fun _ => ?_) (fun c => absurd c (by decide))
      refine lv_aload_n hx hb dX2_commonWeight_18 rfl (lv_at hl 0 rfl) ?_
      refine lv_iload_n hx hb dX2_commonWeight_19 rfl (lv_at hl 1 rfl) ?_
      refine lv_iload_n hx hb dX2_commonWeight_20 rfl (lv_at hl 2 rfl) ?_
      refine cs_Wv (ci := 1) (As := [.int (nI P), .int (nI Q)]) (rest := []) ⟨hx, hb, hml, hown, hts⟩ (mem_note l s.heap.size D a d has wgt sen S w P Q hP3 hQ3 hm) (cwV 2 hts (lw_V q251 q253 qs15 q21 q254) rfl rfl rfl (by decide +kernel) ⟨Nat.le_of_ble_eq_true rfl, Nat.le_of_ble_eq_true rfl⟩) hK hP hD hS hA rfl rfl rfl hl.1 rfl (Nat.le_of_ble_eq_true rfl) dX2_commonWeight_21 ⟨Nat.zero_le _, Nat.zero_le _⟩ (fun u H locs hw hP hD hS _ => ?_)
      subst hw
      refine lv_iconst (v := nI 0) hx hb dX2_commonWeight_24 (by decide) ?_
      refine lv_istore_n (lv' := [(3, .int (nI 0)), (0, .ref (a 0)), (1, .int (nI P)), (2, .int (nI Q))]) hx hb dX2_commonWeight_25 rfl hl (by decide) rfl (fun ls hl => ?_)
      refine lv_iconst (v := nI 0) hx hb dX2_commonWeight_26 (by decide) ?_
      refine lv_istore (lv' := [(4, .int (nI 0)), (3, .int (nI 0)), (0, .ref (a 0)), (1, .int (nI P)), (2, .int (nI Q))]) hx hb dX2_commonWeight_27 hl (by decide) rfl (fun ls hl => ?_)
      have loop : ∀ (q : Nat) (i : Nat), 64 < i + q → (i ≤ 64) → ∀ (H : Heap) (locs : List Loc), va_P D vwCl (wM a d has wgt (trf S P Q sen)) H → va_D A (wM a d has wgt (trf S P Q sen)) → va_S A s.heap H locs → ∀ (ls : Array Slot), lv_has ls 5 [(4, .int (nI i)), (3, .int (smf (fun i => if (S P i && S Q i) = true then w P i else 0) i)), (0, .ref (a 0)), (1, .int (nI P)), (2, .int (nI Q))] → W p l e (headSpec (ws_ yX2_commonWeight cX2_commonWeight 5 (some .int)) ({ frames := 2, cells := 0, slots := 0, locals := 80 } : Room)).room s m ([.ref (a 0), .int (nI P), .int (nI Q)] : List Value).toArray below meth c H locs 0 0 (MQ below (QMi D d A (wMu a d) (MPost (F_commonWeight (S, w, sen) (nI P) (nI Q)))) ([.ref (a 0), .int (nI P), .int (nI Q)] : List Value).toArray s 0 0 A) (F0 m 29 ls []) := by
        intro q
        induction q with
        | zero =>
          intro i hq hi
          exact absurd hq (by omega)
        | succ q ih =>
          intro i hq hi H locs hP hD hS ls hl
          refine lv_iload hx hb dX2_commonWeight_29 (lv_at hl 0 rfl) ?_
          refine lv_bipush (v := nI 64) hx hb dX2_commonWeight_31 (by decide) ?_
          refine xb_ge (tgt := 87) hx hb dX2_commonWeight_33 (by decide) (by omega) (by omega) (fun c1 => ?_) (fun c1 => ?_)
          · have ei : i = 64 := by omega
            subst ei
            refine lv_iload_n hx hb dX2_commonWeight_87 rfl (lv_at hl 1 rfl) ?_
            exact W.iret (v := smf (fun i => if (S P i && S Q i) = true then w P i else 0) 64) hx hb hr (fun t_ ht_ hW_ => ⟨⟨_, (has, wgt, trf S P Q sen), rfl, MPost.mk (S, w, trf S P Q sen) ((onN_ok hP3 (by decide) _ _).trans ((onN_ok hQ3 (by decide) _ _).trans (rfl))) (hm) rfl, by rw [ht_]; exact hP, va_K.moved hW_.alike hK, hD⟩, hS.F ht_⟩) hS.2.2 dX2_commonWeight_88
          · refine lv_aload_n hx hb dX2_commonWeight_36 rfl (lv_at hl 2 rfl) ?_
            refine mg_has hx hb hts hown hK hP dX2_commonWeight_37 ?_
            refine lv_bipush (v := nI 64) hx hb dX2_commonWeight_40 (by decide) ?_
            refine lv_iload_n hx hb dX2_commonWeight_42 rfl (lv_at hl 3 rfl) ?_
            refine lv_imul hx hb dX2_commonWeight_43 ?_
            refine xr_set (y := nI (64 * P)) (pk_mul _ _) ?_
            refine lv_iload hx hb dX2_commonWeight_44 (lv_at hl 0 rfl) ?_
            refine lv_iadd hx hb dX2_commonWeight_46 ?_
            refine xr_set (y := nI ((64 * P) + i)) (nI_add _ _) ?_
            refine ml_has hx hb hK hP (j := ((64 * P) + i)) (by omega) dX2_commonWeight_47 ?_
            refine xr_set (y := bI (S P i)) (hm P hP3 i c1).1 ?_
            refine lv_if_eq (tgt := 81) hx hb dX2_commonWeight_48 (by decide) (fun c2 => ?_) (fun c2 => ?_)
            · refine lv_iinc (v := nI (i + 1)) (lv' := [(4, .int (nI (i + 1))), (3, .int (smf (fun i => if (S P i && S Q i) = true then w P i else 0) i)), (0, .ref (a 0)), (1, .int (nI P)), (2, .int (nI Q))]) hx hb dX2_commonWeight_81 hl (k := 0) rfl (nI_1 _) (by decide) rfl (fun ls hl => ?_)
              refine lv_goto (tgt := 29) hx hb dX2_commonWeight_84 (by decide) ?_
              exact ih (i + 1) (by omega) (by omega) H locs hP hD hS ls (by
                have es : smf (fun i => if (S P i && S Q i) = true then w P i else 0) (i + 1) = smf (fun i => if (S P i && S Q i) = true then w P i else 0) i := by
                  rw [smf, bI_0.mp c2]
                  exact Int32.add_zero _
                rw [es]
                exact (lv_sub hl [0, 1, 2, 3, 4] rfl))
            · refine lv_aload_n hx hb dX2_commonWeight_51 rfl (lv_at hl 2 rfl) ?_
              refine mg_has hx hb hts hown hK hP dX2_commonWeight_52 ?_
              refine lv_bipush (v := nI 64) hx hb dX2_commonWeight_55 (by decide) ?_
              refine lv_iload_n hx hb dX2_commonWeight_57 rfl (lv_at hl 4 rfl) ?_
              refine lv_imul hx hb dX2_commonWeight_58 ?_
              refine xr_set (y := nI (64 * Q)) (pk_mul _ _) ?_
              refine lv_iload hx hb dX2_commonWeight_59 (lv_at hl 0 rfl) ?_
              refine lv_iadd hx hb dX2_commonWeight_61 ?_
              refine xr_set (y := nI ((64 * Q) + i)) (nI_add _ _) ?_
              refine ml_has hx hb hK hP (j := ((64 * Q) + i)) (by omega) dX2_commonWeight_62 ?_
              refine xr_set (y := bI (S Q i)) (hm Q hQ3 i c1).1 ?_
              refine lv_if_eq (tgt := 81) hx hb dX2_commonWeight_63 (by decide) (fun c3 => ?_) (fun c3 => ?_)
              · refine lv_iinc (v := nI (i + 1)) (lv' := [(4, .int (nI (i + 1))), (3, .int (smf (fun i => if (S P i && S Q i) = true then w P i else 0) i)), (0, .ref (a 0)), (1, .int (nI P)), (2, .int (nI Q))]) hx hb dX2_commonWeight_81 hl (k := 0) rfl (nI_1 _) (by decide) rfl (fun ls hl => ?_)
                refine lv_goto (tgt := 29) hx hb dX2_commonWeight_84 (by decide) ?_
                exact ih (i + 1) (by omega) (by omega) H locs hP hD hS ls (by
                  have es : smf (fun i => if (S P i && S Q i) = true then w P i else 0) (i + 1) = smf (fun i => if (S P i && S Q i) = true then w P i else 0) i := by
                    rw [smf, bI_0.mp c3, Bool.and_false]
                    exact Int32.add_zero _
                  rw [es]
                  exact (lv_sub hl [0, 1, 2, 3, 4] rfl))
              · have hw1 := (hm P hP3 i c1).2 (bI_n0.mp c2)
                refine lv_iload_n hx hb dX2_commonWeight_66 rfl (lv_at hl 1 rfl) ?_
                refine lv_aload_n hx hb dX2_commonWeight_67 rfl (lv_at hl 2 rfl) ?_
                refine mg_wgt hx hb hts hown hK hP dX2_commonWeight_68 ?_
                refine lv_bipush (v := nI 64) hx hb dX2_commonWeight_71 (by decide) ?_
                refine lv_iload_n hx hb dX2_commonWeight_73 rfl (lv_at hl 3 rfl) ?_
                refine lv_imul hx hb dX2_commonWeight_74 ?_
                refine xr_set (y := nI (64 * P)) (pk_mul _ _) ?_
                refine lv_iload hx hb dX2_commonWeight_75 (lv_at hl 0 rfl) ?_
                refine lv_iadd hx hb dX2_commonWeight_77 ?_
                refine xr_set (y := nI ((64 * P) + i)) (nI_add _ _) ?_
                refine ml_wgt hx hb hK hP (j := ((64 * P) + i)) (by omega) dX2_commonWeight_78 ?_
                refine xr_set (y := w P i) hw1 ?_
                refine lv_iadd hx hb dX2_commonWeight_79 ?_
                refine xr_set (y := smf (fun i => if (S P i && S Q i) = true then w P i else 0) (i + 1)) (by rw [smf, bI_n0.mp c2, bI_n0.mp c3]; rfl) ?_
                refine lv_istore_n (lv' := [(3, .int (smf (fun i => if (S P i && S Q i) = true then w P i else 0) (i + 1))), (4, .int (nI i)), (0, .ref (a 0)), (1, .int (nI P)), (2, .int (nI Q))]) hx hb dX2_commonWeight_80 rfl hl (by decide) rfl (fun ls hl => ?_)
                refine lv_iinc (v := nI (i + 1)) (lv' := [(4, .int (nI (i + 1))), (3, .int (smf (fun i => if (S P i && S Q i) = true then w P i else 0) (i + 1))), (0, .ref (a 0)), (1, .int (nI P)), (2, .int (nI Q))]) hx hb dX2_commonWeight_81 hl (k := 1) rfl (nI_1 _) (by decide) rfl (fun ls hl => ?_)
                refine lv_goto (tgt := 29) hx hb dX2_commonWeight_84 (by decide) ?_
                exact ih (i + 1) (by omega) (by omega) H locs hP hD hS ls (lv_sub hl [0, 1, 2, 3, 4] rfl)
      exact loop 65 0 (by omega) (by omega) H locs hP hD hS ls (lv_sub hl [0, 1, 2, 3, 4] rfl)
    · refine lv_if_eq (tgt := 18) hx hb dX2_commonWeight_13 (by decide) (fun c => absurd c (by decide)) (fun _ => ?_)
      refine lv_iconst (v := nI 0) hx hb dX2_commonWeight_16 (by decide) ?_
      exact W.iret (v := nI 0) hx hb hr (fun t_ ht_ hW_ => ⟨⟨_, (has, wgt, sen), rfl, MPost.mk (S, w, sen) ((onN_ok hP3 (by decide) _ _).trans (onN_bad (by decide) hbad _ _)) (hm) rfl, by rw [ht_]; exact hP, va_K.moved hW_.alike hK, hD⟩, hS.F ht_⟩) hS.2.2 dX2_commonWeight_17
  · refine lv_if_ne (tgt := 16) hx hb dX2_commonWeight_5 (by decide) (fun _ => ?_) (fun c => absurd c (by decide))
    refine lv_iconst (v := nI 0) hx hb dX2_commonWeight_16 (by decide) ?_
    exact W.iret (v := nI 0) hx hb hr (fun t_ ht_ hW_ => ⟨⟨_, (has, wgt, sen), rfl, MPost.mk (S, w, sen) (onN_bad (by decide) hbad _ _) (hm) rfl, by rw [ht_]; exact hP, va_K.moved hW_.alike hK, hD⟩, hS.F ht_⟩) hS.2.2 dX2_commonWeight_17
set_option maxHeartbeats 4000000 in
set_option maxRecDepth 100000 in
theorem mem_commonToAll (l : Launch) (sz : Nat) (D : va_G) (a : Nat → Nat) (d : Nat → ClassId) (has wgt : Nat → Int32) (sen : Int32) (S : Nat → Nat → Bool) (w : Nat → Nat → Int32) (hm : MI S w has wgt) : Met l yX2_commonToAll (ws_ yX2_commonToAll cX2_commonToAll 1 (some .int)) ({ frames := 2, cells := 0, slots := 0, locals := 80 } : Room) (va_Pc [.ref (a 0)] (fun U => U.heap.size = sz ∧ va_P D vwCl (wM a d has wgt sen) U.heap ∧ va_K D vwCl (tyM d) U ∧ va_D (fun _ => True) (wM a d has wgt sen))) (QMi D d (va_A (wM a d has wgt sen) sz) (wMu a d) (MPost (F_commonToAll (S, w, sen)))) 0 0 (va_A (wM a d has wgt sen) sz) := by
  refine Met.ofW (cc := cX2_commonToAll) (maxL := 1) (ret := (some .int)) (by decide) rfl ?_
  intro p e s m args below meth c s₁ B hml hv
  obtain ⟨rfl, hsz, hP, hK, hD0⟩ := hv
  have hx := B.exec
  have hb := B.bytes
  have hr := B.returns
  have hlocks := B.notSynchronized
  have hts := atoms_spec (ws := ws_ yX2_commonToAll cX2_commonToAll 1 (some .int)) B.pre
  have hts : ∀ w ∈ lw_all, w.before _ s = true := fun w h => hts w (List.mem_cons_of_mem _ h)
  have hown : s.vm.findClass RX2 = some m.cls := findClass_of_methodNamed B.named
  subst hsz
  have hD := hD0.self (sz := s.heap.size)
  generalize hAe : va_A (wM a d has wgt sen) s.heap.size = A at hD ⊢
  have hA : ∀ q : Nat, s.heap.size ≤ q → A q := fun q h => by rw [← hAe]; exact Or.inr h
  have hS : va_S A s.heap s.heap [] := va_S.rf
  have hl := lv_entry ([.ref (a 0)]) (n := 1) (Nat.le_of_ble_eq_true rfl)
  rw [lg_entry_eq]
  generalize (lg_sl ([.ref (a 0)]) ++ List.replicate (1 - (lg_sl ([.ref (a 0)])).length) Slot.unset).toArray = ls at hl ⊢
  have hl : lv_has ls 1 [(0, .ref (a 0))] := hl
  refine lv_aload_n hx hb dX2_commonToAll_0 rfl (lv_at hl 0 rfl) ?_
  refine lv_iconst (v := nI 3) hx hb dX2_commonToAll_1 (by decide) ?_
  refine cs_R (ci := 1) (As := [.int (nI 3)]) (rest := []) ⟨hx, hb, hml, hown, hts⟩ (mem_heldBy l D a d has wgt sen S w 3 (by decide) hm) (cwV 1 hts (lw_V q271 q273 qs17 q21 q274) rfl rfl rfl (by decide +kernel) ⟨Nat.le_of_ble_eq_true rfl, Nat.le_of_ble_eq_true rfl⟩) hK hP rfl rfl rfl hl.1 rfl (Nat.le_of_ble_eq_true rfl) dX2_commonToAll_2 ⟨Nat.zero_le _, Nat.zero_le _⟩ (fun r hw => ?_)
  subst hw
  exact W.iret (v := nI (fb_ct (hk S 3) 64)) hx hb hr (fun t_ ht_ hW_ => ⟨⟨_, (has, wgt, sen), rfl, MPost.mk (S, w, sen) (rfl) (hm) rfl, by rw [ht_]; exact hP, va_K.moved hW_.alike hK, hD⟩, hS.F ht_⟩) hS.2.2 dX2_commonToAll_5
set_option maxHeartbeats 4000000 in
set_option maxRecDepth 100000 in
theorem mem_any (l : Launch) (sz : Nat) (D : va_G) (a : Nat → Nat) (d : Nat → ClassId) (has wgt : Nat → Int32) (sen : Int32) (S : Nat → Nat → Bool) (w : Nat → Nat → Int32) (hm : MI S w has wgt) : Met l yX2_any (ws_ yX2_any cX2_any 1 (some .int)) ({ frames := 2, cells := 0, slots := 0, locals := 80 } : Room) (va_Pc [.ref (a 0)] (fun U => U.heap.size = sz ∧ va_P D vwCl (wM a d has wgt sen) U.heap ∧ va_K D vwCl (tyM d) U ∧ va_D (fun _ => True) (wM a d has wgt sen))) (QMi D d (va_A (wM a d has wgt sen) sz) (wMu a d) (MPost (F_any (S, w, sen)))) 0 0 (va_A (wM a d has wgt sen) sz) := by
  refine Met.ofW (cc := cX2_any) (maxL := 1) (ret := (some .int)) (by decide) rfl ?_
  intro p e s m args below meth c s₁ B hml hv
  obtain ⟨rfl, hsz, hP, hK, hD0⟩ := hv
  have hx := B.exec
  have hb := B.bytes
  have hr := B.returns
  have hlocks := B.notSynchronized
  have hts := atoms_spec (ws := ws_ yX2_any cX2_any 1 (some .int)) B.pre
  have hts : ∀ w ∈ lw_all, w.before _ s = true := fun w h => hts w (List.mem_cons_of_mem _ h)
  have hown : s.vm.findClass RX2 = some m.cls := findClass_of_methodNamed B.named
  subst hsz
  have hD := hD0.self (sz := s.heap.size)
  generalize hAe : va_A (wM a d has wgt sen) s.heap.size = A at hD ⊢
  have hA : ∀ q : Nat, s.heap.size ≤ q → A q := fun q h => by rw [← hAe]; exact Or.inr h
  have hS : va_S A s.heap s.heap [] := va_S.rf
  have hl := lv_entry ([.ref (a 0)]) (n := 1) (Nat.le_of_ble_eq_true rfl)
  rw [lg_entry_eq]
  generalize (lg_sl ([.ref (a 0)]) ++ List.replicate (1 - (lg_sl ([.ref (a 0)])).length) Slot.unset).toArray = ls at hl ⊢
  have hl : lv_has ls 1 [(0, .ref (a 0))] := hl
  refine lv_bipush (v := nI 64) hx hb dX2_any_0 (by decide) ?_
  refine lv_aload_n hx hb dX2_any_2 rfl (lv_at hl 0 rfl) ?_
  refine lv_iconst (v := nI 0) hx hb dX2_any_3 (by decide) ?_
  refine cs_R (ci := 1) (As := [.int (nI 0)]) (rest := [.int (nI 64)]) ⟨hx, hb, hml, hown, hts⟩ (mem_heldBy l D a d has wgt sen S w 0 (by decide) hm) (cwV 1 hts (lw_V q271 q273 qs17 q21 q274) rfl rfl rfl (by decide +kernel) ⟨Nat.le_of_ble_eq_true rfl, Nat.le_of_ble_eq_true rfl⟩) hK hP rfl rfl rfl hl.1 rfl (Nat.le_of_ble_eq_true rfl) dX2_any_4 ⟨Nat.zero_le _, Nat.zero_le _⟩ (fun r hw => ?_)
  subst hw
  have hle : fb_ct (hk S 0) 64 ≤ 64 := fb_ct_le _ _
  have i0 := id0 S 64
  refine lv_isub hx hb dX2_any_7 ?_
  refine xr_set (y := nI (64 - (fb_ct (hk S 0) 64))) (pk_sub (by omega)) ?_
  refine xr_set (y := nI (fb_ct (hk S 1) 64 + fb_ct (hk S 2) 64 + fb_ct (hk S 3) 64)) (congrArg nI (by omega)) ?_
  exact W.iret (v := nI (fb_ct (hk S 1) 64 + fb_ct (hk S 2) 64 + fb_ct (hk S 3) 64)) hx hb hr (fun t_ ht_ hW_ => ⟨⟨_, (has, wgt, sen), rfl, MPost.mk (S, w, sen) (rfl) (hm) rfl, by rw [ht_]; exact hP, va_K.moved hW_.alike hK, hD⟩, hS.F ht_⟩) hS.2.2 dX2_any_8
set_option maxHeartbeats 4000000 in
set_option maxRecDepth 100000 in
theorem mem_heldByJust (l : Launch) (sz : Nat) (D : va_G) (a : Nat → Nat) (d : Nat → ClassId) (has wgt : Nat → Int32) (sen : Int32) (S : Nat → Nat → Bool) (w : Nat → Nat → Int32) (p0 : Int32) (hm : MI S w has wgt) : Met l yX2_heldByJust (ws_ yX2_heldByJust cX2_heldByJust 2 (some .int)) ({ frames := 2, cells := 0, slots := 0, locals := 80 } : Room) (va_Pc [.ref (a 0), .int p0] (fun U => U.heap.size = sz ∧ va_P D vwCl (wM a d has wgt sen) U.heap ∧ va_K D vwCl (tyM d) U ∧ va_D (fun _ => True) (wM a d has wgt sen))) (QMi D d (va_A (wM a d has wgt sen) sz) (wMu a d) (MPost (F_heldByJust (S, w, sen) p0))) 0 0 (va_A (wM a d has wgt sen) sz) := by
  refine Met.ofW (cc := cX2_heldByJust) (maxL := 2) (ret := (some .int)) (by decide) rfl ?_
  intro p e s m args below meth c s₁ B hml hv
  obtain ⟨rfl, hsz, hP, hK, hD0⟩ := hv
  have hx := B.exec
  have hb := B.bytes
  have hr := B.returns
  have hlocks := B.notSynchronized
  have hts := atoms_spec (ws := ws_ yX2_heldByJust cX2_heldByJust 2 (some .int)) B.pre
  have hts : ∀ w ∈ lw_all, w.before _ s = true := fun w h => hts w (List.mem_cons_of_mem _ h)
  have hown : s.vm.findClass RX2 = some m.cls := findClass_of_methodNamed B.named
  subst hsz
  have hD := hD0.self (sz := s.heap.size)
  generalize hAe : va_A (wM a d has wgt sen) s.heap.size = A at hD ⊢
  have hA : ∀ q : Nat, s.heap.size ≤ q → A q := fun q h => by rw [← hAe]; exact Or.inr h
  have hS : va_S A s.heap s.heap [] := va_S.rf
  have hl := lv_entry ([.ref (a 0), .int p0]) (n := 2) (Nat.le_of_ble_eq_true rfl)
  rw [lg_entry_eq]
  generalize (lg_sl ([.ref (a 0), .int p0]) ++ List.replicate (2 - (lg_sl ([.ref (a 0), .int p0])).length) Slot.unset).toArray = ls at hl ⊢
  have hl : lv_has ls 2 [(0, .ref (a 0)), (1, .int p0)] := hl
  refine lv_iload_n hx hb dX2_heldByJust_0 rfl (lv_at hl 1 rfl) ?_
  refine lv_iconst (v := nI 1) hx hb dX2_heldByJust_1 (by decide) ?_
  refine lv_icmp_lt (tgt := 10) hx hb dX2_heldByJust_2 (by decide) (fun c1 => ?_) (fun c1 => ?_)
  · refine lv_iconst (v := (-1)) hx hb dX2_heldByJust_10 (by decide) ?_
    refine lv_goto (tgt := 19) hx hb dX2_heldByJust_11 (by decide) ?_
    exact W.iret (v := (-1)) hx hb hr (fun t_ ht_ hW_ => ⟨⟨_, (has, wgt, sen), rfl, MPost.mk (S, w, sen) (hb_lo _ c1) (hm) rfl, by rw [ht_]; exact hP, va_K.moved hW_.alike hK, hD⟩, hS.F ht_⟩) hS.2.2 dX2_heldByJust_19
  · refine lv_iload_n hx hb dX2_heldByJust_5 rfl (lv_at hl 1 rfl) ?_
    refine lv_iconst (v := nI 3) hx hb dX2_heldByJust_6 (by decide) ?_
    refine lv_icmp_le (tgt := 14) hx hb dX2_heldByJust_7 (by decide) (fun c2 => ?_) (fun c2 => ?_)
    · obtain ⟨K, hK1, hK3, rfl⟩ := hb_in c1 c2
      refine lv_aload_n hx hb dX2_heldByJust_14 rfl (lv_at hl 0 rfl) ?_
      refine lv_iload_n hx hb dX2_heldByJust_15 rfl (lv_at hl 1 rfl) ?_
      refine cs_R (ci := 1) (As := [.int (nI K)]) (rest := []) ⟨hx, hb, hml, hown, hts⟩ (mem_heldBy l D a d has wgt sen S w K (by omega) hm) (cwV 1 hts (lw_V q271 q273 qs17 q21 q274) rfl rfl rfl (by decide +kernel) ⟨Nat.le_of_ble_eq_true rfl, Nat.le_of_ble_eq_true rfl⟩) hK hP rfl rfl rfl hl.1 rfl (Nat.le_of_ble_eq_true rfl) dX2_heldByJust_16 ⟨Nat.zero_le _, Nat.zero_le _⟩ (fun r hw => ?_)
      subst hw
      exact W.iret (v := nI (fb_ct (hk S K) 64)) hx hb hr (fun t_ ht_ hW_ => ⟨⟨_, (has, wgt, sen), rfl, MPost.mk (S, w, sen) (hb_ok (S, w, sen) hK1 hK3) (hm) rfl, by rw [ht_]; exact hP, va_K.moved hW_.alike hK, hD⟩, hS.F ht_⟩) hS.2.2 dX2_heldByJust_19
    · refine lv_iconst (v := (-1)) hx hb dX2_heldByJust_10 (by decide) ?_
      refine lv_goto (tgt := 19) hx hb dX2_heldByJust_11 (by decide) ?_
      exact W.iret (v := (-1)) hx hb hr (fun t_ ht_ hW_ => ⟨⟨_, (has, wgt, sen), rfl, MPost.mk (S, w, sen) (hb_hi _ c2) (hm) rfl, by rw [ht_]; exact hP, va_K.moved hW_.alike hK, hD⟩, hS.F ht_⟩) hS.2.2 dX2_heldByJust_19
set_option maxHeartbeats 4000000 in
set_option maxRecDepth 100000 in
theorem mem_itemOfAll (l : Launch) (sz : Nat) (D : va_G) (a : Nat → Nat) (d : Nat → ClassId) (has wgt : Nat → Int32) (sen : Int32) (S : Nat → Nat → Bool) (w : Nat → Nat → Int32) (p0 : Int32) (hm : MI S w has wgt) : Met l yX2_itemOfAll (ws_ yX2_itemOfAll cX2_itemOfAll 4 (some .int)) ({ frames := 1, cells := 0, slots := 0, locals := 40 } : Room) (va_Pc [.ref (a 0), .int p0] (fun U => U.heap.size = sz ∧ va_P D vwCl (wM a d has wgt sen) U.heap ∧ va_K D vwCl (tyM d) U ∧ va_D (fun _ => True) (wM a d has wgt sen))) (QMi D d (va_A (wM a d has wgt sen) sz) (wMu a d) (MPost (F_itemOfAll (S, w, sen) p0))) 0 0 (va_A (wM a d has wgt sen) sz) := by
  refine Met.ofW (cc := cX2_itemOfAll) (maxL := 4) (ret := (some .int)) (by decide) rfl ?_
  intro p e s m args below meth c s₁ B hml hv
  obtain ⟨rfl, hsz, hP, hK, hD0⟩ := hv
  have hx := B.exec
  have hb := B.bytes
  have hr := B.returns
  have hlocks := B.notSynchronized
  have hts := atoms_spec (ws := ws_ yX2_itemOfAll cX2_itemOfAll 4 (some .int)) B.pre
  have hts : ∀ w ∈ lw_all, w.before _ s = true := fun w h => hts w (List.mem_cons_of_mem _ h)
  have hown : s.vm.findClass RX2 = some m.cls := findClass_of_methodNamed B.named
  subst hsz
  have hD := hD0.self (sz := s.heap.size)
  generalize hAe : va_A (wM a d has wgt sen) s.heap.size = A at hD ⊢
  have hA : ∀ q : Nat, s.heap.size ≤ q → A q := fun q h => by rw [← hAe]; exact Or.inr h
  have hS : va_S A s.heap s.heap [] := va_S.rf
  have hl := lv_entry ([.ref (a 0), .int p0]) (n := 4) (Nat.le_of_ble_eq_true rfl)
  rw [lg_entry_eq]
  generalize (lg_sl ([.ref (a 0), .int p0]) ++ List.replicate (4 - (lg_sl ([.ref (a 0), .int p0])).length) Slot.unset).toArray = ls at hl ⊢
  have hl : lv_has ls 4 [(0, .ref (a 0)), (1, .int p0)] := hl
  refine lv_iconst (v := nI 0) hx hb dX2_itemOfAll_0 (by decide) ?_
  refine lv_istore_n (lv' := [(2, .int (nI 0)), (0, .ref (a 0)), (1, .int p0)]) hx hb dX2_itemOfAll_1 rfl hl (by decide) rfl (fun ls hl => ?_)
  refine lv_iconst (v := nI 0) hx hb dX2_itemOfAll_2 (by decide) ?_
  refine lv_istore_n (lv' := [(3, .int (nI 0)), (2, .int (nI 0)), (0, .ref (a 0)), (1, .int p0)]) hx hb dX2_itemOfAll_3 rfl hl (by decide) rfl (fun ls hl => ?_)
  have loop : ∀ (q : Nat) (i : Nat), 64 < i + q → (i ≤ 64) → (∀ x, x < i → hk S 3 x = true → nI (fb_ct (hk S 3) x) ≠ p0) → ∀ (H : Heap) (locs : List Loc), va_P D vwCl (wM a d has wgt sen) H → va_D A (wM a d has wgt sen) → va_S A s.heap H locs → ∀ (ls : Array Slot), lv_has ls 4 [(3, .int (nI i)), (2, .int (nI (fb_ct (hk S 3) i))), (0, .ref (a 0)), (1, .int p0)] → W p l e (headSpec (ws_ yX2_itemOfAll cX2_itemOfAll 4 (some .int)) ({ frames := 1, cells := 0, slots := 0, locals := 40 } : Room)).room s m ([.ref (a 0), .int p0] : List Value).toArray below meth c H locs 0 0 (MQ below (QMi D d A (wMu a d) (MPost (F_itemOfAll (S, w, sen) p0))) ([.ref (a 0), .int p0] : List Value).toArray s 0 0 A) (F0 m 4 ls []) := by
    intro q
    induction q with
    | zero =>
      intro i hq hi hno
      exact absurd hq (by omega)
    | succ q ih =>
      intro i hq hi hno H locs hP hD hS ls hl
      refine lv_iload_n hx hb dX2_itemOfAll_4 rfl (lv_at hl 0 rfl) ?_
      refine lv_bipush (v := nI 64) hx hb dX2_itemOfAll_5 (by decide) ?_
      refine xb_ge (tgt := 35) hx hb dX2_itemOfAll_7 (by decide) (by omega) (by omega) (fun c1 => ?_) (fun c1 => ?_)
      · have ei : i = 64 := by omega
        subst ei
        refine lv_iconst (v := (-1)) hx hb dX2_itemOfAll_35 (by decide) ?_
        exact W.iret (v := (-1)) hx hb hr (fun t_ ht_ hW_ => ⟨⟨_, (has, wgt, sen), rfl, MPost.mk (S, w, sen) (congrArg (fun x => (opt x (-1), S, w, sen)) (pick_no hno)) (hm) rfl, by rw [ht_]; exact hP, va_K.moved hW_.alike hK, hD⟩, hS.F ht_⟩) hS.2.2 dX2_itemOfAll_36
      · refine lv_aload_n hx hb dX2_itemOfAll_10 rfl (lv_at hl 2 rfl) ?_
        refine lv_iload_n hx hb dX2_itemOfAll_11 rfl (lv_at hl 0 rfl) ?_
        refine cs_R (ci := 1) (As := [.int (nI i)]) (rest := []) ⟨hx, hb, hml, hown, hts⟩ (mem_holders l D a d has wgt sen S w i c1 hm) (cwV 1 hts (lw_V q275 q277 qs18 q21 q278) rfl rfl rfl (by decide +kernel) ⟨Nat.le_of_ble_eq_true rfl, Nat.le_of_ble_eq_true rfl⟩) hK hP rfl rfl rfl hl.1 rfl (Nat.le_of_ble_eq_true rfl) dX2_itemOfAll_12 ⟨Nat.zero_le _, Nat.zero_le _⟩ (fun r hw => ?_)
        subst hw
        have hle := hold_le S i
        refine lv_iconst (v := nI 3) hx hb dX2_itemOfAll_15 (by decide) ?_
        refine xb_ne (tgt := 29) hx hb dX2_itemOfAll_16 (by decide) (by omega) (by omega) (fun c2 => ?_) (fun c2 => ?_)
        · refine lv_iinc (v := nI (i + 1)) (lv' := [(3, .int (nI (i + 1))), (2, .int (nI (fb_ct (hk S 3) i))), (0, .ref (a 0)), (1, .int p0)]) hx hb dX2_itemOfAll_29 hl (k := 0) rfl (nI_1 _) (by decide) rfl (fun ls hl => ?_)
          refine lv_goto (tgt := 4) hx hb dX2_itemOfAll_32 (by decide) ?_
          exact ih (i + 1) (by omega) (by omega) (fun x hx hgx => by
            rcases Nat.lt_or_ge x i with q1 | q1
            · exact hno x q1 hgx
            · have ex : x = i := by omega
              subst ex
              rw [hk_n c2] at hgx
              cases hgx) H locs hP hD hS ls (by rw [ct_n (hk_n c2)]; exact (lv_sub hl [0, 1, 2, 3] rfl))
        · refine lv_iload_n hx hb dX2_itemOfAll_19 rfl (lv_at hl 1 rfl) ?_
          refine lv_iload_n hx hb dX2_itemOfAll_20 rfl (lv_at hl 3 rfl) ?_
          refine lv_icmp_ne (tgt := 26) hx hb dX2_itemOfAll_21 (by decide) (fun c3 => ?_) (fun c3 => ?_)
          · refine lv_iinc (v := nI ((fb_ct (hk S 3) i) + 1)) (lv' := [(2, .int (nI ((fb_ct (hk S 3) i) + 1))), (3, .int (nI i)), (0, .ref (a 0)), (1, .int p0)]) hx hb dX2_itemOfAll_26 hl (k := 1) rfl (nI_1 _) (by decide) rfl (fun ls hl => ?_)
            refine lv_iinc (v := nI (i + 1)) (lv' := [(3, .int (nI (i + 1))), (2, .int (nI ((fb_ct (hk S 3) i) + 1))), (0, .ref (a 0)), (1, .int p0)]) hx hb dX2_itemOfAll_29 hl (k := 1) rfl (nI_1 _) (by decide) rfl (fun ls hl => ?_)
            refine lv_goto (tgt := 4) hx hb dX2_itemOfAll_32 (by decide) ?_
            exact ih (i + 1) (by omega) (by omega) (fun x hx hgx => by
              rcases Nat.lt_or_ge x i with q1 | q1
              · exact hno x q1 hgx
              · have ex : x = i := by omega
                subst ex
                exact c3) H locs hP hD hS ls (by rw [ct_y (hk_y c2)]; exact (lv_sub hl [0, 1, 2, 3] rfl))
          · refine lv_iload_n hx hb dX2_itemOfAll_24 rfl (lv_at hl 0 rfl) ?_
            exact W.iret (v := nI i) hx hb hr (fun t_ ht_ hW_ => ⟨⟨_, (has, wgt, sen), rfl, MPost.mk (S, w, sen) (congrArg (fun x => (opt x (-1), S, w, sen)) (pick_yes (hk_y c2) c3 c1 (by decide))) (hm) rfl, by rw [ht_]; exact hP, va_K.moved hW_.alike hK, hD⟩, hS.F ht_⟩) hS.2.2 dX2_itemOfAll_25
  exact loop 65 0 (by omega) (by omega) (fun x hx => absurd hx (Nat.not_lt_zero x)) _ _ hP hD hS ls (lv_sub hl [0, 1, 2, 3] rfl)
set_option maxHeartbeats 4000000 in
set_option maxRecDepth 100000 in
theorem mem_alone (l : Launch) (sz : Nat) (D : va_G) (a : Nat → Nat) (d : Nat → ClassId) (has wgt : Nat → Int32) (sen : Int32) (S : Nat → Nat → Bool) (w : Nat → Nat → Int32) (p0 : Int32) (hm : MI S w has wgt) : Met l yX2_alone (ws_ yX2_alone cX2_alone 4 (some .int)) ({ frames := 1, cells := 0, slots := 0, locals := 40 } : Room) (va_Pc [.ref (a 0), .int p0] (fun U => U.heap.size = sz ∧ va_P D vwCl (wM a d has wgt sen) U.heap ∧ va_K D vwCl (tyM d) U ∧ va_D (fun _ => True) (wM a d has wgt sen))) (QMi D d (va_A (wM a d has wgt sen) sz) (wMu a d) (MPost (F_alone (S, w, sen) p0))) 0 0 (va_A (wM a d has wgt sen) sz) := by
  refine Met.ofW (cc := cX2_alone) (maxL := 4) (ret := (some .int)) (by decide) rfl ?_
  intro p e s m args below meth c s₁ B hml hv
  obtain ⟨rfl, hsz, hP, hK, hD0⟩ := hv
  have hx := B.exec
  have hb := B.bytes
  have hr := B.returns
  have hlocks := B.notSynchronized
  have hts := atoms_spec (ws := ws_ yX2_alone cX2_alone 4 (some .int)) B.pre
  have hts : ∀ w ∈ lw_all, w.before _ s = true := fun w h => hts w (List.mem_cons_of_mem _ h)
  have hown : s.vm.findClass RX2 = some m.cls := findClass_of_methodNamed B.named
  subst hsz
  have hD := hD0.self (sz := s.heap.size)
  generalize hAe : va_A (wM a d has wgt sen) s.heap.size = A at hD ⊢
  have hA : ∀ q : Nat, s.heap.size ≤ q → A q := fun q h => by rw [← hAe]; exact Or.inr h
  have hS : va_S A s.heap s.heap [] := va_S.rf
  have hl := lv_entry ([.ref (a 0), .int p0]) (n := 4) (Nat.le_of_ble_eq_true rfl)
  rw [lg_entry_eq]
  generalize (lg_sl ([.ref (a 0), .int p0]) ++ List.replicate (4 - (lg_sl ([.ref (a 0), .int p0])).length) Slot.unset).toArray = ls at hl ⊢
  have hl : lv_has ls 4 [(0, .ref (a 0)), (1, .int p0)] := hl
  refine lv_aload_n hx hb dX2_alone_0 rfl (lv_at hl 0 rfl) ?_
  refine lv_iload_n hx hb dX2_alone_1 rfl (lv_at hl 1 rfl) ?_
  refine cs_P (ci := 1) (As := [.int p0]) (rest := []) ⟨hx, hb, hml, hown, hts⟩ (mem_bad l a p0) (cwV 1 hts (lw_V q207 q209 qs11 q21 q210) rfl rfl rfl (by decide +kernel) ⟨Nat.le_of_ble_eq_true rfl, Nat.le_of_ble_eq_true rfl⟩) hK hP rfl rfl rfl hl.1 rfl (Nat.le_of_ble_eq_true rfl) dX2_alone_2 ⟨Nat.zero_le _, Nat.zero_le _⟩ (fun r hw => ?_)
  rcases hw with ⟨rfl, P, hP3, rfl⟩ | ⟨rfl, hbad⟩
  · refine lv_if_eq (tgt := 10) hx hb dX2_alone_5 (by decide) (fun _ => ?_) (fun c => absurd c (by decide))
    refine lv_iconst (v := nI 0) hx hb dX2_alone_10 (by decide) ?_
    refine lv_istore_n (lv' := [(2, .int (nI 0)), (0, .ref (a 0)), (1, .int (nI P))]) hx hb dX2_alone_11 rfl hl (by decide) rfl (fun ls hl => ?_)
    refine lv_iconst (v := nI 0) hx hb dX2_alone_12 (by decide) ?_
    refine lv_istore_n (lv' := [(3, .int (nI 0)), (2, .int (nI 0)), (0, .ref (a 0)), (1, .int (nI P))]) hx hb dX2_alone_13 rfl hl (by decide) rfl (fun ls hl => ?_)
    have loop : ∀ (q : Nat) (i : Nat), 64 < i + q → (i ≤ 64) → ∀ (H : Heap) (locs : List Loc), va_P D vwCl (wM a d has wgt sen) H → va_D A (wM a d has wgt sen) → va_S A s.heap H locs → ∀ (ls : Array Slot), lv_has ls 4 [(3, .int (nI i)), (2, .int (nI (fb_ct (an (S P) (hk S 1)) i))), (0, .ref (a 0)), (1, .int (nI P))] → W p l e (headSpec (ws_ yX2_alone cX2_alone 4 (some .int)) ({ frames := 1, cells := 0, slots := 0, locals := 40 } : Room)).room s m ([.ref (a 0), .int (nI P)] : List Value).toArray below meth c H locs 0 0 (MQ below (QMi D d A (wMu a d) (MPost (F_alone (S, w, sen) (nI P)))) ([.ref (a 0), .int (nI P)] : List Value).toArray s 0 0 A) (F0 m 14 ls []) := by
      intro q
      induction q with
      | zero =>
        intro i hq hi
        exact absurd hq (by omega)
      | succ q ih =>
        intro i hq hi H locs hP hD hS ls hl
        refine lv_iload_n hx hb dX2_alone_14 rfl (lv_at hl 0 rfl) ?_
        refine lv_bipush (v := nI 64) hx hb dX2_alone_15 (by decide) ?_
        refine xb_ge (tgt := 52) hx hb dX2_alone_17 (by decide) (by omega) (by omega) (fun c1 => ?_) (fun c1 => ?_)
        · have ei : i = 64 := by omega
          subst ei
          refine lv_iload_n hx hb dX2_alone_52 rfl (lv_at hl 1 rfl) ?_
          exact W.iret (v := nI (fb_ct (an (S P) (hk S 1)) 64)) hx hb hr (fun t_ ht_ hW_ => ⟨⟨_, (has, wgt, sen), rfl, MPost.mk (S, w, sen) (onN_ok hP3 (by decide) _ _) (hm) rfl, by rw [ht_]; exact hP, va_K.moved hW_.alike hK, hD⟩, hS.F ht_⟩) hS.2.2 dX2_alone_53
        · refine lv_aload_n hx hb dX2_alone_20 rfl (lv_at hl 2 rfl) ?_
          refine mg_has hx hb hts hown hK hP dX2_alone_21 ?_
          refine lv_bipush (v := nI 64) hx hb dX2_alone_24 (by decide) ?_
          refine lv_iload_n hx hb dX2_alone_26 rfl (lv_at hl 3 rfl) ?_
          refine lv_imul hx hb dX2_alone_27 ?_
          refine xr_set (y := nI (64 * P)) (pk_mul _ _) ?_
          refine lv_iload_n hx hb dX2_alone_28 rfl (lv_at hl 0 rfl) ?_
          refine lv_iadd hx hb dX2_alone_29 ?_
          refine xr_set (y := nI ((64 * P) + i)) (nI_add _ _) ?_
          refine ml_has hx hb hK hP (j := ((64 * P) + i)) (by omega) dX2_alone_30 ?_
          refine xr_set (y := bI (S P i)) (hm P hP3 i c1).1 ?_
          refine lv_if_eq (tgt := 46) hx hb dX2_alone_31 (by decide) (fun c2 => ?_) (fun c2 => ?_)
          · refine lv_iinc (v := nI (i + 1)) (lv' := [(3, .int (nI (i + 1))), (2, .int (nI (fb_ct (an (S P) (hk S 1)) i))), (0, .ref (a 0)), (1, .int (nI P))]) hx hb dX2_alone_46 hl (k := 0) rfl (nI_1 _) (by decide) rfl (fun ls hl => ?_)
            refine lv_goto (tgt := 14) hx hb dX2_alone_49 (by decide) ?_
            exact ih (i + 1) (by omega) (by omega) H locs hP hD hS ls (by rw [ct_n (an_n1 (bI_0.mp c2))]; exact (lv_sub hl [0, 1, 2, 3] rfl))
          · refine lv_aload_n hx hb dX2_alone_34 rfl (lv_at hl 2 rfl) ?_
            refine lv_iload_n hx hb dX2_alone_35 rfl (lv_at hl 0 rfl) ?_
            refine cs_R (ci := 1) (As := [.int (nI i)]) (rest := []) ⟨hx, hb, hml, hown, hts⟩ (mem_holders l D a d has wgt sen S w i c1 hm) (cwV 1 hts (lw_V q275 q277 qs18 q21 q278) rfl rfl rfl (by decide +kernel) ⟨Nat.le_of_ble_eq_true rfl, Nat.le_of_ble_eq_true rfl⟩) hK hP rfl rfl rfl hl.1 rfl (Nat.le_of_ble_eq_true rfl) dX2_alone_36 ⟨Nat.zero_le _, Nat.zero_le _⟩ (fun r hw => ?_)
            subst hw
            have hle := hold_le S i
            refine lv_iconst (v := nI 1) hx hb dX2_alone_39 (by decide) ?_
            refine xb_ne (tgt := 46) hx hb dX2_alone_40 (by decide) (by omega) (by omega) (fun c3 => ?_) (fun c3 => ?_)
            · refine lv_iinc (v := nI (i + 1)) (lv' := [(3, .int (nI (i + 1))), (2, .int (nI (fb_ct (an (S P) (hk S 1)) i))), (0, .ref (a 0)), (1, .int (nI P))]) hx hb dX2_alone_46 hl (k := 0) rfl (nI_1 _) (by decide) rfl (fun ls hl => ?_)
              refine lv_goto (tgt := 14) hx hb dX2_alone_49 (by decide) ?_
              exact ih (i + 1) (by omega) (by omega) H locs hP hD hS ls (by rw [ct_n (an_n2 (hk_n c3))]; exact (lv_sub hl [0, 1, 2, 3] rfl))
            · refine lv_iinc (v := nI ((fb_ct (an (S P) (hk S 1)) i) + 1)) (lv' := [(2, .int (nI ((fb_ct (an (S P) (hk S 1)) i) + 1))), (3, .int (nI i)), (0, .ref (a 0)), (1, .int (nI P))]) hx hb dX2_alone_43 hl (k := 1) rfl (nI_1 _) (by decide) rfl (fun ls hl => ?_)
              refine lv_iinc (v := nI (i + 1)) (lv' := [(3, .int (nI (i + 1))), (2, .int (nI ((fb_ct (an (S P) (hk S 1)) i) + 1))), (0, .ref (a 0)), (1, .int (nI P))]) hx hb dX2_alone_46 hl (k := 1) rfl (nI_1 _) (by decide) rfl (fun ls hl => ?_)
              refine lv_goto (tgt := 14) hx hb dX2_alone_49 (by decide) ?_
              exact ih (i + 1) (by omega) (by omega) H locs hP hD hS ls (by rw [ct_y (an_y (bI_n0.mp c2) (hk_y c3))]; exact (lv_sub hl [0, 1, 2, 3] rfl))
    exact loop 65 0 (by omega) (by omega) _ _ hP hD hS ls (lv_sub hl [0, 1, 2, 3] rfl)
  · refine lv_if_eq (tgt := 10) hx hb dX2_alone_5 (by decide) (fun c => absurd c (by decide)) (fun _ => ?_)
    refine lv_iconst (v := (-1)) hx hb dX2_alone_8 (by decide) ?_
    exact W.iret (v := (-1)) hx hb hr (fun t_ ht_ hW_ => ⟨⟨_, (has, wgt, sen), rfl, MPost.mk (S, w, sen) (onN_bad (by decide) hbad _ _) (hm) rfl, by rw [ht_]; exact hP, va_K.moved hW_.alike hK, hD⟩, hS.F ht_⟩) hS.2.2 dX2_alone_9
set_option maxHeartbeats 4000000 in
set_option maxRecDepth 100000 in
theorem mem_giveMany (l : Launch) (sz : Nat) (D : va_G) (a : Nat → Nat) (d : Nat → ClassId) (has wgt : Nat → Int32) (sen : Int32) (S : Nat → Nat → Bool) (w : Nat → Nat → Int32) (p0 : Int32) (p1 : Int32) (p2 : Int32) (hm : MI S w has wgt) : Met l yX2_giveMany (ws_ yX2_giveMany cX2_giveMany 8 (some .int)) ({ frames := 1, cells := 0, slots := 0, locals := 40 } : Room) (va_Pc [.ref (a 0), .int p0, .int p1, .int p2] (fun U => U.heap.size = sz ∧ va_P D vwCl (wM a d has wgt sen) U.heap ∧ va_K D vwCl (tyM d) U ∧ va_D (fun _ => True) (wM a d has wgt sen))) (QMi D d (va_A (wM a d has wgt sen) sz) (wMu a d) (MPost (F_giveMany (S, w, sen) p0 p1 p2))) 0 0 (va_A (wM a d has wgt sen) sz) := by
  refine Met.ofW (cc := cX2_giveMany) (maxL := 8) (ret := (some .int)) (by decide) rfl ?_
  intro p e s m args below meth c s₁ B hml hv
  obtain ⟨rfl, hsz, hP, hK, hD0⟩ := hv
  have hx := B.exec
  have hb := B.bytes
  have hr := B.returns
  have hlocks := B.notSynchronized
  have hts := atoms_spec (ws := ws_ yX2_giveMany cX2_giveMany 8 (some .int)) B.pre
  have hts : ∀ w ∈ lw_all, w.before _ s = true := fun w h => hts w (List.mem_cons_of_mem _ h)
  have hown : s.vm.findClass RX2 = some m.cls := findClass_of_methodNamed B.named
  subst hsz
  have hD := hD0.self (sz := s.heap.size)
  generalize hAe : va_A (wM a d has wgt sen) s.heap.size = A at hD ⊢
  have hA : ∀ q : Nat, s.heap.size ≤ q → A q := fun q h => by rw [← hAe]; exact Or.inr h
  have hS : va_S A s.heap s.heap [] := va_S.rf
  have hl := lv_entry ([.ref (a 0), .int p0, .int p1, .int p2]) (n := 8) (Nat.le_of_ble_eq_true rfl)
  rw [lg_entry_eq]
  generalize (lg_sl ([.ref (a 0), .int p0, .int p1, .int p2]) ++ List.replicate (8 - (lg_sl ([.ref (a 0), .int p0, .int p1, .int p2])).length) Slot.unset).toArray = ls at hl ⊢
  have hl : lv_has ls 8 [(0, .ref (a 0)), (1, .int p0), (2, .int p1), (3, .int p2)] := hl
  refine lv_aload_n hx hb dX2_giveMany_0 rfl (lv_at hl 0 rfl) ?_
  refine lv_iload_n hx hb dX2_giveMany_1 rfl (lv_at hl 1 rfl) ?_
  refine cs_P (ci := 1) (As := [.int p0]) (rest := []) ⟨hx, hb, hml, hown, hts⟩ (mem_bad l a p0) (cwV 1 hts (lw_V q207 q209 qs11 q21 q210) rfl rfl rfl (by decide +kernel) ⟨Nat.le_of_ble_eq_true rfl, Nat.le_of_ble_eq_true rfl⟩) hK hP rfl rfl rfl hl.1 rfl (Nat.le_of_ble_eq_true rfl) dX2_giveMany_2 ⟨Nat.zero_le _, Nat.zero_le _⟩ (fun r hw => ?_)
  rcases hw with ⟨rfl, P, hP3, rfl⟩ | ⟨rfl, hbad⟩
  · refine lv_if_eq (tgt := 10) hx hb dX2_giveMany_5 (by decide) (fun _ => ?_) (fun c => absurd c (by decide))
    refine lv_iload_n hx hb dX2_giveMany_10 rfl (lv_at hl 2 rfl) ?_
    refine lv_bipush (v := nI 64) hx hb dX2_giveMany_11 (by decide) ?_
    refine lv_icmp_lt (tgt := 23) hx hb dX2_giveMany_13 (by decide) (fun c1 => ?_) (fun c1 => ?_)
    · refine lv_bipush (v := (-2)) hx hb dX2_giveMany_23 (by decide) ?_
      exact W.iret (v := (-2)) hx hb hr (fun t_ ht_ hW_ => ⟨⟨_, (has, wgt, sen), rfl, MPost.mk (S, w, sen) ((onN_ok hP3 (by decide) _ _).trans (if_pos (Or.inl c1))) (hm) rfl, by rw [ht_]; exact hP, va_K.moved hW_.alike hK, hD⟩, hS.F ht_⟩) hS.2.2 dX2_giveMany_25
    · refine lv_iload_n hx hb dX2_giveMany_16 rfl (lv_at hl 2 rfl) ?_
      refine lv_sipush (v := nI 1087) hx hb dX2_giveMany_17 (by decide) ?_
      refine lv_icmp_le (tgt := 26) hx hb dX2_giveMany_20 (by decide) (fun c2 => ?_) (fun c2 => ?_)
      · refine lv_iload_n hx hb dX2_giveMany_26 rfl (lv_at hl 3 rfl) ?_
        refine lv_iconst (v := nI 1) hx hb dX2_giveMany_27 (by decide) ?_
        refine lv_icmp_lt (tgt := 37) hx hb dX2_giveMany_28 (by decide) (fun c3 => ?_) (fun c3 => ?_)
        · refine lv_bipush (v := (-3)) hx hb dX2_giveMany_37 (by decide) ?_
          exact W.iret (v := (-3)) hx hb hr (fun t_ ht_ hW_ => ⟨⟨_, (has, wgt, sen), rfl, MPost.mk (S, w, sen) ((onN_ok hP3 (by decide) _ _).trans ((if_neg (fun q => q.elim c1 (fun q2 => absurd c2 (fun q3 => by rw [i_lt] at q2; rw [i_le] at q3; omega)))).trans (if_pos (Or.inl c3)))) (hm) rfl, by rw [ht_]; exact hP, va_K.moved hW_.alike hK, hD⟩, hS.F ht_⟩) hS.2.2 dX2_giveMany_39
        · refine lv_iload_n hx hb dX2_giveMany_31 rfl (lv_at hl 3 rfl) ?_
          refine lv_bipush (v := nI 63) hx hb dX2_giveMany_32 (by decide) ?_
          refine lv_icmp_le (tgt := 40) hx hb dX2_giveMany_34 (by decide) (fun c4 => ?_) (fun c4 => ?_)
          · obtain ⟨N0, hN1, hN2, rfl⟩ := gm_in (by decide) (by decide) c1 c2
            obtain ⟨K0, hK1, hK2, rfl⟩ := gm_in (by decide) (by decide) c3 c4
            clear c1 c2 c3 c4
            have hF0 := gm_ok (S, w, sen) hP3 hN1 hN2 hK1 hK2
            refine lv_iload_n hx hb dX2_giveMany_40 rfl (lv_at hl 2 rfl) ?_
            refine lv_bipush (v := nI 64) hx hb dX2_giveMany_41 (by decide) ?_
            refine lv_idiv hx hb dX2_giveMany_43 (by decide) ?_
            refine xr_set (y := nI (N0 / 64)) (pk_div (by omega) (by decide) (by decide)) ?_
            refine lv_istore (lv' := [(4, .int (nI (N0 / 64))), (0, .ref (a 0)), (1, .int (nI P)), (2, .int (nI N0)), (3, .int (nI K0))]) hx hb dX2_giveMany_44 hl (by decide) rfl (fun ls hl => ?_)
            refine lv_iload_n hx hb dX2_giveMany_46 rfl (lv_at hl 3 rfl) ?_
            refine lv_bipush (v := nI 64) hx hb dX2_giveMany_47 (by decide) ?_
            refine lv_irem hx hb dX2_giveMany_49 (by decide) ?_
            refine xr_set (y := nI (N0 % 64)) (pk_rem (by omega) (by omega) (by omega)) ?_
            refine lv_istore (lv' := [(5, .int (nI (N0 % 64))), (4, .int (nI (N0 / 64))), (0, .ref (a 0)), (1, .int (nI P)), (2, .int (nI N0)), (3, .int (nI K0))]) hx hb dX2_giveMany_50 hl (by decide) rfl (fun ls hl => ?_)
            refine lv_iconst (v := nI 0) hx hb dX2_giveMany_52 (by decide) ?_
            refine lv_istore (lv' := [(6, .int (nI 0)), (5, .int (nI (N0 % 64))), (4, .int (nI (N0 / 64))), (0, .ref (a 0)), (1, .int (nI P)), (2, .int (nI N0)), (3, .int (nI K0))]) hx hb dX2_giveMany_53 hl (by decide) rfl (fun ls hl => ?_)
            refine lv_iconst (v := nI 0) hx hb dX2_giveMany_55 (by decide) ?_
            refine lv_istore (lv' := [(7, .int (nI 0)), (6, .int (nI 0)), (5, .int (nI (N0 % 64))), (4, .int (nI (N0 / 64))), (0, .ref (a 0)), (1, .int (nI P)), (2, .int (nI N0)), (3, .int (nI K0))]) hx hb dX2_giveMany_56 hl (by decide) rfl (fun ls hl => ?_)
            have loop2 : ∀ (q : Nat) (j : Nat) (f g : Nat → Int32), 64 < j + q → (j ≤ 64) → (fb_ct (S P) 64 + fb_ct (frs S P (N0 % 64) K0 (N0 / 64)) 64 ≤ 16) → (MI (gjS S (frs S P (N0 % 64) K0 (N0 / 64)) P j) (gjW w (frs S P (N0 % 64) K0 (N0 / 64)) P j) f g) → ∀ (H : Heap) (locs : List Loc), va_P D vwCl (wM a d f g sen) H → va_D A (wM a d f g sen) → va_S A s.heap H locs → ∀ (ls : Array Slot), lv_has ls 8 [(7, .int (nI j)), (5, .int (nI (N0 % 64))), (4, .int (nI (N0 / 64))), (0, .ref (a 0)), (1, .int (nI P)), (3, .int (nI K0))] → W p l e (headSpec (ws_ yX2_giveMany cX2_giveMany 8 (some .int)) ({ frames := 1, cells := 0, slots := 0, locals := 40 } : Room)).room s m ([.ref (a 0), .int (nI P), .int (nI N0), .int (nI K0)] : List Value).toArray below meth c H locs 0 0 (MQ below (QMi D d A (wMu a d) (MPost (F_giveMany (S, w, sen) (nI P) (nI N0) (nI K0)))) ([.ref (a 0), .int (nI P), .int (nI N0), .int (nI K0)] : List Value).toArray s 0 0 A) (F0 m 122 ls []) := by
              intro q
              induction q with
              | zero =>
                intro j f g hq hj h16a hJ
                exact absurd hq (by omega)
              | succ q ih =>
                intro j f g hq hj h16a hJ H locs hP hD hS ls hl
                refine lv_iload hx hb dX2_giveMany_122 (lv_at hl 0 rfl) ?_
                refine lv_bipush (v := nI 64) hx hb dX2_giveMany_124 (by decide) ?_
                refine xb_ge (tgt := 190) hx hb dX2_giveMany_126 (by decide) (by omega) (by omega) (fun c5 => ?_) (fun c5 => ?_)
                · have ej : j = 64 := by omega
                  subst ej
                  have hJ2 : MI (gmS S P (N0 % 64) K0 (N0 / 64)) (gmW S w P (N0 % 64) K0 (N0 / 64)) f g := MI_cong hJ (fun _ _ _ hi => gj_end hi) (fun _ _ _ hi _ => gj_endw hi)
                  refine lv_aload_n hx hb dX2_giveMany_190 rfl (lv_at hl 3 rfl) ?_
                  refine lv_iload_n hx hb dX2_giveMany_191 rfl (lv_at hl 4 rfl) ?_
                  refine cs_R (ci := 1) (As := [.int (nI P)]) (rest := []) ⟨hx, hb, hml, hown, hts⟩ (mem_size l D a d f g sen (gmS S P (N0 % 64) K0 (N0 / 64)) (gmW S w P (N0 % 64) K0 (N0 / 64)) P hP3 hJ2) (cwV 1 hts (lw_V q219 q221 qs13 q21 q222) rfl rfl rfl (by decide +kernel) ⟨Nat.le_of_ble_eq_true rfl, Nat.le_of_ble_eq_true rfl⟩) hK hP rfl rfl rfl hl.1 rfl (Nat.le_of_ble_eq_true rfl) dX2_giveMany_192 ⟨Nat.zero_le _, Nat.zero_le _⟩ (fun r hw => ?_)
                  subst hw
                  exact W.iret (v := nI (fb_ct ((gmS S P (N0 % 64) K0 (N0 / 64)) P) 64)) hx hb hr (fun t_ ht_ hW_ => ⟨⟨_, (f, g, sen), rfl, MPost.mk (gmS S P (N0 % 64) K0 (N0 / 64), gmW S w P (N0 % 64) K0 (N0 / 64), sen) (hF0.trans (if_neg (Nat.not_lt.mpr h16a))) (hJ2) rfl, by rw [ht_]; exact hP, va_K.moved hW_.alike hK, hD⟩, hS.F ht_⟩) hS.2.2 dX2_giveMany_195
                · refine lv_aload_n hx hb dX2_giveMany_129 rfl (lv_at hl 3 rfl) ?_
                  refine lv_iload hx hb dX2_giveMany_130 (lv_at hl 1 rfl) ?_
                  refine lv_iload hx hb dX2_giveMany_132 (lv_at hl 2 rfl) ?_
                  refine lv_iload_n hx hb dX2_giveMany_134 rfl (lv_at hl 5 rfl) ?_
                  refine lv_iload hx hb dX2_giveMany_135 (lv_at hl 0 rfl) ?_
                  refine cs_P (ci := 1) (As := [.int (nI (N0 % 64)), .int (nI (N0 / 64)), .int (nI K0), .int (nI j)]) (rest := []) ⟨hx, hb, hml, hown, hts⟩ (mem_among l a (N0 % 64) (N0 / 64) K0 j (Nat.mod_lt _ (by decide)) (by omega) hK2 c5) (cwV 4 hts (lw_V q227 q229 qs14 q21 q230) rfl rfl rfl (by decide +kernel) ⟨Nat.le_of_ble_eq_true rfl, Nat.le_of_ble_eq_true rfl⟩) hK hP rfl rfl rfl hl.1 rfl (Nat.le_of_ble_eq_true rfl) dX2_giveMany_137 ⟨Nat.zero_le _, Nat.zero_le _⟩ (fun r hw => ?_)
                  subst hw
                  refine lv_if_eq (tgt := 184) hx hb dX2_giveMany_140 (by decide) (fun c6 => ?_) (fun c6 => ?_)
                  · refine lv_iinc (v := nI (j + 1)) (lv' := [(7, .int (nI (j + 1))), (5, .int (nI (N0 % 64))), (4, .int (nI (N0 / 64))), (0, .ref (a 0)), (1, .int (nI P)), (3, .int (nI K0))]) hx hb dX2_giveMany_184 hl (k := 0) rfl (nI_1 _) (by decide) rfl (fun ls hl => ?_)
                    refine lv_goto (tgt := 122) hx hb dX2_giveMany_187 (by decide) ?_
                    exact ih (j + 1) f g (by omega) (by omega) h16a (MI_cong hJ (fun _ _ _ _ => gj_no (frs_n1 (bI_0.mp c6))) (fun _ _ _ _ _ => gj_now (frs_n1 (bI_0.mp c6)))) H locs hP hD hS ls (lv_sub hl [0, 1, 2, 3, 4, 5] rfl)
                  · have hfj : f (64 * P + j) = bI (S P j) := by
                      rw [(hJ P hP3 j c5).1, gjS_at, decide_eq_false (Nat.lt_irrefl j), Bool.false_and, Bool.or_false]
                    refine lv_aload_n hx hb dX2_giveMany_143 rfl (lv_at hl 3 rfl) ?_
                    refine mg_has hx hb hts hown hK hP dX2_giveMany_144 ?_
                    refine lv_bipush (v := nI 64) hx hb dX2_giveMany_147 (by decide) ?_
                    refine lv_iload_n hx hb dX2_giveMany_149 rfl (lv_at hl 4 rfl) ?_
                    refine lv_imul hx hb dX2_giveMany_150 ?_
                    refine xr_set (y := nI (64 * P)) (pk_mul _ _) ?_
                    refine lv_iload hx hb dX2_giveMany_151 (lv_at hl 0 rfl) ?_
                    refine lv_iadd hx hb dX2_giveMany_153 ?_
                    refine xr_set (y := nI ((64 * P) + j)) (nI_add _ _) ?_
                    refine ml_has hx hb hK hP (j := ((64 * P) + j)) (by omega) dX2_giveMany_154 ?_
                    refine xr_set (y := bI (S P j)) hfj ?_
                    refine lv_if_ne (tgt := 184) hx hb dX2_giveMany_155 (by decide) (fun c7 => ?_) (fun c7 => ?_)
                    · refine lv_iinc (v := nI (j + 1)) (lv' := [(7, .int (nI (j + 1))), (5, .int (nI (N0 % 64))), (4, .int (nI (N0 / 64))), (0, .ref (a 0)), (1, .int (nI P)), (3, .int (nI K0))]) hx hb dX2_giveMany_184 hl (k := 0) rfl (nI_1 _) (by decide) rfl (fun ls hl => ?_)
                      refine lv_goto (tgt := 122) hx hb dX2_giveMany_187 (by decide) ?_
                      exact ih (j + 1) f g (by omega) (by omega) h16a (MI_cong hJ (fun _ _ _ _ => gj_no (frs_n2 (bI_n0.mp c7))) (fun _ _ _ _ _ => gj_now (frs_n2 (bI_n0.mp c7)))) H locs hP hD hS ls (lv_sub hl [0, 1, 2, 3, 4, 5] rfl)
                    · refine lv_aload_n hx hb dX2_giveMany_158 rfl (lv_at hl 3 rfl) ?_
                      refine mg_has hx hb hts hown hK hP dX2_giveMany_159 ?_
                      refine lv_bipush (v := nI 64) hx hb dX2_giveMany_162 (by decide) ?_
                      refine lv_iload_n hx hb dX2_giveMany_164 rfl (lv_at hl 4 rfl) ?_
                      refine lv_imul hx hb dX2_giveMany_165 ?_
                      refine xr_set (y := nI (64 * P)) (pk_mul _ _) ?_
                      refine lv_iload hx hb dX2_giveMany_166 (lv_at hl 0 rfl) ?_
                      refine lv_iadd hx hb dX2_giveMany_168 ?_
                      refine xr_set (y := nI ((64 * P) + j)) (nI_add _ _) ?_
                      refine lv_iconst (v := nI 1) hx hb dX2_giveMany_169 (by decide) ?_
                      refine xr_set (y := bI true) rfl ?_
                      refine ms_has hx hb hK hP hD hS (j := ((64 * P) + j)) (b := true) (by omega) dX2_giveMany_170 (fun H locs hP hD hS => ?_)
                      refine lv_aload_n hx hb dX2_giveMany_171 rfl (lv_at hl 3 rfl) ?_
                      refine mg_wgt hx hb hts hown hK hP dX2_giveMany_172 ?_
                      refine lv_bipush (v := nI 64) hx hb dX2_giveMany_175 (by decide) ?_
                      refine lv_iload_n hx hb dX2_giveMany_177 rfl (lv_at hl 4 rfl) ?_
                      refine lv_imul hx hb dX2_giveMany_178 ?_
                      refine xr_set (y := nI (64 * P)) (pk_mul _ _) ?_
                      refine lv_iload hx hb dX2_giveMany_179 (lv_at hl 0 rfl) ?_
                      refine lv_iadd hx hb dX2_giveMany_181 ?_
                      refine xr_set (y := nI ((64 * P) + j)) (nI_add _ _) ?_
                      refine lv_iconst (v := nI 1) hx hb dX2_giveMany_182 (by decide) ?_
                      refine ms_wgt hx hb hK hP hD hS (j := ((64 * P) + j)) (by omega) dX2_giveMany_183 (fun H locs hP hD hS => ?_)
                      refine lv_iinc (v := nI (j + 1)) (lv' := [(7, .int (nI (j + 1))), (5, .int (nI (N0 % 64))), (4, .int (nI (N0 / 64))), (0, .ref (a 0)), (1, .int (nI P)), (3, .int (nI K0))]) hx hb dX2_giveMany_184 hl (k := 0) rfl (nI_1 _) (by decide) rfl (fun ls hl => ?_)
                      refine lv_goto (tgt := 122) hx hb dX2_giveMany_187 (by decide) ?_
                      exact ih (j + 1) _ _ (by omega) (by omega) h16a (MI_cong (MI_on (P := P) (nI 1) hJ c5) (fun _ _ _ _ => gj_yes (frs_y (bI_n0.mp c6) (bI_0.mp c7))) (fun _ _ _ _ _ => gj_yesw (frs_y (bI_n0.mp c6) (bI_0.mp c7)))) H locs hP hD hS ls (lv_sub hl [0, 1, 2, 3, 4, 5] rfl)
            have loop1 : ∀ (q : Nat) (i : Nat), 64 < i + q → (i ≤ 64) → ∀ (H : Heap) (locs : List Loc), va_P D vwCl (wM a d has wgt sen) H → va_D A (wM a d has wgt sen) → va_S A s.heap H locs → ∀ (ls : Array Slot), lv_has ls 8 [(7, .int (nI i)), (6, .int (nI (fb_ct (frs S P (N0 % 64) K0 (N0 / 64)) i))), (5, .int (nI (N0 % 64))), (4, .int (nI (N0 / 64))), (0, .ref (a 0)), (1, .int (nI P)), (3, .int (nI K0))] → W p l e (headSpec (ws_ yX2_giveMany cX2_giveMany 8 (some .int)) ({ frames := 1, cells := 0, slots := 0, locals := 40 } : Room)).room s m ([.ref (a 0), .int (nI P), .int (nI N0), .int (nI K0)] : List Value).toArray below meth c H locs 0 0 (MQ below (QMi D d A (wMu a d) (MPost (F_giveMany (S, w, sen) (nI P) (nI N0) (nI K0)))) ([.ref (a 0), .int (nI P), .int (nI N0), .int (nI K0)] : List Value).toArray s 0 0 A) (F0 m 58 ls []) := by
              intro q
              induction q with
              | zero =>
                intro i hq hi
                exact absurd hq (by omega)
              | succ q ih =>
                intro i hq hi H locs hP hD hS ls hl
                refine lv_iload hx hb dX2_giveMany_58 (lv_at hl 0 rfl) ?_
                refine lv_bipush (v := nI 64) hx hb dX2_giveMany_60 (by decide) ?_
                refine xb_ge (tgt := 103) hx hb dX2_giveMany_62 (by decide) (by omega) (by omega) (fun c5 => ?_) (fun c5 => ?_)
                · have ei : i = 64 := by omega
                  subst ei
                  have hle1 : fb_ct (S P) 64 ≤ 64 := fb_ct_le _ _
                  have hle2 : fb_ct (frs S P (N0 % 64) K0 (N0 / 64)) 64 ≤ 64 := fb_ct_le _ _
                  refine lv_aload_n hx hb dX2_giveMany_103 rfl (lv_at hl 4 rfl) ?_
                  refine lv_iload_n hx hb dX2_giveMany_104 rfl (lv_at hl 5 rfl) ?_
                  refine cs_R (ci := 1) (As := [.int (nI P)]) (rest := []) ⟨hx, hb, hml, hown, hts⟩ (mem_size l D a d has wgt sen S w P hP3 hm) (cwV 1 hts (lw_V q219 q221 qs13 q21 q222) rfl rfl rfl (by decide +kernel) ⟨Nat.le_of_ble_eq_true rfl, Nat.le_of_ble_eq_true rfl⟩) hK hP rfl rfl rfl hl.1 rfl (Nat.le_of_ble_eq_true rfl) dX2_giveMany_105 ⟨Nat.zero_le _, Nat.zero_le _⟩ (fun r hw => ?_)
                  subst hw
                  refine lv_iload hx hb dX2_giveMany_108 (lv_at hl 1 rfl) ?_
                  refine lv_iadd hx hb dX2_giveMany_110 ?_
                  refine xr_set (y := nI ((fb_ct (S P) 64) + (fb_ct (frs S P (N0 % 64) K0 (N0 / 64)) 64))) (nI_add _ _) ?_
                  refine lv_bipush (v := nI 16) hx hb dX2_giveMany_111 (by decide) ?_
                  refine xb_le (tgt := 119) hx hb dX2_giveMany_113 (by decide) (by omega) (by omega) (fun c6 => ?_) (fun c6 => ?_)
                  · refine lv_iconst (v := nI 0) hx hb dX2_giveMany_119 (by decide) ?_
                    refine lv_istore (lv' := [(7, .int (nI 0)), (6, .int (nI (fb_ct (frs S P (N0 % 64) K0 (N0 / 64)) 64))), (5, .int (nI (N0 % 64))), (4, .int (nI (N0 / 64))), (0, .ref (a 0)), (1, .int (nI P)), (3, .int (nI K0))]) hx hb dX2_giveMany_120 hl (by decide) rfl (fun ls hl => ?_)
                    exact loop2 65 0 has wgt (by omega) (by omega) c6 (MI_cong hm (fun _ _ _ _ => gj_0) (fun _ _ _ _ _ => gj_0w)) H locs hP hD hS ls (lv_sub hl [0, 2, 3, 4, 5, 6] rfl)
                  · refine lv_bipush (v := (-4)) hx hb dX2_giveMany_116 (by decide) ?_
                    exact W.iret (v := (-4)) hx hb hr (fun t_ ht_ hW_ => ⟨⟨_, (has, wgt, sen), rfl, MPost.mk (S, w, sen) (hF0.trans (if_pos c6)) (hm) rfl, by rw [ht_]; exact hP, va_K.moved hW_.alike hK, hD⟩, hS.F ht_⟩) hS.2.2 dX2_giveMany_118
                · refine lv_aload_n hx hb dX2_giveMany_65 rfl (lv_at hl 4 rfl) ?_
                  refine lv_iload hx hb dX2_giveMany_66 (lv_at hl 2 rfl) ?_
                  refine lv_iload hx hb dX2_giveMany_68 (lv_at hl 3 rfl) ?_
                  refine lv_iload_n hx hb dX2_giveMany_70 rfl (lv_at hl 6 rfl) ?_
                  refine lv_iload hx hb dX2_giveMany_71 (lv_at hl 0 rfl) ?_
                  refine cs_P (ci := 1) (As := [.int (nI (N0 % 64)), .int (nI (N0 / 64)), .int (nI K0), .int (nI i)]) (rest := []) ⟨hx, hb, hml, hown, hts⟩ (mem_among l a (N0 % 64) (N0 / 64) K0 i (Nat.mod_lt _ (by decide)) (by omega) hK2 c5) (cwV 4 hts (lw_V q227 q229 qs14 q21 q230) rfl rfl rfl (by decide +kernel) ⟨Nat.le_of_ble_eq_true rfl, Nat.le_of_ble_eq_true rfl⟩) hK hP rfl rfl rfl hl.1 rfl (Nat.le_of_ble_eq_true rfl) dX2_giveMany_73 ⟨Nat.zero_le _, Nat.zero_le _⟩ (fun r hw => ?_)
                  subst hw
                  refine lv_if_eq (tgt := 97) hx hb dX2_giveMany_76 (by decide) (fun c6 => ?_) (fun c6 => ?_)
                  · refine lv_iinc (v := nI (i + 1)) (lv' := [(7, .int (nI (i + 1))), (6, .int (nI (fb_ct (frs S P (N0 % 64) K0 (N0 / 64)) i))), (5, .int (nI (N0 % 64))), (4, .int (nI (N0 / 64))), (0, .ref (a 0)), (1, .int (nI P)), (3, .int (nI K0))]) hx hb dX2_giveMany_97 hl (k := 0) rfl (nI_1 _) (by decide) rfl (fun ls hl => ?_)
                    refine lv_goto (tgt := 58) hx hb dX2_giveMany_100 (by decide) ?_
                    exact ih (i + 1) (by omega) (by omega) H locs hP hD hS ls (by rw [ct_n (frs_n1 (S := S) (P := P) (bI_0.mp c6))]; exact (lv_sub hl [0, 1, 2, 3, 4, 5, 6] rfl))
                  · refine lv_aload_n hx hb dX2_giveMany_79 rfl (lv_at hl 4 rfl) ?_
                    refine mg_has hx hb hts hown hK hP dX2_giveMany_80 ?_
                    refine lv_bipush (v := nI 64) hx hb dX2_giveMany_83 (by decide) ?_
                    refine lv_iload_n hx hb dX2_giveMany_85 rfl (lv_at hl 5 rfl) ?_
                    refine lv_imul hx hb dX2_giveMany_86 ?_
                    refine xr_set (y := nI (64 * P)) (pk_mul _ _) ?_
                    refine lv_iload hx hb dX2_giveMany_87 (lv_at hl 0 rfl) ?_
                    refine lv_iadd hx hb dX2_giveMany_89 ?_
                    refine xr_set (y := nI ((64 * P) + i)) (nI_add _ _) ?_
                    refine ml_has hx hb hK hP (j := ((64 * P) + i)) (by omega) dX2_giveMany_90 ?_
                    refine xr_set (y := bI (S P i)) (hm P hP3 i c5).1 ?_
                    refine lv_if_ne (tgt := 97) hx hb dX2_giveMany_91 (by decide) (fun c7 => ?_) (fun c7 => ?_)
                    · refine lv_iinc (v := nI (i + 1)) (lv' := [(7, .int (nI (i + 1))), (6, .int (nI (fb_ct (frs S P (N0 % 64) K0 (N0 / 64)) i))), (5, .int (nI (N0 % 64))), (4, .int (nI (N0 / 64))), (0, .ref (a 0)), (1, .int (nI P)), (3, .int (nI K0))]) hx hb dX2_giveMany_97 hl (k := 0) rfl (nI_1 _) (by decide) rfl (fun ls hl => ?_)
                      refine lv_goto (tgt := 58) hx hb dX2_giveMany_100 (by decide) ?_
                      exact ih (i + 1) (by omega) (by omega) H locs hP hD hS ls (by rw [ct_n (frs_n2 (a := N0 % 64) (k := K0) (c := N0 / 64) (bI_n0.mp c7))]; exact (lv_sub hl [0, 1, 2, 3, 4, 5, 6] rfl))
                    · refine lv_iinc (v := nI ((fb_ct (frs S P (N0 % 64) K0 (N0 / 64)) i) + 1)) (lv' := [(6, .int (nI ((fb_ct (frs S P (N0 % 64) K0 (N0 / 64)) i) + 1))), (7, .int (nI i)), (5, .int (nI (N0 % 64))), (4, .int (nI (N0 / 64))), (0, .ref (a 0)), (1, .int (nI P)), (3, .int (nI K0))]) hx hb dX2_giveMany_94 hl (k := 1) rfl (nI_1 _) (by decide) rfl (fun ls hl => ?_)
                      refine lv_iinc (v := nI (i + 1)) (lv' := [(7, .int (nI (i + 1))), (6, .int (nI ((fb_ct (frs S P (N0 % 64) K0 (N0 / 64)) i) + 1))), (5, .int (nI (N0 % 64))), (4, .int (nI (N0 / 64))), (0, .ref (a 0)), (1, .int (nI P)), (3, .int (nI K0))]) hx hb dX2_giveMany_97 hl (k := 1) rfl (nI_1 _) (by decide) rfl (fun ls hl => ?_)
                      refine lv_goto (tgt := 58) hx hb dX2_giveMany_100 (by decide) ?_
                      exact ih (i + 1) (by omega) (by omega) H locs hP hD hS ls (by rw [ct_y (frs_y (bI_n0.mp c6) (bI_0.mp c7))]; exact (lv_sub hl [0, 1, 2, 3, 4, 5, 6] rfl))
            exact loop1 65 0 (by omega) (by omega) _ _ hP hD hS ls (lv_sub hl [0, 1, 2, 3, 4, 5, 7] rfl)
          · refine lv_bipush (v := (-3)) hx hb dX2_giveMany_37 (by decide) ?_
            exact W.iret (v := (-3)) hx hb hr (fun t_ ht_ hW_ => ⟨⟨_, (has, wgt, sen), rfl, MPost.mk (S, w, sen) ((onN_ok hP3 (by decide) _ _).trans ((if_neg (fun q => q.elim c1 (fun q2 => absurd c2 (fun q3 => by rw [i_lt] at q2; rw [i_le] at q3; omega)))).trans (if_pos (Or.inr (i_nle c4))))) (hm) rfl, by rw [ht_]; exact hP, va_K.moved hW_.alike hK, hD⟩, hS.F ht_⟩) hS.2.2 dX2_giveMany_39
      · refine lv_bipush (v := (-2)) hx hb dX2_giveMany_23 (by decide) ?_
        exact W.iret (v := (-2)) hx hb hr (fun t_ ht_ hW_ => ⟨⟨_, (has, wgt, sen), rfl, MPost.mk (S, w, sen) ((onN_ok hP3 (by decide) _ _).trans (if_pos (Or.inr (i_nle c2)))) (hm) rfl, by rw [ht_]; exact hP, va_K.moved hW_.alike hK, hD⟩, hS.F ht_⟩) hS.2.2 dX2_giveMany_25
  · refine lv_if_eq (tgt := 10) hx hb dX2_giveMany_5 (by decide) (fun c => absurd c (by decide)) (fun _ => ?_)
    refine lv_iconst (v := (-1)) hx hb dX2_giveMany_8 (by decide) ?_
    exact W.iret (v := (-1)) hx hb hr (fun t_ ht_ hW_ => ⟨⟨_, (has, wgt, sen), rfl, MPost.mk (S, w, sen) (onN_bad (by decide) hbad _ _) (hm) rfl, by rw [ht_]; exact hP, va_K.moved hW_.alike hK, hD⟩, hS.F ht_⟩) hS.2.2 dX2_giveMany_9
end
section
/-! THE CLAIM OUT OF ONE WALK OF THE LAW'S BODY. Your part is whole_start (and what it stands on); all else here is the same for every law, but numbers. -/
def R_law : String := "PrivateIntersectLaw"
def lw_P (b : Addr) (xs : List Int32) (args : Array Value) (s : State) : Prop := args = #[.ref b] ∧ s.IntsAt b xs ∧ xs.length ≤ 259 ∧ (Jvm.Cond.and given_1 narrow_1).before args s = true
def lw_Q (_ : Array Value) (s : State) (o : Outcome) (t : State) : Prop := o = .returned (some (.int 1)) ∧ Framed s o t [] 600000 7290000
def lw_Z (below : List Frame) (a : Array Value) (s : State) : State → Prop := fun t => ∃ o, t.status = .running ∧ Ended t below o ∧ lw_Q a s o t
/-- the law's own end, with 1 on the stack, nothing written that was there before, its room as the claim has it -/
theorem lw_ret {p : Program} {l : Launch} {e : Env} {s : State} {m : MethodId} {below : List Frame} {meth : Method} {c : Code} {b : Nat} (hx : p.tables.exec = Jvm.exec) (hb : c.code = code) (hr : meth.sig.returnType = ret) (hlocks : meth.locks = false) {pc : Nat} {H : Heap} {ls : Array Slot} (hdg : decode code pc = .ok (.ireturn, 1)) : W p l e room_1 s m #[Value.ref b] below meth c H [] 600000 7290000 (lw_Z below #[Value.ref b] s) (F0 m pc ls [.int 1]) := by
  intro T hT X
  obtain ⟨fs, hret, hrun, hended, hW, hframe⟩ := X.leave (v := some (.int 1)) (hlocks := hlocks) (fun h => by rw [hr] at h; cases h)
  have hmeth' : T.vm.method? m = some meth := X.method'
  refine ⟨T.setFrames fs, ?_, .returned (some (.int 1)), hrun, hended, rfl, ⟨_, rfl⟩, hW, hframe⟩
  jvm_step X.here [X.here.top, hx, hb, hdg, hmeth', hr, ret, narrow_b1]
  (try refine ⟨rfl, ?_⟩); (try refine ⟨rfl, ?_⟩)
  first | (intro acts; rw [hret _ acts rfl rfl rfl]) | rw [hret _ _ rfl rfl rfl]
  exact Steps.refl _
/-- what holds at the law's entry: the machine, the code, the tables' words (any of lw_tbl by 'hts w (by decide +kernel)'), the script of L ints xs at the cell b, what the Statement gives of the start (any of its parts by flat_of_before) -/
def lw_At (p : Program) (s : State) (m : MethodId) (meth : Method) (c : Code) (b L : Nat) (xs : Nat → Int32) : Prop :=
  p.tables.exec = Jvm.exec ∧ c.code = code ∧ meth.sig.returnType = ret ∧ c.maxLocals = 4 ∧ s.vm.findClass R_law = some m.cls ∧ (∀ w ∈ lw_tbl, w.before #[Value.ref b] s = true) ∧ va_X b L xs s s.heap ∧ b < s.heap.size ∧ meth.locks = false ∧ (Jvm.Cond.and given_1 narrow_1).before #[Value.ref b] s = true
end
section
section LAWROWS
variable {p : Program} {l : Launch} {e : Env} {R : Room} {s : State} {m : MethodId} {args : Array Value} {below : List Frame} {meth : Method} {c : Code} {H : Heap} {locs : List Loc} {cells slots : Nat} {Q : State → Prop}
variable {cc : ByteArray} {pc : Nat} {ls : Array Slot} {rest : List Value} {D : va_G} {A : Nat → Prop} {H0 : Heap}
theorem xsl (hexec : p.tables.exec = Jvm.exec) (hb : c.code = cc) {b L : Nat} {xs : Nat → Int32} (hX : va_X b L xs s H0) (hbl : b < H0.size) (hbA : ¬ A b) (hS : va_S A H0 H locs) {j : Nat} (hj : j < L) (hL : L < 2 ^ 31) (hdg : decode cc pc = .ok (.iaload, 1)) (kk : W p l e R s m args below meth c H locs cells slots Q (F0 m (pc + 1) ls (.int (xs j) :: rest))) : W p l e R s m args below meth c H locs cells slots Q (F0 m pc ls (.int (nI j) :: .ref b :: rest)) :=
  va_sld hexec hb hX hbl hbA hS (vp_in_nI hj hL) hdg (by rw [nI_clamp (Nat.lt_trans hj hL)]; exact kk)
theorem cs_X {y : MethodName} {bytes : ByteArray} {maxL nL n index : Nat} {ret : Option FieldType} {ws : List Cond} {rm : Room} {Ts : List Cond} {own : String} {As st0 : List Value} {post : Int32 → Prop} {b L : Nat} {xs : Nat → Int32} (S : CallFix p m c cc nL s args Ts own) (hM : Met l y ws rm (va_Pc As (fun U => va_X b L xs U U.heap)) (vp_Si post) 0 0 (fun _ => False)) (cw : CallB R s args own index y bytes maxL ret ws rm 0 0 n ∧ (Cond.static y).before args s = true)
    (hX : va_X b L xs s H) (hn : As.length = n) (hsize : ls.size = nL) (hstack : st0 = As.reverse ++ rest) (hW : (rest.map fun v => v.category).sum ≤ 8) (hdg : decode cc pc = .ok (.invokestatic index, 3)) (hf : cells ≤ R.cells ∧ slots ≤ R.slots) (kk : ∀ r : Int32, post r → W p l e R s m args below meth c H locs cells slots Q (F0 m (pc + 3) ls (.int r :: rest))) : W p l e R s m args below meth c H locs cells slots Q (F0 m pc ls st0) :=
  vp_callSi (W.runS (g := F0 m pc ls st0) S hM cw ⟨fun a U g mk q => ⟨q.1, va_X.moved (u := U) (U := U.calling g mk a) (Vm.Alike.refl U.vm) q.2⟩, fun U hU hW => ⟨rfl, by show va_X b L xs U U.heap; rw [hU]; exact va_X.moved hW.alike hX⟩⟩ rfl hn hsize hstack (lv_room hW) hdg hf) kk
end LAWROWS
theorem law_keep {D : va_G} {w wr : va_W} {H H1 : Heap} (hP : va_P D vwCl wr H) (hap : ∀ (i j : Nat) (p q : Nat × va_E), w[i]? = some p → wr[j]? = some q → p.1 ≠ q.1) (hk : ∀ q : Nat, q < H.size → ¬ va_A w H.size q → H1[q]? = H[q]?) : va_P D vwCl wr H1 := hP.kept fun k q hq => hk q.1 (hP k q hq).lt (by
  rintro (⟨i, e, h⟩ | h)
  · exact hap i k _ q h hq rfl
  · exact absurd (hP k q hq).lt (Nat.not_lt.mpr h))
theorem lw_cmp {L i : Nat} (hL : L ≤ 259) (hi : i ≤ 263) (h : ¬ nI L - nI 4 < nI i) : i + 4 ≤ L := by
  rw [i_lt, pk_sub_toInt (by omega) (by decide), nI_toInt (by omega)] at h
  omega
set_option maxHeartbeats 4000000 in
set_option maxRecDepth 100000 in
theorem met_cell (l : Launch) (b L : Nat) (xs : Nat → Int32) (k : Nat) (hk : k < 3) (hL : L ≤ 259) : Met l yX0_cell (ws_ yX0_cell cX0_cell 2 (some .int)) ({ frames := 0, cells := 0, slots := 0, locals := 0 } : Room) (va_Pc [.ref b, .int (nI k)] (fun U => va_X b L xs U U.heap)) (vp_Si (fun r => r = if k < L then xs k else 0)) 0 0 (fun _ => False) := by
  refine Met.ofW (cc := cX0_cell) (maxL := 2) (ret := (some .int)) (by decide) rfl ?_
  intro p e s m args below meth c s₁ B hml hv
  obtain ⟨rfl, hX⟩ := hv
  have hx := B.exec
  have hb := B.bytes
  have hr := B.returns
  have hlocks := B.notSynchronized
  have hbl : b < s.heap.size := by
    obtain ⟨scr, h1, -⟩ := hX
    exact (Array.getElem?_eq_some_iff.mp h1).1
  have hS : va_S (fun _ => False) s.heap s.heap [] := va_S.rf
  have hl := lv_entry ([.ref b, .int (nI k)]) (n := 2) (Nat.le_of_ble_eq_true rfl)
  rw [lg_entry_eq]
  generalize (lg_sl ([.ref b, .int (nI k)]) ++ List.replicate (2 - (lg_sl ([.ref b, .int (nI k)])).length) Slot.unset).toArray = ls at hl ⊢
  have hl : lv_has ls 2 [(0, .ref b), (1, .int (nI k))] := hl
  refine lv_iload_n hx hb dX0_cell_0 rfl (lv_at hl 1 rfl) ?_
  refine lv_aload_n hx hb dX0_cell_1 rfl (lv_at hl 0 rfl) ?_
  refine va_slen hx hb hX hbl (fun h => h) hS dX0_cell_2 ?_
  refine xr_set (y := nI L) rfl ?_
  refine xb_ge (tgt := 12) hx hb dX0_cell_3 (by decide) (by omega) (by omega) (fun c1 => ?_) (fun c1 => ?_)
  · refine lv_iconst (v := nI 0) hx hb dX0_cell_12 (by decide) ?_
    exact W.iret (v := nI 0) hx hb hr (fun t_ ht_ hW_ => ⟨_, rfl, (if_neg (by omega)).symm, ht_⟩) (fun _ h => absurd h List.not_mem_nil) dX0_cell_13
  · refine lv_aload_n hx hb dX0_cell_6 rfl (lv_at hl 0 rfl) ?_
    refine lv_iload_n hx hb dX0_cell_7 rfl (lv_at hl 1 rfl) ?_
    refine xsl hx hb hX hbl (fun h => h) hS (j := k) (by omega) (by omega) dX0_cell_8 ?_
    refine lv_goto (tgt := 13) hx hb dX0_cell_9 (by decide) ?_
    exact W.iret (v := xs k) hx hb hr (fun t_ ht_ hW_ => ⟨_, rfl, (if_pos c1).symm, ht_⟩) (fun _ h => absurd h List.not_mem_nil) dX0_cell_13
set_option maxHeartbeats 4000000 in
set_option maxRecDepth 100000 in
/-- the law's loop at its head: both sides hold the same sets -/
theorem law_loop {p : Program} {e : Env} {s : State} {m : MethodId} {below : List Frame} {meth : Method} {c : Code} (l : Launch) (hx : p.tables.exec = Jvm.exec) (hb : c.code = code) (hr : meth.sig.returnType = ret) (hlocks : meth.locks = false) (hml : c.maxLocals = 4) {b L : Nat} {xs : Nat → Int32} (hown : s.vm.findClass R_law = some m.cls) (hts : ∀ w ∈ lw_all, w.before #[Value.ref b] s = true) (hL : L ≤ 259) (hX : va_X b L xs s s.heap) (hbl : b < s.heap.size) {A : Nat → Prop} (hbA : ¬ A b) (hA : ∀ q : Nat, s.heap.size ≤ q → A q) (hAf : ∀ q : Nat, A q → s.heap.size ≤ q) {D : va_G} {a a2 : Nat → Nat} {d d2 : Nat → ClassId} (hKx : va_K D vwCl (tyX d) s) (hKm : va_K D vwCl (tyM d2) s) (hap : ∀ (u : XS) (v : MS) (i j : Nat) (p q : Nat × va_E), (wXu a d u)[i]? = some p → (wMu a2 d2 v)[j]? = some q → p.1 ≠ q.1) :
    ∀ (q i : Nat) (S : Nat → Nat → Bool) (w : Nat → Nat → Int32) (its wts szs exs snt org hit : Nat → Int32) (rnd lt : Int32) (has wgt : Nat → Int32), 263 < i + q → i ≤ 263 → XI S w its wts szs → EI exs → MI S w has wgt → ∀ (H : Heap) (locs : List Loc), va_P D vwCl (wX a d its wts szs exs snt org hit rnd lt) H → va_D A (wX a d its wts szs exs snt org hit rnd lt) → va_P D vwCl (wM a2 d2 has wgt lt) H → va_D A (wM a2 d2 has wgt lt) → va_S A s.heap H locs → ∀ (ls : Array Slot), lv_has ls 4 [(3, .int (nI i)), (0, .ref b), (1, .ref (a 0)), (2, .ref (a2 0))] → W p l e room_1 s m #[Value.ref b] below meth c H locs 11 610 (lw_Z below #[Value.ref b] s) (F0 m 48 ls []) := by
  intro q
  induction q with
  | zero =>
    intro i S w its wts szs exs snt org hit rnd lt has wgt hq hi
    exact absurd hq (by omega)
  | succ q ih =>
    intro i S w its wts szs exs snt org hit rnd lt has wgt hq hi263 hi he hm H locs hPx hDx hPm hDm hS ls hl
    refine lv_iload_n hx hb dL_law_48 rfl (lv_at hl 0 rfl) ?_
    refine lv_aload_n hx hb dL_law_49 rfl (lv_at hl 1 rfl) ?_
    refine va_slen hx hb hX hbl hbA hS dL_law_50 ?_
    refine xr_set (y := nI L) rfl ?_
    refine lv_iconst (v := nI 4) hx hb dL_law_51 (by decide) ?_
    refine lv_isub hx hb dL_law_52 ?_
    refine lv_icmp_gt (tgt := 631) hx hb dL_law_53 (by decide) (fun c1 => ?_) (fun c1 => ?_)
    · refine lv_iconst (v := 1) hx hb dL_law_631 (by decide) ?_
      refine va_forget (fun q hq => hAf _ (hS.2.2 q hq)) ?_
      refine W.widen (k := 600000) (n := 7290000) (Nat.le_of_ble_eq_true rfl) (Nat.le_of_ble_eq_true rfl) ?_
      exact lw_ret hx hb hr hlocks dL_law_632
    · have hi4 : i + 4 ≤ L := lw_cmp hL hi263 c1
      have next : ∀ (A1 : AS) (u1 : XS) (v1 : MS), XV A1 u1 → MV A1 v1 → ∀ (H : Heap) (locs : List Loc), va_P D vwCl (wXu a d u1) H → va_D A (wXu a d u1) → va_P D vwCl (wMu a2 d2 v1) H → va_D A (wMu a2 d2 v1) → va_S A s.heap H locs → W p l e room_1 s m #[Value.ref b] below meth c H locs 11 610 (lw_Z below #[Value.ref b] s) (F0 m 625 ls []) := by
        intro A1 u1 v1 hX1 hM1 H locs hPx hDx hPm hDm hS
        obtain ⟨i1, w1, s1, e1, n1, o1, t1, r1, l1⟩ := u1
        obtain ⟨h1, g1, m1⟩ := v1
        obtain ⟨S1, w2, t2⟩ := A1
        obtain ⟨x1, x2, x3⟩ := hX1
        obtain ⟨y1, y2⟩ := hM1
        replace x3 : t2 = l1 := x3.symm
        replace y2 : t2 = m1 := y2.symm
        subst x3
        subst y2
        refine lv_iinc (v := nI (i + 4)) (lv' := [(3, .int (nI (i + 4))), (0, .ref b), (1, .ref (a 0)), (2, .ref (a2 0))]) hx hb dL_law_625 hl (k := 0) rfl (nI_add _ 4) (by decide) rfl (fun ls hl => ?_)
        refine lv_goto (tgt := 48) hx hb dL_law_628 (by decide) ?_
        exact ih (i + 4) S1 w2 i1 w1 s1 e1 n1 o1 t1 r1 t2 h1 g1 (by omega) (by omega) x1 x2 y1 H locs hPx hDx hPm hDm hS ls (lv_sub hl [0, 1, 2, 3] rfl)
      refine lv_aload_n hx hb dL_law_56 rfl (lv_at hl 1 rfl) ?_
      refine lv_iload_n hx hb dL_law_57 rfl (lv_at hl 0 rfl) ?_
      refine xsl hx hb hX hbl hbA hS (j := i) (by omega) (by omega) dL_law_58 ?_
      refine lv_bipush (v := nI 31) hx hb dL_law_59 (by decide) ?_
      refine lv_iand hx hb dL_law_61 ?_
      obtain ⟨j, hj, ej⟩ := pk_andE (xs i) (m := nI 31) 5 (by decide)
      refine xr_set (y := nI j) ej ?_
      rcases (show j = 0 ∨ j = 1 ∨ j = 2 ∨ j = 3 ∨ j = 4 ∨ j = 5 ∨ j = 6 ∨ j = 7 ∨ j = 8 ∨ j = 9 ∨ j = 10 ∨ j = 11 ∨ j = 12 ∨ j = 13 ∨ j = 14 ∨ j = 15 ∨ j = 16 ∨ 16 < j by omega) with ej | ej | ej | ej | ej | ej | ej | ej | ej | ej | ej | ej | ej | ej | ej | ej | ej | ej
      · subst ej
        refine lv_tableIn (tgt := 144) (off := 82) hx hb dL_law_62 (by decide) (by decide) rfl (by decide) ?_
        refine lv_aload_n hx hb dL_law_144 rfl (lv_at hl 2 rfl) ?_
        refine lv_aload_n hx hb dL_law_145 rfl (lv_at hl 1 rfl) ?_
        refine lv_iload_n hx hb dL_law_146 rfl (lv_at hl 0 rfl) ?_
        refine lv_iconst (v := nI 1) hx hb dL_law_147 (by decide) ?_
        refine lv_iadd hx hb dL_law_148 ?_
        refine xr_set (y := nI (i + 1)) (nI_add _ _) ?_
        refine xsl hx hb hX hbl hbA hS (j := (i + 1)) (by omega) (by omega) dL_law_149 ?_
        refine lv_aload_n hx hb dL_law_150 rfl (lv_at hl 1 rfl) ?_
        refine lv_iload_n hx hb dL_law_151 rfl (lv_at hl 0 rfl) ?_
        refine lv_iconst (v := nI 2) hx hb dL_law_152 (by decide) ?_
        refine lv_iadd hx hb dL_law_153 ?_
        refine xr_set (y := nI (i + 2)) (nI_add _ _) ?_
        refine xsl hx hb hX hbl hbA hS (j := (i + 2)) (by omega) (by omega) dL_law_154 ?_
        refine cs_Wi (ci := 0) (As := [.int (xs (i + 1)), .int (xs (i + 2))]) (rest := []) ⟨hx, hb, hml, hown, hts⟩ (met_secret l H.size D a d its wts szs exs snt org hit rnd lt S w (xs (i + 1)) (xs (i + 2)) hi he) (cwV 2 hts (lw_V q67 q31 q32 q20 q33) rfl rfl rfl (by decide +kernel) ⟨Nat.le_of_ble_eq_true rfl, Nat.le_of_ble_eq_true rfl⟩) hKx hPx hDx hS hA rfl rfl rfl hl.1 rfl (Nat.le_of_ble_eq_true rfl) dL_law_155 ⟨Nat.le_of_ble_eq_true rfl, Nat.le_of_ble_eq_true rfl⟩ (fun r1 u1 H1 locs1 hw1 hPx1 hDx1 hS hk => ?_)
        have hPm := law_keep hPm (hap (its, wts, szs, exs, snt, org, hit, rnd, lt) (has, wgt, lt)) hk
        clear hk
        obtain ⟨H, eH⟩ : ∃ H2, H2 = H1 := ⟨_, rfl⟩
        rw [← eH] at hPx1 hS hPm ⊢
        refine lv_aload_n hx hb dL_law_158 rfl (lv_at hl 3 rfl) ?_
        refine lv_aload_n hx hb dL_law_159 rfl (lv_at hl 1 rfl) ?_
        refine lv_iload_n hx hb dL_law_160 rfl (lv_at hl 0 rfl) ?_
        refine lv_iconst (v := nI 1) hx hb dL_law_161 (by decide) ?_
        refine lv_iadd hx hb dL_law_162 ?_
        refine xr_set (y := nI (i + 1)) (nI_add _ _) ?_
        refine xsl hx hb hX hbl hbA hS (j := (i + 1)) (by omega) (by omega) dL_law_163 ?_
        refine lv_aload_n hx hb dL_law_164 rfl (lv_at hl 1 rfl) ?_
        refine lv_iload_n hx hb dL_law_165 rfl (lv_at hl 0 rfl) ?_
        refine lv_iconst (v := nI 2) hx hb dL_law_166 (by decide) ?_
        refine lv_iadd hx hb dL_law_167 ?_
        refine xr_set (y := nI (i + 2)) (nI_add _ _) ?_
        refine xsl hx hb hX hbl hbA hS (j := (i + 2)) (by omega) (by omega) dL_law_168 ?_
        refine cs_Wi (ci := 1) (As := [.int (xs (i + 1)), .int (xs (i + 2))]) (rest := [.int r1]) ⟨hx, hb, hml, hown, hts⟩ (mem_secret l H.size D a2 d2 has wgt lt S w (xs (i + 1)) (xs (i + 2)) hm) (cwV 2 hts (lw_V q203 q204 q205 q21 q206) rfl rfl rfl (by decide +kernel) ⟨Nat.le_of_ble_eq_true rfl, Nat.le_of_ble_eq_true rfl⟩) hKm hPm hDm hS hA rfl rfl rfl hl.1 rfl (Nat.le_of_ble_eq_true rfl) dL_law_169 ⟨Nat.le_of_ble_eq_true rfl, Nat.le_of_ble_eq_true rfl⟩ (fun r2 v1 H1 locs1 hw2 hPm1 hDm1 hS hk => ?_)
        have hPx2 := law_keep hPx1 (fun i j p q h1 h2 => (hap u1 (has, wgt, lt) j i q p h2 h1).symm) hk
        obtain ⟨A1, e1, hX1⟩ := hw1
        obtain ⟨A2, e2, hM2⟩ := hw2
        obtain ⟨rfl, rfl⟩ := Prod.mk.inj (e1.symm.trans e2)
        refine lv_icmp_eq (tgt := 625) hx hb dL_law_172 (by decide) (fun _ => ?_) (fun c => absurd rfl c)
        exact next A1 u1 v1 hX1 hM2 _ _ hPx2 hDx1 hPm1 hDm1 hS
      · subst ej
        refine lv_tableIn (tgt := 177) (off := 115) hx hb dL_law_62 (by decide) (by decide) rfl (by decide) ?_
        refine lv_aload_n hx hb dL_law_177 rfl (lv_at hl 2 rfl) ?_
        refine lv_aload_n hx hb dL_law_178 rfl (lv_at hl 1 rfl) ?_
        refine lv_iload_n hx hb dL_law_179 rfl (lv_at hl 0 rfl) ?_
        refine lv_iconst (v := nI 1) hx hb dL_law_180 (by decide) ?_
        refine lv_iadd hx hb dL_law_181 ?_
        refine xr_set (y := nI (i + 1)) (nI_add _ _) ?_
        refine xsl hx hb hX hbl hbA hS (j := (i + 1)) (by omega) (by omega) dL_law_182 ?_
        refine lv_aload_n hx hb dL_law_183 rfl (lv_at hl 1 rfl) ?_
        refine lv_iload_n hx hb dL_law_184 rfl (lv_at hl 0 rfl) ?_
        refine lv_iconst (v := nI 2) hx hb dL_law_185 (by decide) ?_
        refine lv_iadd hx hb dL_law_186 ?_
        refine xr_set (y := nI (i + 2)) (nI_add _ _) ?_
        refine xsl hx hb hX hbl hbA hS (j := (i + 2)) (by omega) (by omega) dL_law_187 ?_
        refine lv_aload_n hx hb dL_law_188 rfl (lv_at hl 1 rfl) ?_
        refine lv_iload_n hx hb dL_law_189 rfl (lv_at hl 0 rfl) ?_
        refine lv_iconst (v := nI 3) hx hb dL_law_190 (by decide) ?_
        refine lv_iadd hx hb dL_law_191 ?_
        refine xr_set (y := nI (i + 3)) (nI_add _ _) ?_
        refine xsl hx hb hX hbl hbA hS (j := (i + 3)) (by omega) (by omega) dL_law_192 ?_
        refine cs_Wi (ci := 0) (As := [.int (xs (i + 1)), .int (xs (i + 2)), .int (xs (i + 3))]) (rest := []) ⟨hx, hb, hml, hown, hts⟩ (met_give l H.size D a d its wts szs exs snt org hit rnd lt S w (xs (i + 1)) (xs (i + 2)) (xs (i + 3)) hi he) (cwV 3 hts (lw_V q68 q69 q70 q20 q71) rfl rfl rfl (by decide +kernel) ⟨Nat.le_of_ble_eq_true rfl, Nat.le_of_ble_eq_true rfl⟩) hKx hPx hDx hS hA rfl rfl rfl hl.1 rfl (Nat.le_of_ble_eq_true rfl) dL_law_193 ⟨Nat.le_of_ble_eq_true rfl, Nat.le_of_ble_eq_true rfl⟩ (fun r1 u1 H1 locs1 hw1 hPx1 hDx1 hS hk => ?_)
        have hPm := law_keep hPm (hap (its, wts, szs, exs, snt, org, hit, rnd, lt) (has, wgt, lt)) hk
        clear hk
        obtain ⟨H, eH⟩ : ∃ H2, H2 = H1 := ⟨_, rfl⟩
        rw [← eH] at hPx1 hS hPm ⊢
        refine lv_aload_n hx hb dL_law_196 rfl (lv_at hl 3 rfl) ?_
        refine lv_aload_n hx hb dL_law_197 rfl (lv_at hl 1 rfl) ?_
        refine lv_iload_n hx hb dL_law_198 rfl (lv_at hl 0 rfl) ?_
        refine lv_iconst (v := nI 1) hx hb dL_law_199 (by decide) ?_
        refine lv_iadd hx hb dL_law_200 ?_
        refine xr_set (y := nI (i + 1)) (nI_add _ _) ?_
        refine xsl hx hb hX hbl hbA hS (j := (i + 1)) (by omega) (by omega) dL_law_201 ?_
        refine lv_aload_n hx hb dL_law_202 rfl (lv_at hl 1 rfl) ?_
        refine lv_iload_n hx hb dL_law_203 rfl (lv_at hl 0 rfl) ?_
        refine lv_iconst (v := nI 2) hx hb dL_law_204 (by decide) ?_
        refine lv_iadd hx hb dL_law_205 ?_
        refine xr_set (y := nI (i + 2)) (nI_add _ _) ?_
        refine xsl hx hb hX hbl hbA hS (j := (i + 2)) (by omega) (by omega) dL_law_206 ?_
        refine lv_aload_n hx hb dL_law_207 rfl (lv_at hl 1 rfl) ?_
        refine lv_iload_n hx hb dL_law_208 rfl (lv_at hl 0 rfl) ?_
        refine lv_iconst (v := nI 3) hx hb dL_law_209 (by decide) ?_
        refine lv_iadd hx hb dL_law_210 ?_
        refine xr_set (y := nI (i + 3)) (nI_add _ _) ?_
        refine xsl hx hb hX hbl hbA hS (j := (i + 3)) (by omega) (by omega) dL_law_211 ?_
        refine cs_Wi (ci := 1) (As := [.int (xs (i + 1)), .int (xs (i + 2)), .int (xs (i + 3))]) (rest := [.int r1]) ⟨hx, hb, hml, hown, hts⟩ (mem_give l H.size D a2 d2 has wgt lt S w (xs (i + 1)) (xs (i + 2)) (xs (i + 3)) hm) (cwV 3 hts (lw_V q211 q212 q213 q21 q214) rfl rfl rfl (by decide +kernel) ⟨Nat.le_of_ble_eq_true rfl, Nat.le_of_ble_eq_true rfl⟩) hKm hPm hDm hS hA rfl rfl rfl hl.1 rfl (Nat.le_of_ble_eq_true rfl) dL_law_212 ⟨Nat.le_of_ble_eq_true rfl, Nat.le_of_ble_eq_true rfl⟩ (fun r2 v1 H1 locs1 hw2 hPm1 hDm1 hS hk => ?_)
        have hPx2 := law_keep hPx1 (fun i j p q h1 h2 => (hap u1 (has, wgt, lt) j i q p h2 h1).symm) hk
        obtain ⟨A1, e1, hX1⟩ := hw1
        obtain ⟨A2, e2, hM2⟩ := hw2
        obtain ⟨rfl, rfl⟩ := Prod.mk.inj (e1.symm.trans e2)
        refine lv_icmp_eq (tgt := 625) hx hb dL_law_215 (by decide) (fun _ => ?_) (fun c => absurd rfl c)
        exact next A1 u1 v1 hX1 hM2 _ _ hPx2 hDx1 hPm1 hDm1 hS
      · subst ej
        refine lv_tableIn (tgt := 220) (off := 158) hx hb dL_law_62 (by decide) (by decide) rfl (by decide) ?_
        refine lv_aload_n hx hb dL_law_220 rfl (lv_at hl 2 rfl) ?_
        refine lv_aload_n hx hb dL_law_221 rfl (lv_at hl 1 rfl) ?_
        refine lv_iload_n hx hb dL_law_222 rfl (lv_at hl 0 rfl) ?_
        refine lv_iconst (v := nI 1) hx hb dL_law_223 (by decide) ?_
        refine lv_iadd hx hb dL_law_224 ?_
        refine xr_set (y := nI (i + 1)) (nI_add _ _) ?_
        refine xsl hx hb hX hbl hbA hS (j := (i + 1)) (by omega) (by omega) dL_law_225 ?_
        refine lv_aload_n hx hb dL_law_226 rfl (lv_at hl 1 rfl) ?_
        refine lv_iload_n hx hb dL_law_227 rfl (lv_at hl 0 rfl) ?_
        refine lv_iconst (v := nI 2) hx hb dL_law_228 (by decide) ?_
        refine lv_iadd hx hb dL_law_229 ?_
        refine xr_set (y := nI (i + 2)) (nI_add _ _) ?_
        refine xsl hx hb hX hbl hbA hS (j := (i + 2)) (by omega) (by omega) dL_law_230 ?_
        refine lv_aload_n hx hb dL_law_231 rfl (lv_at hl 1 rfl) ?_
        refine lv_iload_n hx hb dL_law_232 rfl (lv_at hl 0 rfl) ?_
        refine lv_iconst (v := nI 3) hx hb dL_law_233 (by decide) ?_
        refine lv_iadd hx hb dL_law_234 ?_
        refine xr_set (y := nI (i + 3)) (nI_add _ _) ?_
        refine xsl hx hb hX hbl hbA hS (j := (i + 3)) (by omega) (by omega) dL_law_235 ?_
        refine cs_Wi (ci := 0) (As := [.int (xs (i + 1)), .int (xs (i + 2)), .int (xs (i + 3))]) (rest := []) ⟨hx, hb, hml, hown, hts⟩ (met_giveMany l H.size D a d its wts szs exs snt org hit rnd lt S w (xs (i + 1)) (xs (i + 2)) (xs (i + 3)) hi he) (cwV 3 hts (lw_V q83 q84 q85 q20 q86) rfl rfl rfl (by decide +kernel) ⟨Nat.le_of_ble_eq_true rfl, Nat.le_of_ble_eq_true rfl⟩) hKx hPx hDx hS hA rfl rfl rfl hl.1 rfl (Nat.le_of_ble_eq_true rfl) dL_law_236 ⟨Nat.le_of_ble_eq_true rfl, Nat.le_of_ble_eq_true rfl⟩ (fun r1 u1 H1 locs1 hw1 hPx1 hDx1 hS hk => ?_)
        have hPm := law_keep hPm (hap (its, wts, szs, exs, snt, org, hit, rnd, lt) (has, wgt, lt)) hk
        clear hk
        obtain ⟨H, eH⟩ : ∃ H2, H2 = H1 := ⟨_, rfl⟩
        rw [← eH] at hPx1 hS hPm ⊢
        refine lv_aload_n hx hb dL_law_239 rfl (lv_at hl 3 rfl) ?_
        refine lv_aload_n hx hb dL_law_240 rfl (lv_at hl 1 rfl) ?_
        refine lv_iload_n hx hb dL_law_241 rfl (lv_at hl 0 rfl) ?_
        refine lv_iconst (v := nI 1) hx hb dL_law_242 (by decide) ?_
        refine lv_iadd hx hb dL_law_243 ?_
        refine xr_set (y := nI (i + 1)) (nI_add _ _) ?_
        refine xsl hx hb hX hbl hbA hS (j := (i + 1)) (by omega) (by omega) dL_law_244 ?_
        refine lv_aload_n hx hb dL_law_245 rfl (lv_at hl 1 rfl) ?_
        refine lv_iload_n hx hb dL_law_246 rfl (lv_at hl 0 rfl) ?_
        refine lv_iconst (v := nI 2) hx hb dL_law_247 (by decide) ?_
        refine lv_iadd hx hb dL_law_248 ?_
        refine xr_set (y := nI (i + 2)) (nI_add _ _) ?_
        refine xsl hx hb hX hbl hbA hS (j := (i + 2)) (by omega) (by omega) dL_law_249 ?_
        refine lv_aload_n hx hb dL_law_250 rfl (lv_at hl 1 rfl) ?_
        refine lv_iload_n hx hb dL_law_251 rfl (lv_at hl 0 rfl) ?_
        refine lv_iconst (v := nI 3) hx hb dL_law_252 (by decide) ?_
        refine lv_iadd hx hb dL_law_253 ?_
        refine xr_set (y := nI (i + 3)) (nI_add _ _) ?_
        refine xsl hx hb hX hbl hbA hS (j := (i + 3)) (by omega) (by omega) dL_law_254 ?_
        refine cs_Wi (ci := 1) (As := [.int (xs (i + 1)), .int (xs (i + 2)), .int (xs (i + 3))]) (rest := [.int r1]) ⟨hx, hb, hml, hown, hts⟩ (mem_giveMany l H.size D a2 d2 has wgt lt S w (xs (i + 1)) (xs (i + 2)) (xs (i + 3)) hm) (cwV 3 hts (lw_V q223 q224 q225 q21 q226) rfl rfl rfl (by decide +kernel) ⟨Nat.le_of_ble_eq_true rfl, Nat.le_of_ble_eq_true rfl⟩) hKm hPm hDm hS hA rfl rfl rfl hl.1 rfl (Nat.le_of_ble_eq_true rfl) dL_law_255 ⟨Nat.le_of_ble_eq_true rfl, Nat.le_of_ble_eq_true rfl⟩ (fun r2 v1 H1 locs1 hw2 hPm1 hDm1 hS hk => ?_)
        have hPx2 := law_keep hPx1 (fun i j p q h1 h2 => (hap u1 (has, wgt, lt) j i q p h2 h1).symm) hk
        obtain ⟨A1, e1, hX1⟩ := hw1
        obtain ⟨A2, e2, hM2⟩ := hw2
        obtain ⟨rfl, rfl⟩ := Prod.mk.inj (e1.symm.trans e2)
        refine lv_icmp_eq (tgt := 625) hx hb dL_law_258 (by decide) (fun _ => ?_) (fun c => absurd rfl c)
        exact next A1 u1 v1 hX1 hM2 _ _ hPx2 hDx1 hPm1 hDm1 hS
      · subst ej
        refine lv_tableIn (tgt := 263) (off := 201) hx hb dL_law_62 (by decide) (by decide) rfl (by decide) ?_
        refine lv_aload_n hx hb dL_law_263 rfl (lv_at hl 2 rfl) ?_
        refine lv_aload_n hx hb dL_law_264 rfl (lv_at hl 1 rfl) ?_
        refine lv_iload_n hx hb dL_law_265 rfl (lv_at hl 0 rfl) ?_
        refine lv_iconst (v := nI 1) hx hb dL_law_266 (by decide) ?_
        refine lv_iadd hx hb dL_law_267 ?_
        refine xr_set (y := nI (i + 1)) (nI_add _ _) ?_
        refine xsl hx hb hX hbl hbA hS (j := (i + 1)) (by omega) (by omega) dL_law_268 ?_
        refine lv_aload_n hx hb dL_law_269 rfl (lv_at hl 1 rfl) ?_
        refine lv_iload_n hx hb dL_law_270 rfl (lv_at hl 0 rfl) ?_
        refine lv_iconst (v := nI 2) hx hb dL_law_271 (by decide) ?_
        refine lv_iadd hx hb dL_law_272 ?_
        refine xr_set (y := nI (i + 2)) (nI_add _ _) ?_
        refine xsl hx hb hX hbl hbA hS (j := (i + 2)) (by omega) (by omega) dL_law_273 ?_
        refine cs_Wi (ci := 0) (As := [.int (xs (i + 1)), .int (xs (i + 2))]) (rest := []) ⟨hx, hb, hml, hown, hts⟩ (met_take l H.size D a d its wts szs exs snt org hit rnd lt S w (xs (i + 1)) (xs (i + 2)) hi he) (cwV 2 hts (lw_V q87 q88 q89 q20 q90) rfl rfl rfl (by decide +kernel) ⟨Nat.le_of_ble_eq_true rfl, Nat.le_of_ble_eq_true rfl⟩) hKx hPx hDx hS hA rfl rfl rfl hl.1 rfl (Nat.le_of_ble_eq_true rfl) dL_law_274 ⟨Nat.le_of_ble_eq_true rfl, Nat.le_of_ble_eq_true rfl⟩ (fun r1 u1 H1 locs1 hw1 hPx1 hDx1 hS hk => ?_)
        have hPm := law_keep hPm (hap (its, wts, szs, exs, snt, org, hit, rnd, lt) (has, wgt, lt)) hk
        clear hk
        obtain ⟨H, eH⟩ : ∃ H2, H2 = H1 := ⟨_, rfl⟩
        rw [← eH] at hPx1 hS hPm ⊢
        refine lv_aload_n hx hb dL_law_277 rfl (lv_at hl 3 rfl) ?_
        refine lv_aload_n hx hb dL_law_278 rfl (lv_at hl 1 rfl) ?_
        refine lv_iload_n hx hb dL_law_279 rfl (lv_at hl 0 rfl) ?_
        refine lv_iconst (v := nI 1) hx hb dL_law_280 (by decide) ?_
        refine lv_iadd hx hb dL_law_281 ?_
        refine xr_set (y := nI (i + 1)) (nI_add _ _) ?_
        refine xsl hx hb hX hbl hbA hS (j := (i + 1)) (by omega) (by omega) dL_law_282 ?_
        refine lv_aload_n hx hb dL_law_283 rfl (lv_at hl 1 rfl) ?_
        refine lv_iload_n hx hb dL_law_284 rfl (lv_at hl 0 rfl) ?_
        refine lv_iconst (v := nI 2) hx hb dL_law_285 (by decide) ?_
        refine lv_iadd hx hb dL_law_286 ?_
        refine xr_set (y := nI (i + 2)) (nI_add _ _) ?_
        refine xsl hx hb hX hbl hbA hS (j := (i + 2)) (by omega) (by omega) dL_law_287 ?_
        refine cs_Wi (ci := 1) (As := [.int (xs (i + 1)), .int (xs (i + 2))]) (rest := [.int r1]) ⟨hx, hb, hml, hown, hts⟩ (mem_take l H.size D a2 d2 has wgt lt S w (xs (i + 1)) (xs (i + 2)) hm) (cwV 2 hts (lw_V q231 q232 q233 q21 q234) rfl rfl rfl (by decide +kernel) ⟨Nat.le_of_ble_eq_true rfl, Nat.le_of_ble_eq_true rfl⟩) hKm hPm hDm hS hA rfl rfl rfl hl.1 rfl (Nat.le_of_ble_eq_true rfl) dL_law_288 ⟨Nat.le_of_ble_eq_true rfl, Nat.le_of_ble_eq_true rfl⟩ (fun r2 v1 H1 locs1 hw2 hPm1 hDm1 hS hk => ?_)
        have hPx2 := law_keep hPx1 (fun i j p q h1 h2 => (hap u1 (has, wgt, lt) j i q p h2 h1).symm) hk
        obtain ⟨A1, e1, hX1⟩ := hw1
        obtain ⟨A2, e2, hM2⟩ := hw2
        obtain ⟨rfl, rfl⟩ := Prod.mk.inj (e1.symm.trans e2)
        refine lv_icmp_eq (tgt := 625) hx hb dL_law_291 (by decide) (fun _ => ?_) (fun c => absurd rfl c)
        exact next A1 u1 v1 hX1 hM2 _ _ hPx2 hDx1 hPm1 hDm1 hS
      · subst ej
        refine lv_tableIn (tgt := 296) (off := 234) hx hb dL_law_62 (by decide) (by decide) rfl (by decide) ?_
        refine lv_aload_n hx hb dL_law_296 rfl (lv_at hl 2 rfl) ?_
        refine lv_aload_n hx hb dL_law_297 rfl (lv_at hl 1 rfl) ?_
        refine lv_iload_n hx hb dL_law_298 rfl (lv_at hl 0 rfl) ?_
        refine lv_iconst (v := nI 1) hx hb dL_law_299 (by decide) ?_
        refine lv_iadd hx hb dL_law_300 ?_
        refine xr_set (y := nI (i + 1)) (nI_add _ _) ?_
        refine xsl hx hb hX hbl hbA hS (j := (i + 1)) (by omega) (by omega) dL_law_301 ?_
        refine cs_Wi (ci := 0) (As := [.int (xs (i + 1))]) (rest := []) ⟨hx, hb, hml, hown, hts⟩ (met_clear l H.size D a d its wts szs exs snt org hit rnd lt S w (xs (i + 1)) hi he) (cwV 1 hts (lw_V q91 q92 q93 q20 q94) rfl rfl rfl (by decide +kernel) ⟨Nat.le_of_ble_eq_true rfl, Nat.le_of_ble_eq_true rfl⟩) hKx hPx hDx hS hA rfl rfl rfl hl.1 rfl (Nat.le_of_ble_eq_true rfl) dL_law_302 ⟨Nat.le_of_ble_eq_true rfl, Nat.le_of_ble_eq_true rfl⟩ (fun r1 u1 H1 locs1 hw1 hPx1 hDx1 hS hk => ?_)
        have hPm := law_keep hPm (hap (its, wts, szs, exs, snt, org, hit, rnd, lt) (has, wgt, lt)) hk
        clear hk
        obtain ⟨H, eH⟩ : ∃ H2, H2 = H1 := ⟨_, rfl⟩
        rw [← eH] at hPx1 hS hPm ⊢
        refine lv_aload_n hx hb dL_law_305 rfl (lv_at hl 3 rfl) ?_
        refine lv_aload_n hx hb dL_law_306 rfl (lv_at hl 1 rfl) ?_
        refine lv_iload_n hx hb dL_law_307 rfl (lv_at hl 0 rfl) ?_
        refine lv_iconst (v := nI 1) hx hb dL_law_308 (by decide) ?_
        refine lv_iadd hx hb dL_law_309 ?_
        refine xr_set (y := nI (i + 1)) (nI_add _ _) ?_
        refine xsl hx hb hX hbl hbA hS (j := (i + 1)) (by omega) (by omega) dL_law_310 ?_
        refine cs_Wi (ci := 1) (As := [.int (xs (i + 1))]) (rest := [.int r1]) ⟨hx, hb, hml, hown, hts⟩ (mem_clear l H.size D a2 d2 has wgt lt S w (xs (i + 1)) hm) (cwV 1 hts (lw_V q235 q236 q237 q21 q238) rfl rfl rfl (by decide +kernel) ⟨Nat.le_of_ble_eq_true rfl, Nat.le_of_ble_eq_true rfl⟩) hKm hPm hDm hS hA rfl rfl rfl hl.1 rfl (Nat.le_of_ble_eq_true rfl) dL_law_311 ⟨Nat.le_of_ble_eq_true rfl, Nat.le_of_ble_eq_true rfl⟩ (fun r2 v1 H1 locs1 hw2 hPm1 hDm1 hS hk => ?_)
        have hPx2 := law_keep hPx1 (fun i j p q h1 h2 => (hap u1 (has, wgt, lt) j i q p h2 h1).symm) hk
        obtain ⟨A1, e1, hX1⟩ := hw1
        obtain ⟨A2, e2, hM2⟩ := hw2
        obtain ⟨rfl, rfl⟩ := Prod.mk.inj (e1.symm.trans e2)
        refine lv_icmp_eq (tgt := 625) hx hb dL_law_314 (by decide) (fun _ => ?_) (fun c => absurd rfl c)
        exact next A1 u1 v1 hX1 hM2 _ _ hPx2 hDx1 hPm1 hDm1 hS
      · subst ej
        refine lv_tableIn (tgt := 319) (off := 257) hx hb dL_law_62 (by decide) (by decide) rfl (by decide) ?_
        refine lv_aload_n hx hb dL_law_319 rfl (lv_at hl 2 rfl) ?_
        refine lv_aload_n hx hb dL_law_320 rfl (lv_at hl 1 rfl) ?_
        refine lv_iload_n hx hb dL_law_321 rfl (lv_at hl 0 rfl) ?_
        refine lv_iconst (v := nI 1) hx hb dL_law_322 (by decide) ?_
        refine lv_iadd hx hb dL_law_323 ?_
        refine xr_set (y := nI (i + 1)) (nI_add _ _) ?_
        refine xsl hx hb hX hbl hbA hS (j := (i + 1)) (by omega) (by omega) dL_law_324 ?_
        refine cs_Wi (ci := 0) (As := [.int (xs (i + 1))]) (rest := []) ⟨hx, hb, hml, hown, hts⟩ (met_held l H.size D a d its wts szs exs snt org hit rnd lt S w (xs (i + 1)) hi he) (cwV 1 hts (lw_V q95 q96 q97 q20 q98) rfl rfl rfl (by decide +kernel) ⟨Nat.le_of_ble_eq_true rfl, Nat.le_of_ble_eq_true rfl⟩) hKx hPx hDx hS hA rfl rfl rfl hl.1 rfl (Nat.le_of_ble_eq_true rfl) dL_law_325 ⟨Nat.le_of_ble_eq_true rfl, Nat.le_of_ble_eq_true rfl⟩ (fun r1 u1 H1 locs1 hw1 hPx1 hDx1 hS hk => ?_)
        have hPm := law_keep hPm (hap (its, wts, szs, exs, snt, org, hit, rnd, lt) (has, wgt, lt)) hk
        clear hk
        obtain ⟨H, eH⟩ : ∃ H2, H2 = H1 := ⟨_, rfl⟩
        rw [← eH] at hPx1 hS hPm ⊢
        refine lv_aload_n hx hb dL_law_328 rfl (lv_at hl 3 rfl) ?_
        refine lv_aload_n hx hb dL_law_329 rfl (lv_at hl 1 rfl) ?_
        refine lv_iload_n hx hb dL_law_330 rfl (lv_at hl 0 rfl) ?_
        refine lv_iconst (v := nI 1) hx hb dL_law_331 (by decide) ?_
        refine lv_iadd hx hb dL_law_332 ?_
        refine xr_set (y := nI (i + 1)) (nI_add _ _) ?_
        refine xsl hx hb hX hbl hbA hS (j := (i + 1)) (by omega) (by omega) dL_law_333 ?_
        refine cs_Wi (ci := 1) (As := [.int (xs (i + 1))]) (rest := [.int r1]) ⟨hx, hb, hml, hown, hts⟩ (mem_held l H.size D a2 d2 has wgt lt S w (xs (i + 1)) hm) (cwV 1 hts (lw_V q239 q240 q241 q21 q242) rfl rfl rfl (by decide +kernel) ⟨Nat.le_of_ble_eq_true rfl, Nat.le_of_ble_eq_true rfl⟩) hKm hPm hDm hS hA rfl rfl rfl hl.1 rfl (Nat.le_of_ble_eq_true rfl) dL_law_334 ⟨Nat.le_of_ble_eq_true rfl, Nat.le_of_ble_eq_true rfl⟩ (fun r2 v1 H1 locs1 hw2 hPm1 hDm1 hS hk => ?_)
        have hPx2 := law_keep hPx1 (fun i j p q h1 h2 => (hap u1 (has, wgt, lt) j i q p h2 h1).symm) hk
        obtain ⟨A1, e1, hX1⟩ := hw1
        obtain ⟨A2, e2, hM2⟩ := hw2
        obtain ⟨rfl, rfl⟩ := Prod.mk.inj (e1.symm.trans e2)
        refine lv_icmp_eq (tgt := 625) hx hb dL_law_337 (by decide) (fun _ => ?_) (fun c => absurd rfl c)
        exact next A1 u1 v1 hX1 hM2 _ _ hPx2 hDx1 hPm1 hDm1 hS
      · subst ej
        refine lv_tableIn (tgt := 342) (off := 280) hx hb dL_law_62 (by decide) (by decide) rfl (by decide) ?_
        refine lv_aload_n hx hb dL_law_342 rfl (lv_at hl 2 rfl) ?_
        refine lv_aload_n hx hb dL_law_343 rfl (lv_at hl 1 rfl) ?_
        refine lv_iload_n hx hb dL_law_344 rfl (lv_at hl 0 rfl) ?_
        refine lv_iconst (v := nI 1) hx hb dL_law_345 (by decide) ?_
        refine lv_iadd hx hb dL_law_346 ?_
        refine xr_set (y := nI (i + 1)) (nI_add _ _) ?_
        refine xsl hx hb hX hbl hbA hS (j := (i + 1)) (by omega) (by omega) dL_law_347 ?_
        refine lv_aload_n hx hb dL_law_348 rfl (lv_at hl 1 rfl) ?_
        refine lv_iload_n hx hb dL_law_349 rfl (lv_at hl 0 rfl) ?_
        refine lv_iconst (v := nI 2) hx hb dL_law_350 (by decide) ?_
        refine lv_iadd hx hb dL_law_351 ?_
        refine xr_set (y := nI (i + 2)) (nI_add _ _) ?_
        refine xsl hx hb hX hbl hbA hS (j := (i + 2)) (by omega) (by omega) dL_law_352 ?_
        refine cs_Wi (ci := 0) (As := [.int (xs (i + 1)), .int (xs (i + 2))]) (rest := []) ⟨hx, hb, hml, hown, hts⟩ (met_holds l H.size D a d its wts szs exs snt org hit rnd lt S w (xs (i + 1)) (xs (i + 2)) hi he) (cwV 2 hts (lw_V q99 q100 q101 q20 q102) rfl rfl rfl (by decide +kernel) ⟨Nat.le_of_ble_eq_true rfl, Nat.le_of_ble_eq_true rfl⟩) hKx hPx hDx hS hA rfl rfl rfl hl.1 rfl (Nat.le_of_ble_eq_true rfl) dL_law_353 ⟨Nat.le_of_ble_eq_true rfl, Nat.le_of_ble_eq_true rfl⟩ (fun r1 u1 H1 locs1 hw1 hPx1 hDx1 hS hk => ?_)
        have hPm := law_keep hPm (hap (its, wts, szs, exs, snt, org, hit, rnd, lt) (has, wgt, lt)) hk
        clear hk
        obtain ⟨H, eH⟩ : ∃ H2, H2 = H1 := ⟨_, rfl⟩
        rw [← eH] at hPx1 hS hPm ⊢
        refine lv_aload_n hx hb dL_law_356 rfl (lv_at hl 3 rfl) ?_
        refine lv_aload_n hx hb dL_law_357 rfl (lv_at hl 1 rfl) ?_
        refine lv_iload_n hx hb dL_law_358 rfl (lv_at hl 0 rfl) ?_
        refine lv_iconst (v := nI 1) hx hb dL_law_359 (by decide) ?_
        refine lv_iadd hx hb dL_law_360 ?_
        refine xr_set (y := nI (i + 1)) (nI_add _ _) ?_
        refine xsl hx hb hX hbl hbA hS (j := (i + 1)) (by omega) (by omega) dL_law_361 ?_
        refine lv_aload_n hx hb dL_law_362 rfl (lv_at hl 1 rfl) ?_
        refine lv_iload_n hx hb dL_law_363 rfl (lv_at hl 0 rfl) ?_
        refine lv_iconst (v := nI 2) hx hb dL_law_364 (by decide) ?_
        refine lv_iadd hx hb dL_law_365 ?_
        refine xr_set (y := nI (i + 2)) (nI_add _ _) ?_
        refine xsl hx hb hX hbl hbA hS (j := (i + 2)) (by omega) (by omega) dL_law_366 ?_
        refine cs_Wi (ci := 1) (As := [.int (xs (i + 1)), .int (xs (i + 2))]) (rest := [.int r1]) ⟨hx, hb, hml, hown, hts⟩ (mem_holds l H.size D a2 d2 has wgt lt S w (xs (i + 1)) (xs (i + 2)) hm) (cwV 2 hts (lw_V q243 q244 q245 q21 q246) rfl rfl rfl (by decide +kernel) ⟨Nat.le_of_ble_eq_true rfl, Nat.le_of_ble_eq_true rfl⟩) hKm hPm hDm hS hA rfl rfl rfl hl.1 rfl (Nat.le_of_ble_eq_true rfl) dL_law_367 ⟨Nat.le_of_ble_eq_true rfl, Nat.le_of_ble_eq_true rfl⟩ (fun r2 v1 H1 locs1 hw2 hPm1 hDm1 hS hk => ?_)
        have hPx2 := law_keep hPx1 (fun i j p q h1 h2 => (hap u1 (has, wgt, lt) j i q p h2 h1).symm) hk
        obtain ⟨A1, e1, hX1⟩ := hw1
        obtain ⟨A2, e2, hM2⟩ := hw2
        obtain ⟨rfl, rfl⟩ := Prod.mk.inj (e1.symm.trans e2)
        refine lv_icmp_eq (tgt := 625) hx hb dL_law_370 (by decide) (fun _ => ?_) (fun c => absurd rfl c)
        exact next A1 u1 v1 hX1 hM2 _ _ hPx2 hDx1 hPm1 hDm1 hS
      · subst ej
        refine lv_tableIn (tgt := 375) (off := 313) hx hb dL_law_62 (by decide) (by decide) rfl (by decide) ?_
        refine lv_aload_n hx hb dL_law_375 rfl (lv_at hl 2 rfl) ?_
        refine lv_aload_n hx hb dL_law_376 rfl (lv_at hl 1 rfl) ?_
        refine lv_iload_n hx hb dL_law_377 rfl (lv_at hl 0 rfl) ?_
        refine lv_iconst (v := nI 1) hx hb dL_law_378 (by decide) ?_
        refine lv_iadd hx hb dL_law_379 ?_
        refine xr_set (y := nI (i + 1)) (nI_add _ _) ?_
        refine xsl hx hb hX hbl hbA hS (j := (i + 1)) (by omega) (by omega) dL_law_380 ?_
        refine lv_aload_n hx hb dL_law_381 rfl (lv_at hl 1 rfl) ?_
        refine lv_iload_n hx hb dL_law_382 rfl (lv_at hl 0 rfl) ?_
        refine lv_iconst (v := nI 2) hx hb dL_law_383 (by decide) ?_
        refine lv_iadd hx hb dL_law_384 ?_
        refine xr_set (y := nI (i + 2)) (nI_add _ _) ?_
        refine xsl hx hb hX hbl hbA hS (j := (i + 2)) (by omega) (by omega) dL_law_385 ?_
        refine cs_Wi (ci := 0) (As := [.int (xs (i + 1)), .int (xs (i + 2))]) (rest := []) ⟨hx, hb, hml, hown, hts⟩ (met_common l H.size D a d its wts szs exs snt org hit rnd lt S w (xs (i + 1)) (xs (i + 2)) hi he) (cwV 2 hts (lw_V q103 q104 q105 q20 q106) rfl rfl rfl (by decide +kernel) ⟨Nat.le_of_ble_eq_true rfl, Nat.le_of_ble_eq_true rfl⟩) hKx hPx hDx hS hA rfl rfl rfl hl.1 rfl (Nat.le_of_ble_eq_true rfl) dL_law_386 ⟨Nat.le_of_ble_eq_true rfl, Nat.le_of_ble_eq_true rfl⟩ (fun r1 u1 H1 locs1 hw1 hPx1 hDx1 hS hk => ?_)
        have hPm := law_keep hPm (hap (its, wts, szs, exs, snt, org, hit, rnd, lt) (has, wgt, lt)) hk
        clear hk
        obtain ⟨H, eH⟩ : ∃ H2, H2 = H1 := ⟨_, rfl⟩
        rw [← eH] at hPx1 hS hPm ⊢
        refine lv_aload_n hx hb dL_law_389 rfl (lv_at hl 3 rfl) ?_
        refine lv_aload_n hx hb dL_law_390 rfl (lv_at hl 1 rfl) ?_
        refine lv_iload_n hx hb dL_law_391 rfl (lv_at hl 0 rfl) ?_
        refine lv_iconst (v := nI 1) hx hb dL_law_392 (by decide) ?_
        refine lv_iadd hx hb dL_law_393 ?_
        refine xr_set (y := nI (i + 1)) (nI_add _ _) ?_
        refine xsl hx hb hX hbl hbA hS (j := (i + 1)) (by omega) (by omega) dL_law_394 ?_
        refine lv_aload_n hx hb dL_law_395 rfl (lv_at hl 1 rfl) ?_
        refine lv_iload_n hx hb dL_law_396 rfl (lv_at hl 0 rfl) ?_
        refine lv_iconst (v := nI 2) hx hb dL_law_397 (by decide) ?_
        refine lv_iadd hx hb dL_law_398 ?_
        refine xr_set (y := nI (i + 2)) (nI_add _ _) ?_
        refine xsl hx hb hX hbl hbA hS (j := (i + 2)) (by omega) (by omega) dL_law_399 ?_
        refine cs_Wi (ci := 1) (As := [.int (xs (i + 1)), .int (xs (i + 2))]) (rest := [.int r1]) ⟨hx, hb, hml, hown, hts⟩ (mem_common l H.size D a2 d2 has wgt lt S w (xs (i + 1)) (xs (i + 2)) hm) (cwV 2 hts (lw_V q247 q248 q249 q21 q250) rfl rfl rfl (by decide +kernel) ⟨Nat.le_of_ble_eq_true rfl, Nat.le_of_ble_eq_true rfl⟩) hKm hPm hDm hS hA rfl rfl rfl hl.1 rfl (Nat.le_of_ble_eq_true rfl) dL_law_400 ⟨Nat.le_of_ble_eq_true rfl, Nat.le_of_ble_eq_true rfl⟩ (fun r2 v1 H1 locs1 hw2 hPm1 hDm1 hS hk => ?_)
        have hPx2 := law_keep hPx1 (fun i j p q h1 h2 => (hap u1 (has, wgt, lt) j i q p h2 h1).symm) hk
        obtain ⟨A1, e1, hX1⟩ := hw1
        obtain ⟨A2, e2, hM2⟩ := hw2
        obtain ⟨rfl, rfl⟩ := Prod.mk.inj (e1.symm.trans e2)
        refine lv_icmp_eq (tgt := 625) hx hb dL_law_403 (by decide) (fun _ => ?_) (fun c => absurd rfl c)
        exact next A1 u1 v1 hX1 hM2 _ _ hPx2 hDx1 hPm1 hDm1 hS
      · subst ej
        refine lv_tableIn (tgt := 408) (off := 346) hx hb dL_law_62 (by decide) (by decide) rfl (by decide) ?_
        refine lv_aload_n hx hb dL_law_408 rfl (lv_at hl 2 rfl) ?_
        refine lv_aload_n hx hb dL_law_409 rfl (lv_at hl 1 rfl) ?_
        refine lv_iload_n hx hb dL_law_410 rfl (lv_at hl 0 rfl) ?_
        refine lv_iconst (v := nI 1) hx hb dL_law_411 (by decide) ?_
        refine lv_iadd hx hb dL_law_412 ?_
        refine xr_set (y := nI (i + 1)) (nI_add _ _) ?_
        refine xsl hx hb hX hbl hbA hS (j := (i + 1)) (by omega) (by omega) dL_law_413 ?_
        refine lv_aload_n hx hb dL_law_414 rfl (lv_at hl 1 rfl) ?_
        refine lv_iload_n hx hb dL_law_415 rfl (lv_at hl 0 rfl) ?_
        refine lv_iconst (v := nI 2) hx hb dL_law_416 (by decide) ?_
        refine lv_iadd hx hb dL_law_417 ?_
        refine xr_set (y := nI (i + 2)) (nI_add _ _) ?_
        refine xsl hx hb hX hbl hbA hS (j := (i + 2)) (by omega) (by omega) dL_law_418 ?_
        refine lv_aload_n hx hb dL_law_419 rfl (lv_at hl 1 rfl) ?_
        refine lv_iload_n hx hb dL_law_420 rfl (lv_at hl 0 rfl) ?_
        refine lv_iconst (v := nI 3) hx hb dL_law_421 (by decide) ?_
        refine lv_iadd hx hb dL_law_422 ?_
        refine xr_set (y := nI (i + 3)) (nI_add _ _) ?_
        refine xsl hx hb hX hbl hbA hS (j := (i + 3)) (by omega) (by omega) dL_law_423 ?_
        refine cs_Wi (ci := 0) (As := [.int (xs (i + 1)), .int (xs (i + 2)), .int (xs (i + 3))]) (rest := []) ⟨hx, hb, hml, hown, hts⟩ (met_commonItem l H.size D a d its wts szs exs snt org hit rnd lt S w (xs (i + 1)) (xs (i + 2)) (xs (i + 3)) hi he) (cwV 3 hts (lw_V q135 q136 q137 q20 q138) rfl rfl rfl (by decide +kernel) ⟨Nat.le_of_ble_eq_true rfl, Nat.le_of_ble_eq_true rfl⟩) hKx hPx hDx hS hA rfl rfl rfl hl.1 rfl (Nat.le_of_ble_eq_true rfl) dL_law_424 ⟨Nat.le_of_ble_eq_true rfl, Nat.le_of_ble_eq_true rfl⟩ (fun r1 u1 H1 locs1 hw1 hPx1 hDx1 hS hk => ?_)
        have hPm := law_keep hPm (hap (its, wts, szs, exs, snt, org, hit, rnd, lt) (has, wgt, lt)) hk
        clear hk
        obtain ⟨H, eH⟩ : ∃ H2, H2 = H1 := ⟨_, rfl⟩
        rw [← eH] at hPx1 hS hPm ⊢
        refine lv_aload_n hx hb dL_law_427 rfl (lv_at hl 3 rfl) ?_
        refine lv_aload_n hx hb dL_law_428 rfl (lv_at hl 1 rfl) ?_
        refine lv_iload_n hx hb dL_law_429 rfl (lv_at hl 0 rfl) ?_
        refine lv_iconst (v := nI 1) hx hb dL_law_430 (by decide) ?_
        refine lv_iadd hx hb dL_law_431 ?_
        refine xr_set (y := nI (i + 1)) (nI_add _ _) ?_
        refine xsl hx hb hX hbl hbA hS (j := (i + 1)) (by omega) (by omega) dL_law_432 ?_
        refine lv_aload_n hx hb dL_law_433 rfl (lv_at hl 1 rfl) ?_
        refine lv_iload_n hx hb dL_law_434 rfl (lv_at hl 0 rfl) ?_
        refine lv_iconst (v := nI 2) hx hb dL_law_435 (by decide) ?_
        refine lv_iadd hx hb dL_law_436 ?_
        refine xr_set (y := nI (i + 2)) (nI_add _ _) ?_
        refine xsl hx hb hX hbl hbA hS (j := (i + 2)) (by omega) (by omega) dL_law_437 ?_
        refine lv_aload_n hx hb dL_law_438 rfl (lv_at hl 1 rfl) ?_
        refine lv_iload_n hx hb dL_law_439 rfl (lv_at hl 0 rfl) ?_
        refine lv_iconst (v := nI 3) hx hb dL_law_440 (by decide) ?_
        refine lv_iadd hx hb dL_law_441 ?_
        refine xr_set (y := nI (i + 3)) (nI_add _ _) ?_
        refine xsl hx hb hX hbl hbA hS (j := (i + 3)) (by omega) (by omega) dL_law_442 ?_
        refine cs_Wi (ci := 1) (As := [.int (xs (i + 1)), .int (xs (i + 2)), .int (xs (i + 3))]) (rest := [.int r1]) ⟨hx, hb, hml, hown, hts⟩ (mem_commonItem l H.size D a2 d2 has wgt lt S w (xs (i + 1)) (xs (i + 2)) (xs (i + 3)) hm) (cwV 3 hts (lw_V q259 q260 q261 q21 q262) rfl rfl rfl (by decide +kernel) ⟨Nat.le_of_ble_eq_true rfl, Nat.le_of_ble_eq_true rfl⟩) hKm hPm hDm hS hA rfl rfl rfl hl.1 rfl (Nat.le_of_ble_eq_true rfl) dL_law_443 ⟨Nat.le_of_ble_eq_true rfl, Nat.le_of_ble_eq_true rfl⟩ (fun r2 v1 H1 locs1 hw2 hPm1 hDm1 hS hk => ?_)
        have hPx2 := law_keep hPx1 (fun i j p q h1 h2 => (hap u1 (has, wgt, lt) j i q p h2 h1).symm) hk
        obtain ⟨A1, e1, hX1⟩ := hw1
        obtain ⟨A2, e2, hM2⟩ := hw2
        obtain ⟨rfl, rfl⟩ := Prod.mk.inj (e1.symm.trans e2)
        refine lv_icmp_eq (tgt := 625) hx hb dL_law_446 (by decide) (fun _ => ?_) (fun c => absurd rfl c)
        exact next A1 u1 v1 hX1 hM2 _ _ hPx2 hDx1 hPm1 hDm1 hS
      · subst ej
        refine lv_tableIn (tgt := 451) (off := 389) hx hb dL_law_62 (by decide) (by decide) rfl (by decide) ?_
        refine lv_aload_n hx hb dL_law_451 rfl (lv_at hl 2 rfl) ?_
        refine lv_aload_n hx hb dL_law_452 rfl (lv_at hl 1 rfl) ?_
        refine lv_iload_n hx hb dL_law_453 rfl (lv_at hl 0 rfl) ?_
        refine lv_iconst (v := nI 1) hx hb dL_law_454 (by decide) ?_
        refine lv_iadd hx hb dL_law_455 ?_
        refine xr_set (y := nI (i + 1)) (nI_add _ _) ?_
        refine xsl hx hb hX hbl hbA hS (j := (i + 1)) (by omega) (by omega) dL_law_456 ?_
        refine lv_aload_n hx hb dL_law_457 rfl (lv_at hl 1 rfl) ?_
        refine lv_iload_n hx hb dL_law_458 rfl (lv_at hl 0 rfl) ?_
        refine lv_iconst (v := nI 2) hx hb dL_law_459 (by decide) ?_
        refine lv_iadd hx hb dL_law_460 ?_
        refine xr_set (y := nI (i + 2)) (nI_add _ _) ?_
        refine xsl hx hb hX hbl hbA hS (j := (i + 2)) (by omega) (by omega) dL_law_461 ?_
        refine cs_Wi (ci := 0) (As := [.int (xs (i + 1)), .int (xs (i + 2))]) (rest := []) ⟨hx, hb, hml, hown, hts⟩ (met_commonWeight l H.size D a d its wts szs exs snt org hit rnd lt S w (xs (i + 1)) (xs (i + 2)) hi he) (cwV 2 hts (lw_V q143 q144 q145 q20 q146) rfl rfl rfl (by decide +kernel) ⟨Nat.le_of_ble_eq_true rfl, Nat.le_of_ble_eq_true rfl⟩) hKx hPx hDx hS hA rfl rfl rfl hl.1 rfl (Nat.le_of_ble_eq_true rfl) dL_law_462 ⟨Nat.le_of_ble_eq_true rfl, Nat.le_of_ble_eq_true rfl⟩ (fun r1 u1 H1 locs1 hw1 hPx1 hDx1 hS hk => ?_)
        have hPm := law_keep hPm (hap (its, wts, szs, exs, snt, org, hit, rnd, lt) (has, wgt, lt)) hk
        clear hk
        obtain ⟨H, eH⟩ : ∃ H2, H2 = H1 := ⟨_, rfl⟩
        rw [← eH] at hPx1 hS hPm ⊢
        refine lv_aload_n hx hb dL_law_465 rfl (lv_at hl 3 rfl) ?_
        refine lv_aload_n hx hb dL_law_466 rfl (lv_at hl 1 rfl) ?_
        refine lv_iload_n hx hb dL_law_467 rfl (lv_at hl 0 rfl) ?_
        refine lv_iconst (v := nI 1) hx hb dL_law_468 (by decide) ?_
        refine lv_iadd hx hb dL_law_469 ?_
        refine xr_set (y := nI (i + 1)) (nI_add _ _) ?_
        refine xsl hx hb hX hbl hbA hS (j := (i + 1)) (by omega) (by omega) dL_law_470 ?_
        refine lv_aload_n hx hb dL_law_471 rfl (lv_at hl 1 rfl) ?_
        refine lv_iload_n hx hb dL_law_472 rfl (lv_at hl 0 rfl) ?_
        refine lv_iconst (v := nI 2) hx hb dL_law_473 (by decide) ?_
        refine lv_iadd hx hb dL_law_474 ?_
        refine xr_set (y := nI (i + 2)) (nI_add _ _) ?_
        refine xsl hx hb hX hbl hbA hS (j := (i + 2)) (by omega) (by omega) dL_law_475 ?_
        refine cs_Wi (ci := 1) (As := [.int (xs (i + 1)), .int (xs (i + 2))]) (rest := [.int r1]) ⟨hx, hb, hml, hown, hts⟩ (mem_commonWeight l H.size D a2 d2 has wgt lt S w (xs (i + 1)) (xs (i + 2)) hm) (cwV 2 hts (lw_V q263 q264 q265 q21 q266) rfl rfl rfl (by decide +kernel) ⟨Nat.le_of_ble_eq_true rfl, Nat.le_of_ble_eq_true rfl⟩) hKm hPm hDm hS hA rfl rfl rfl hl.1 rfl (Nat.le_of_ble_eq_true rfl) dL_law_476 ⟨Nat.le_of_ble_eq_true rfl, Nat.le_of_ble_eq_true rfl⟩ (fun r2 v1 H1 locs1 hw2 hPm1 hDm1 hS hk => ?_)
        have hPx2 := law_keep hPx1 (fun i j p q h1 h2 => (hap u1 (has, wgt, lt) j i q p h2 h1).symm) hk
        obtain ⟨A1, e1, hX1⟩ := hw1
        obtain ⟨A2, e2, hM2⟩ := hw2
        obtain ⟨rfl, rfl⟩ := Prod.mk.inj (e1.symm.trans e2)
        refine lv_icmp_eq (tgt := 625) hx hb dL_law_479 (by decide) (fun _ => ?_) (fun c => absurd rfl c)
        exact next A1 u1 v1 hX1 hM2 _ _ hPx2 hDx1 hPm1 hDm1 hS
      · subst ej
        refine lv_tableIn (tgt := 484) (off := 422) hx hb dL_law_62 (by decide) (by decide) rfl (by decide) ?_
        refine lv_aload_n hx hb dL_law_484 rfl (lv_at hl 2 rfl) ?_
        refine cs_Wi (ci := 0) (As := []) (rest := []) ⟨hx, hb, hml, hown, hts⟩ (met_commonToAll l H.size D a d its wts szs exs snt org hit rnd lt S w hi he) (cwV 0 hts (lw_V q147 q148 q149 q20 q150) rfl rfl rfl (by decide +kernel) ⟨Nat.le_of_ble_eq_true rfl, Nat.le_of_ble_eq_true rfl⟩) hKx hPx hDx hS hA rfl rfl rfl hl.1 rfl (Nat.le_of_ble_eq_true rfl) dL_law_485 ⟨Nat.le_of_ble_eq_true rfl, Nat.le_of_ble_eq_true rfl⟩ (fun r1 u1 H1 locs1 hw1 hPx1 hDx1 hS hk => ?_)
        have hPm := law_keep hPm (hap (its, wts, szs, exs, snt, org, hit, rnd, lt) (has, wgt, lt)) hk
        clear hk
        obtain ⟨H, eH⟩ : ∃ H2, H2 = H1 := ⟨_, rfl⟩
        rw [← eH] at hPx1 hS hPm ⊢
        refine lv_aload_n hx hb dL_law_488 rfl (lv_at hl 3 rfl) ?_
        refine cs_Wi (ci := 1) (As := []) (rest := [.int r1]) ⟨hx, hb, hml, hown, hts⟩ (mem_commonToAll l H.size D a2 d2 has wgt lt S w hm) (cwV 0 hts (lw_V q267 q268 q269 q21 q270) rfl rfl rfl (by decide +kernel) ⟨Nat.le_of_ble_eq_true rfl, Nat.le_of_ble_eq_true rfl⟩) hKm hPm hDm hS hA rfl rfl rfl hl.1 rfl (Nat.le_of_ble_eq_true rfl) dL_law_489 ⟨Nat.le_of_ble_eq_true rfl, Nat.le_of_ble_eq_true rfl⟩ (fun r2 v1 H1 locs1 hw2 hPm1 hDm1 hS hk => ?_)
        have hPx2 := law_keep hPx1 (fun i j p q h1 h2 => (hap u1 (has, wgt, lt) j i q p h2 h1).symm) hk
        obtain ⟨A1, e1, hX1⟩ := hw1
        obtain ⟨A2, e2, hM2⟩ := hw2
        obtain ⟨rfl, rfl⟩ := Prod.mk.inj (e1.symm.trans e2)
        refine lv_icmp_eq (tgt := 625) hx hb dL_law_492 (by decide) (fun _ => ?_) (fun c => absurd rfl c)
        exact next A1 u1 v1 hX1 hM2 _ _ hPx2 hDx1 hPm1 hDm1 hS
      · subst ej
        refine lv_tableIn (tgt := 497) (off := 435) hx hb dL_law_62 (by decide) (by decide) rfl (by decide) ?_
        refine lv_aload_n hx hb dL_law_497 rfl (lv_at hl 2 rfl) ?_
        refine lv_aload_n hx hb dL_law_498 rfl (lv_at hl 1 rfl) ?_
        refine lv_iload_n hx hb dL_law_499 rfl (lv_at hl 0 rfl) ?_
        refine lv_iconst (v := nI 1) hx hb dL_law_500 (by decide) ?_
        refine lv_iadd hx hb dL_law_501 ?_
        refine xr_set (y := nI (i + 1)) (nI_add _ _) ?_
        refine xsl hx hb hX hbl hbA hS (j := (i + 1)) (by omega) (by omega) dL_law_502 ?_
        refine cs_Wi (ci := 0) (As := [.int (xs (i + 1))]) (rest := []) ⟨hx, hb, hml, hown, hts⟩ (met_itemOfAll l H.size D a d its wts szs exs snt org hit rnd lt S w (xs (i + 1)) hi he) (cwV 1 hts (lw_V q155 q156 q157 q20 q158) rfl rfl rfl (by decide +kernel) ⟨Nat.le_of_ble_eq_true rfl, Nat.le_of_ble_eq_true rfl⟩) hKx hPx hDx hS hA rfl rfl rfl hl.1 rfl (Nat.le_of_ble_eq_true rfl) dL_law_503 ⟨Nat.le_of_ble_eq_true rfl, Nat.le_of_ble_eq_true rfl⟩ (fun r1 u1 H1 locs1 hw1 hPx1 hDx1 hS hk => ?_)
        have hPm := law_keep hPm (hap (its, wts, szs, exs, snt, org, hit, rnd, lt) (has, wgt, lt)) hk
        clear hk
        obtain ⟨H, eH⟩ : ∃ H2, H2 = H1 := ⟨_, rfl⟩
        rw [← eH] at hPx1 hS hPm ⊢
        refine lv_aload_n hx hb dL_law_506 rfl (lv_at hl 3 rfl) ?_
        refine lv_aload_n hx hb dL_law_507 rfl (lv_at hl 1 rfl) ?_
        refine lv_iload_n hx hb dL_law_508 rfl (lv_at hl 0 rfl) ?_
        refine lv_iconst (v := nI 1) hx hb dL_law_509 (by decide) ?_
        refine lv_iadd hx hb dL_law_510 ?_
        refine xr_set (y := nI (i + 1)) (nI_add _ _) ?_
        refine xsl hx hb hX hbl hbA hS (j := (i + 1)) (by omega) (by omega) dL_law_511 ?_
        refine cs_Wi (ci := 1) (As := [.int (xs (i + 1))]) (rest := [.int r1]) ⟨hx, hb, hml, hown, hts⟩ (mem_itemOfAll l H.size D a2 d2 has wgt lt S w (xs (i + 1)) hm) (cwV 1 hts (lw_V q279 q280 q281 q21 q282) rfl rfl rfl (by decide +kernel) ⟨Nat.le_of_ble_eq_true rfl, Nat.le_of_ble_eq_true rfl⟩) hKm hPm hDm hS hA rfl rfl rfl hl.1 rfl (Nat.le_of_ble_eq_true rfl) dL_law_512 ⟨Nat.le_of_ble_eq_true rfl, Nat.le_of_ble_eq_true rfl⟩ (fun r2 v1 H1 locs1 hw2 hPm1 hDm1 hS hk => ?_)
        have hPx2 := law_keep hPx1 (fun i j p q h1 h2 => (hap u1 (has, wgt, lt) j i q p h2 h1).symm) hk
        obtain ⟨A1, e1, hX1⟩ := hw1
        obtain ⟨A2, e2, hM2⟩ := hw2
        obtain ⟨rfl, rfl⟩ := Prod.mk.inj (e1.symm.trans e2)
        refine lv_icmp_eq (tgt := 625) hx hb dL_law_515 (by decide) (fun _ => ?_) (fun c => absurd rfl c)
        exact next A1 u1 v1 hX1 hM2 _ _ hPx2 hDx1 hPm1 hDm1 hS
      · subst ej
        refine lv_tableIn (tgt := 520) (off := 458) hx hb dL_law_62 (by decide) (by decide) rfl (by decide) ?_
        refine lv_aload_n hx hb dL_law_520 rfl (lv_at hl 2 rfl) ?_
        refine cs_Wi (ci := 0) (As := []) (rest := []) ⟨hx, hb, hml, hown, hts⟩ (met_any l H.size D a d its wts szs exs snt org hit rnd lt S w hi he) (cwV 0 hts (lw_V q159 q160 q161 q20 q162) rfl rfl rfl (by decide +kernel) ⟨Nat.le_of_ble_eq_true rfl, Nat.le_of_ble_eq_true rfl⟩) hKx hPx hDx hS hA rfl rfl rfl hl.1 rfl (Nat.le_of_ble_eq_true rfl) dL_law_521 ⟨Nat.le_of_ble_eq_true rfl, Nat.le_of_ble_eq_true rfl⟩ (fun r1 u1 H1 locs1 hw1 hPx1 hDx1 hS hk => ?_)
        have hPm := law_keep hPm (hap (its, wts, szs, exs, snt, org, hit, rnd, lt) (has, wgt, lt)) hk
        clear hk
        obtain ⟨H, eH⟩ : ∃ H2, H2 = H1 := ⟨_, rfl⟩
        rw [← eH] at hPx1 hS hPm ⊢
        refine lv_aload_n hx hb dL_law_524 rfl (lv_at hl 3 rfl) ?_
        refine cs_Wi (ci := 1) (As := []) (rest := [.int r1]) ⟨hx, hb, hml, hown, hts⟩ (mem_any l H.size D a2 d2 has wgt lt S w hm) (cwV 0 hts (lw_V q283 q284 q285 q21 q286) rfl rfl rfl (by decide +kernel) ⟨Nat.le_of_ble_eq_true rfl, Nat.le_of_ble_eq_true rfl⟩) hKm hPm hDm hS hA rfl rfl rfl hl.1 rfl (Nat.le_of_ble_eq_true rfl) dL_law_525 ⟨Nat.le_of_ble_eq_true rfl, Nat.le_of_ble_eq_true rfl⟩ (fun r2 v1 H1 locs1 hw2 hPm1 hDm1 hS hk => ?_)
        have hPx2 := law_keep hPx1 (fun i j p q h1 h2 => (hap u1 (has, wgt, lt) j i q p h2 h1).symm) hk
        obtain ⟨A1, e1, hX1⟩ := hw1
        obtain ⟨A2, e2, hM2⟩ := hw2
        obtain ⟨rfl, rfl⟩ := Prod.mk.inj (e1.symm.trans e2)
        refine lv_icmp_eq (tgt := 625) hx hb dL_law_528 (by decide) (fun _ => ?_) (fun c => absurd rfl c)
        exact next A1 u1 v1 hX1 hM2 _ _ hPx2 hDx1 hPm1 hDm1 hS
      · subst ej
        refine lv_tableIn (tgt := 533) (off := 471) hx hb dL_law_62 (by decide) (by decide) rfl (by decide) ?_
        refine lv_aload_n hx hb dL_law_533 rfl (lv_at hl 2 rfl) ?_
        refine lv_aload_n hx hb dL_law_534 rfl (lv_at hl 1 rfl) ?_
        refine lv_iload_n hx hb dL_law_535 rfl (lv_at hl 0 rfl) ?_
        refine lv_iconst (v := nI 1) hx hb dL_law_536 (by decide) ?_
        refine lv_iadd hx hb dL_law_537 ?_
        refine xr_set (y := nI (i + 1)) (nI_add _ _) ?_
        refine xsl hx hb hX hbl hbA hS (j := (i + 1)) (by omega) (by omega) dL_law_538 ?_
        refine cs_Wi (ci := 0) (As := [.int (xs (i + 1))]) (rest := []) ⟨hx, hb, hml, hown, hts⟩ (met_heldByJust l H.size D a d its wts szs exs snt org hit rnd lt S w (xs (i + 1)) hi he) (cwV 1 hts (lw_V q171 q164 q165 q20 q166) rfl rfl rfl (by decide +kernel) ⟨Nat.le_of_ble_eq_true rfl, Nat.le_of_ble_eq_true rfl⟩) hKx hPx hDx hS hA rfl rfl rfl hl.1 rfl (Nat.le_of_ble_eq_true rfl) dL_law_539 ⟨Nat.le_of_ble_eq_true rfl, Nat.le_of_ble_eq_true rfl⟩ (fun r1 u1 H1 locs1 hw1 hPx1 hDx1 hS hk => ?_)
        have hPm := law_keep hPm (hap (its, wts, szs, exs, snt, org, hit, rnd, lt) (has, wgt, lt)) hk
        clear hk
        obtain ⟨H, eH⟩ : ∃ H2, H2 = H1 := ⟨_, rfl⟩
        rw [← eH] at hPx1 hS hPm ⊢
        refine lv_aload_n hx hb dL_law_542 rfl (lv_at hl 3 rfl) ?_
        refine lv_aload_n hx hb dL_law_543 rfl (lv_at hl 1 rfl) ?_
        refine lv_iload_n hx hb dL_law_544 rfl (lv_at hl 0 rfl) ?_
        refine lv_iconst (v := nI 1) hx hb dL_law_545 (by decide) ?_
        refine lv_iadd hx hb dL_law_546 ?_
        refine xr_set (y := nI (i + 1)) (nI_add _ _) ?_
        refine xsl hx hb hX hbl hbA hS (j := (i + 1)) (by omega) (by omega) dL_law_547 ?_
        refine cs_Wi (ci := 1) (As := [.int (xs (i + 1))]) (rest := [.int r1]) ⟨hx, hb, hml, hown, hts⟩ (mem_heldByJust l H.size D a2 d2 has wgt lt S w (xs (i + 1)) hm) (cwV 1 hts (lw_V q287 q288 q289 q21 q290) rfl rfl rfl (by decide +kernel) ⟨Nat.le_of_ble_eq_true rfl, Nat.le_of_ble_eq_true rfl⟩) hKm hPm hDm hS hA rfl rfl rfl hl.1 rfl (Nat.le_of_ble_eq_true rfl) dL_law_548 ⟨Nat.le_of_ble_eq_true rfl, Nat.le_of_ble_eq_true rfl⟩ (fun r2 v1 H1 locs1 hw2 hPm1 hDm1 hS hk => ?_)
        have hPx2 := law_keep hPx1 (fun i j p q h1 h2 => (hap u1 (has, wgt, lt) j i q p h2 h1).symm) hk
        obtain ⟨A1, e1, hX1⟩ := hw1
        obtain ⟨A2, e2, hM2⟩ := hw2
        obtain ⟨rfl, rfl⟩ := Prod.mk.inj (e1.symm.trans e2)
        refine lv_icmp_eq (tgt := 625) hx hb dL_law_551 (by decide) (fun _ => ?_) (fun c => absurd rfl c)
        exact next A1 u1 v1 hX1 hM2 _ _ hPx2 hDx1 hPm1 hDm1 hS
      · subst ej
        refine lv_tableIn (tgt := 556) (off := 494) hx hb dL_law_62 (by decide) (by decide) rfl (by decide) ?_
        refine lv_aload_n hx hb dL_law_556 rfl (lv_at hl 2 rfl) ?_
        refine lv_aload_n hx hb dL_law_557 rfl (lv_at hl 1 rfl) ?_
        refine lv_iload_n hx hb dL_law_558 rfl (lv_at hl 0 rfl) ?_
        refine lv_iconst (v := nI 1) hx hb dL_law_559 (by decide) ?_
        refine lv_iadd hx hb dL_law_560 ?_
        refine xr_set (y := nI (i + 1)) (nI_add _ _) ?_
        refine xsl hx hb hX hbl hbA hS (j := (i + 1)) (by omega) (by omega) dL_law_561 ?_
        refine cs_Wi (ci := 0) (As := [.int (xs (i + 1))]) (rest := []) ⟨hx, hb, hml, hown, hts⟩ (met_alone l H.size D a d its wts szs exs snt org hit rnd lt S w (xs (i + 1)) hi he) (cwV 1 hts (lw_V q172 q173 q174 q20 q175) rfl rfl rfl (by decide +kernel) ⟨Nat.le_of_ble_eq_true rfl, Nat.le_of_ble_eq_true rfl⟩) hKx hPx hDx hS hA rfl rfl rfl hl.1 rfl (Nat.le_of_ble_eq_true rfl) dL_law_562 ⟨Nat.le_of_ble_eq_true rfl, Nat.le_of_ble_eq_true rfl⟩ (fun r1 u1 H1 locs1 hw1 hPx1 hDx1 hS hk => ?_)
        have hPm := law_keep hPm (hap (its, wts, szs, exs, snt, org, hit, rnd, lt) (has, wgt, lt)) hk
        clear hk
        obtain ⟨H, eH⟩ : ∃ H2, H2 = H1 := ⟨_, rfl⟩
        rw [← eH] at hPx1 hS hPm ⊢
        refine lv_aload_n hx hb dL_law_565 rfl (lv_at hl 3 rfl) ?_
        refine lv_aload_n hx hb dL_law_566 rfl (lv_at hl 1 rfl) ?_
        refine lv_iload_n hx hb dL_law_567 rfl (lv_at hl 0 rfl) ?_
        refine lv_iconst (v := nI 1) hx hb dL_law_568 (by decide) ?_
        refine lv_iadd hx hb dL_law_569 ?_
        refine xr_set (y := nI (i + 1)) (nI_add _ _) ?_
        refine xsl hx hb hX hbl hbA hS (j := (i + 1)) (by omega) (by omega) dL_law_570 ?_
        refine cs_Wi (ci := 1) (As := [.int (xs (i + 1))]) (rest := [.int r1]) ⟨hx, hb, hml, hown, hts⟩ (mem_alone l H.size D a2 d2 has wgt lt S w (xs (i + 1)) hm) (cwV 1 hts (lw_V q291 q292 q293 q21 q294) rfl rfl rfl (by decide +kernel) ⟨Nat.le_of_ble_eq_true rfl, Nat.le_of_ble_eq_true rfl⟩) hKm hPm hDm hS hA rfl rfl rfl hl.1 rfl (Nat.le_of_ble_eq_true rfl) dL_law_571 ⟨Nat.le_of_ble_eq_true rfl, Nat.le_of_ble_eq_true rfl⟩ (fun r2 v1 H1 locs1 hw2 hPm1 hDm1 hS hk => ?_)
        have hPx2 := law_keep hPx1 (fun i j p q h1 h2 => (hap u1 (has, wgt, lt) j i q p h2 h1).symm) hk
        obtain ⟨A1, e1, hX1⟩ := hw1
        obtain ⟨A2, e2, hM2⟩ := hw2
        obtain ⟨rfl, rfl⟩ := Prod.mk.inj (e1.symm.trans e2)
        refine lv_icmp_eq (tgt := 625) hx hb dL_law_574 (by decide) (fun _ => ?_) (fun c => absurd rfl c)
        exact next A1 u1 v1 hX1 hM2 _ _ hPx2 hDx1 hPm1 hDm1 hS
      · subst ej
        refine lv_tableIn (tgt := 579) (off := 517) hx hb dL_law_62 (by decide) (by decide) rfl (by decide) ?_
        refine lv_aload_n hx hb dL_law_579 rfl (lv_at hl 2 rfl) ?_
        refine lv_aload_n hx hb dL_law_580 rfl (lv_at hl 1 rfl) ?_
        refine lv_iload_n hx hb dL_law_581 rfl (lv_at hl 0 rfl) ?_
        refine lv_iconst (v := nI 1) hx hb dL_law_582 (by decide) ?_
        refine lv_iadd hx hb dL_law_583 ?_
        refine xr_set (y := nI (i + 1)) (nI_add _ _) ?_
        refine xsl hx hb hX hbl hbA hS (j := (i + 1)) (by omega) (by omega) dL_law_584 ?_
        refine lv_aload_n hx hb dL_law_585 rfl (lv_at hl 1 rfl) ?_
        refine lv_iload_n hx hb dL_law_586 rfl (lv_at hl 0 rfl) ?_
        refine lv_iconst (v := nI 2) hx hb dL_law_587 (by decide) ?_
        refine lv_iadd hx hb dL_law_588 ?_
        refine xr_set (y := nI (i + 2)) (nI_add _ _) ?_
        refine xsl hx hb hX hbl hbA hS (j := (i + 2)) (by omega) (by omega) dL_law_589 ?_
        refine cs_Wi (ci := 0) (As := [.int (xs (i + 1)), .int (xs (i + 2))]) (rest := []) ⟨hx, hb, hml, hown, hts⟩ (met_within l H.size D a d its wts szs exs snt org hit rnd lt S w (xs (i + 1)) (xs (i + 2)) hi he) (cwV 2 hts (lw_V q176 q177 q178 q20 q179) rfl rfl rfl (by decide +kernel) ⟨Nat.le_of_ble_eq_true rfl, Nat.le_of_ble_eq_true rfl⟩) hKx hPx hDx hS hA rfl rfl rfl hl.1 rfl (Nat.le_of_ble_eq_true rfl) dL_law_590 ⟨Nat.le_of_ble_eq_true rfl, Nat.le_of_ble_eq_true rfl⟩ (fun r1 u1 H1 locs1 hw1 hPx1 hDx1 hS hk => ?_)
        have hPm := law_keep hPm (hap (its, wts, szs, exs, snt, org, hit, rnd, lt) (has, wgt, lt)) hk
        clear hk
        obtain ⟨H, eH⟩ : ∃ H2, H2 = H1 := ⟨_, rfl⟩
        rw [← eH] at hPx1 hS hPm ⊢
        refine lv_aload_n hx hb dL_law_593 rfl (lv_at hl 3 rfl) ?_
        refine lv_aload_n hx hb dL_law_594 rfl (lv_at hl 1 rfl) ?_
        refine lv_iload_n hx hb dL_law_595 rfl (lv_at hl 0 rfl) ?_
        refine lv_iconst (v := nI 1) hx hb dL_law_596 (by decide) ?_
        refine lv_iadd hx hb dL_law_597 ?_
        refine xr_set (y := nI (i + 1)) (nI_add _ _) ?_
        refine xsl hx hb hX hbl hbA hS (j := (i + 1)) (by omega) (by omega) dL_law_598 ?_
        refine lv_aload_n hx hb dL_law_599 rfl (lv_at hl 1 rfl) ?_
        refine lv_iload_n hx hb dL_law_600 rfl (lv_at hl 0 rfl) ?_
        refine lv_iconst (v := nI 2) hx hb dL_law_601 (by decide) ?_
        refine lv_iadd hx hb dL_law_602 ?_
        refine xr_set (y := nI (i + 2)) (nI_add _ _) ?_
        refine xsl hx hb hX hbl hbA hS (j := (i + 2)) (by omega) (by omega) dL_law_603 ?_
        refine cs_Wi (ci := 1) (As := [.int (xs (i + 1)), .int (xs (i + 2))]) (rest := [.int r1]) ⟨hx, hb, hml, hown, hts⟩ (mem_within l H.size D a2 d2 has wgt lt S w (xs (i + 1)) (xs (i + 2)) hm) (cwV 2 hts (lw_V q295 q296 q297 q21 q298) rfl rfl rfl (by decide +kernel) ⟨Nat.le_of_ble_eq_true rfl, Nat.le_of_ble_eq_true rfl⟩) hKm hPm hDm hS hA rfl rfl rfl hl.1 rfl (Nat.le_of_ble_eq_true rfl) dL_law_604 ⟨Nat.le_of_ble_eq_true rfl, Nat.le_of_ble_eq_true rfl⟩ (fun r2 v1 H1 locs1 hw2 hPm1 hDm1 hS hk => ?_)
        have hPx2 := law_keep hPx1 (fun i j p q h1 h2 => (hap u1 (has, wgt, lt) j i q p h2 h1).symm) hk
        obtain ⟨A1, e1, hX1⟩ := hw1
        obtain ⟨A2, e2, hM2⟩ := hw2
        obtain ⟨rfl, rfl⟩ := Prod.mk.inj (e1.symm.trans e2)
        refine lv_icmp_eq (tgt := 625) hx hb dL_law_607 (by decide) (fun _ => ?_) (fun c => absurd rfl c)
        exact next A1 u1 v1 hX1 hM2 _ _ hPx2 hDx1 hPm1 hDm1 hS
      · subst ej
        refine lv_tableIn (tgt := 612) (off := 550) hx hb dL_law_62 (by decide) (by decide) rfl (by decide) ?_
        refine lv_aload_n hx hb dL_law_612 rfl (lv_at hl 2 rfl) ?_
        refine cs_Wi (ci := 0) (As := []) (rest := []) ⟨hx, hb, hml, hown, hts⟩ (met_traffic l H.size D a d its wts szs exs snt org hit rnd lt S w hi he) (cwV 0 hts (lw_V q180 q181 q182 q20 q183) rfl rfl rfl (by decide +kernel) ⟨Nat.le_of_ble_eq_true rfl, Nat.le_of_ble_eq_true rfl⟩) hKx hPx hDx hS hA rfl rfl rfl hl.1 rfl (Nat.le_of_ble_eq_true rfl) dL_law_613 ⟨Nat.le_of_ble_eq_true rfl, Nat.le_of_ble_eq_true rfl⟩ (fun r1 u1 H1 locs1 hw1 hPx1 hDx1 hS hk => ?_)
        have hPm := law_keep hPm (hap (its, wts, szs, exs, snt, org, hit, rnd, lt) (has, wgt, lt)) hk
        clear hk
        obtain ⟨H, eH⟩ : ∃ H2, H2 = H1 := ⟨_, rfl⟩
        rw [← eH] at hPx1 hS hPm ⊢
        refine lv_aload_n hx hb dL_law_616 rfl (lv_at hl 3 rfl) ?_
        refine cs_Wi (ci := 1) (As := []) (rest := [.int r1]) ⟨hx, hb, hml, hown, hts⟩ (mem_traffic l H.size D a2 d2 has wgt lt S w hm) (cwV 0 hts (lw_V q299 q300 q301 q21 q302) rfl rfl rfl (by decide +kernel) ⟨Nat.le_of_ble_eq_true rfl, Nat.le_of_ble_eq_true rfl⟩) hKm hPm hDm hS hA rfl rfl rfl hl.1 rfl (Nat.le_of_ble_eq_true rfl) dL_law_617 ⟨Nat.le_of_ble_eq_true rfl, Nat.le_of_ble_eq_true rfl⟩ (fun r2 v1 H1 locs1 hw2 hPm1 hDm1 hS hk => ?_)
        have hPx2 := law_keep hPx1 (fun i j p q h1 h2 => (hap u1 (has, wgt, lt) j i q p h2 h1).symm) hk
        obtain ⟨A1, e1, hX1⟩ := hw1
        obtain ⟨A2, e2, hM2⟩ := hw2
        obtain ⟨rfl, rfl⟩ := Prod.mk.inj (e1.symm.trans e2)
        refine lv_icmp_eq (tgt := 625) hx hb dL_law_620 (by decide) (fun _ => ?_) (fun c => absurd rfl c)
        exact next A1 u1 v1 hX1 hM2 _ _ hPx2 hDx1 hPm1 hDm1 hS
      · refine lv_tableOut (tgt := 625) hx hb dL_law_62 (Or.inr (by rw [nI_toInt (by omega)]; omega)) (by decide) ?_
        exact next (S, w, lt) (its, wts, szs, exs, snt, org, hit, rnd, lt) (has, wgt, lt) ⟨hi, he, rfl⟩ ⟨hm, rfl⟩ H locs hPx hDx hPm hDm hS
end
section
set_option maxHeartbeats 4000000 in
set_option maxRecDepth 100000 in
/-- from the entry, for every script of at most 259 ints, the law comes to its end with true -/
theorem whole_start {p : Program} {e : Env} {s : State} {m : MethodId} {below : List Frame} {meth : Method} {c : Code} (l : Launch) {b L : Nat} {xs : Nat → Int32} (hL : L ≤ 259) (C0 : lw_At p s m meth c b L xs) : W p l e room_1 s m #[Value.ref b] below meth c s.heap [] 0 0 (lw_Z below #[Value.ref b] s) (entryFrame m ([Value.ref b] : List Value).toArray 4) := by
  obtain ⟨hx, hb, hr, hml, hown, hts0, hX, hbl, hlocks, -⟩ := C0
  have hts : ∀ w ∈ lw_all, w.before #[Value.ref b] s = true := fun w h => hts0 w (lw_all_tbl h)
  obtain ⟨c0_, iS0, hKn0⟩ := u_known (C := RX1) (T := TX1) (N := 9) (n := 9) hts0 (fun w h => lw_all_tbl (in_X1 w h)) (hts0 _ (lw_all_tbl q23))
  obtain ⟨c1_, iS1, hKn1⟩ := u_known (C := RX2) (T := TX2) (N := 3) (n := 3) hts0 (fun w h => lw_all_tbl (in_X2 w h)) (hts0 _ (lw_all_tbl q188))
  obtain ⟨D, hK⟩ : ∃ D : va_G, va_K D vwCl [] s := by
    refine ⟨(fun k => if k = 0 then c0_ else c1_, fun k => if k = 0 then iS0 else iS1), ?_, fun k q h => by simp at h⟩
    intro k q hq
    match k, hq with
    | 0, hq => cases hq; exact hKn0
    | 1, hq => cases hq; exact hKn1
    | k + 2, hq => simp [vwCl] at hq
  obtain ⟨A, hAe⟩ : ∃ A : Nat → Prop, A = fun q => s.heap.size ≤ q := ⟨_, rfl⟩
  have hA : ∀ q : Nat, s.heap.size ≤ q → A q := fun q h => by rw [hAe]; exact h
  have hAf : ∀ q : Nat, A q → s.heap.size ≤ q := fun q h => by rw [hAe] at h; exact h
  have hbA : ¬ A b := fun h => absurd (hAf b h) (Nat.not_le.mpr hbl)
  have hP : va_P D vwCl [] s.heap := fun k q h => by simp at h
  have hD : va_D A [] := ⟨fun i j p q h => by simp at h, fun k q h => by simp at h⟩
  have hS : va_S A s.heap s.heap [] := va_S.rf
  have hl := lv_entry ([.ref b]) (n := 4) (Nat.le_of_ble_eq_true rfl)
  rw [lg_entry_eq]
  generalize (lg_sl ([.ref b]) ++ List.replicate (4 - (lg_sl ([.ref b])).length) Slot.unset).toArray = ls at hl ⊢
  have hl : lv_has ls 4 [(0, .ref b)] := hl
  refine va_new (ci := 0) (fs := nuX) (C := RX1) (T := TX1) (N := 9) hx hb hts in_X1 tyX1 tyX1_ok hown (hts _ q22) (hts _ q23) (hts _ q20) hK hP hD hS hA rfl (fun j hj => by rcases (show j = 0 ∨ j = 1 ∨ j = 2 ∨ j = 3 ∨ j = 4 ∨ j = 5 ∨ j = 6 ∨ j = 7 ∨ j = 8 by omega) with rfl | rfl | rfl | rfl | rfl | rfl | rfl | rfl | rfl <;> rfl) (Nat.le_of_ble_eq_true rfl) (Nat.le_of_ble_eq_true rfl) dL_law_0 (fun o1 H hP hD hS => ?_)
  refine W.widen (k := 1) (n := 9) (Nat.le_of_ble_eq_true rfl) (Nat.le_of_ble_eq_true rfl) ?_
  have hP : va_P D vwCl [(o1, .inr (0, nuX))] H := hP
  have hD : va_D A [(o1, .inr (0, nuX))] := hD
  refine lv_dup hx hb dL_law_3 rfl ?_
  refine lv_aload_n hx hb dL_law_4 rfl (lv_at hl 0 rfl) ?_
  refine lv_iconst (v := nI 0) hx hb dL_law_5 (by decide) ?_
  refine cs_X (As := [.ref b, .int (nI 0)]) (rest := [.ref o1, .ref o1]) ⟨hx, hb, hml, hown, hts⟩ (met_cell l b L xs 0 (by decide) hL) (va_cwS 2 hts (lw_S q184 q185 q19 q186) rfl rfl rfl (by decide +kernel) ⟨Nat.le_of_ble_eq_true rfl, Nat.le_of_ble_eq_true rfl⟩) (hX.kept (hS.2.1 b hbl hbA)) rfl hl.1 rfl (Nat.le_of_ble_eq_true rfl) dL_law_6 ⟨Nat.le_of_ble_eq_true rfl, Nat.le_of_ble_eq_true rfl⟩ (fun x0 _ => ?_)
  refine lv_aload_n hx hb dL_law_9 rfl (lv_at hl 0 rfl) ?_
  refine lv_iconst (v := nI 1) hx hb dL_law_10 (by decide) ?_
  refine cs_X (As := [.ref b, .int (nI 1)]) (rest := [.int x0, .ref o1, .ref o1]) ⟨hx, hb, hml, hown, hts⟩ (met_cell l b L xs 1 (by decide) hL) (va_cwS 2 hts (lw_S q184 q185 q19 q186) rfl rfl rfl (by decide +kernel) ⟨Nat.le_of_ble_eq_true rfl, Nat.le_of_ble_eq_true rfl⟩) (hX.kept (hS.2.1 b hbl hbA)) rfl hl.1 rfl (Nat.le_of_ble_eq_true rfl) dL_law_11 ⟨Nat.le_of_ble_eq_true rfl, Nat.le_of_ble_eq_true rfl⟩ (fun x1 _ => ?_)
  refine lv_aload_n hx hb dL_law_14 rfl (lv_at hl 0 rfl) ?_
  refine lv_iconst (v := nI 2) hx hb dL_law_15 (by decide) ?_
  refine cs_X (As := [.ref b, .int (nI 2)]) (rest := [.int x1, .int x0, .ref o1, .ref o1]) ⟨hx, hb, hml, hown, hts⟩ (met_cell l b L xs 2 (by decide) hL) (va_cwS 2 hts (lw_S q184 q185 q19 q186) rfl rfl rfl (by decide +kernel) ⟨Nat.le_of_ble_eq_true rfl, Nat.le_of_ble_eq_true rfl⟩) (hX.kept (hS.2.1 b hbl hbA)) rfl hl.1 rfl (Nat.le_of_ble_eq_true rfl) dL_law_16 ⟨Nat.le_of_ble_eq_true rfl, Nat.le_of_ble_eq_true rfl⟩ (fun x2 _ => ?_)
  have hPc := hP.sub (ws' := [(o1, .inr (0, nuX))]) [0] rfl
  have hDc := hD.sub (ws' := [(o1, .inr (0, nuX))]) [0] (by decide) rfl
  have hFc := va_free (wc := [(o1, .inr (0, nuX))]) hD hS hA [0] rfl
  refine va_callv (va_runI (As := [.int x0, .int x1, .int x2]) (rest := [.ref o1]) ⟨hx, hb, hml, hown, hts⟩ (met_init l H.size D o1 x0 x1 x2) (cwI 3 hts (lw_meth q26) rfl rfl rfl (hts _ q20) (hts _ q24) (hts _ q25) rfl (by decide +kernel) ⟨Nat.le_of_ble_eq_true rfl, Nat.le_of_ble_eq_true rfl⟩) ⟨fun a U g mk q => by obtain ⟨q0, q1, qP, qK, qD⟩ := q; exact ⟨q0, q1, qP, va_K.moved (u := U) (U := U.calling g mk a) (Vm.Alike.refl U.vm) qK, qD⟩, fun U hU hW => ⟨rfl, by rw [hU], by rw [hU]; exact hPc, va_K.moved hW.alike hK, hDc.weaken (fun _ _ _ _ => trivial)⟩⟩ rfl rfl hl.1 rfl (lv_room (Nat.le_of_ble_eq_true rfl)) dL_law_19 ⟨Nat.le_of_ble_eq_true rfl, Nat.le_of_ble_eq_true rfl⟩) hS (fun q _ h => hFc q h) hFc (fun u t H1 locs ht hvm hw hB hz hk hS => ?_)
  obtain ⟨a, d, its, wts, szs, exs, snt, org, hit, rnd, lt⟩ := u
  obtain ⟨ea, hXV⟩ := hw
  replace ea : a 0 = o1 := ea
  subst ea
  obtain ⟨hP1, hK1, hD1⟩ := hB
  rw [ht] at hP1
  have hKx : va_K D vwCl (tyX d) s := va_K.moved hvm.symm hK1
  have hD1 := hD1.weaken (fun _ _ _ h => hFc _ h)
  clear hP hD hPc hDc hFc hk hz hvm ht hK1
  refine W.widen (k := 8) (n := 223) (Nat.le_of_ble_eq_true rfl) (Nat.le_of_ble_eq_true rfl) ?_
  have hP : va_P D vwCl (wX a d its wts szs exs snt org hit rnd lt) H1 := hP1
  have hD : va_D A (wX a d its wts szs exs snt org hit rnd lt) := hD1
  refine lv_astore_n (lv' := [(1, .ref (a 0)), (0, .ref b)]) hx hb dL_law_22 rfl hl (by decide) rfl (fun ls hl => ?_)
  refine va_new (ci := 1) (fs := nuM) (C := RX2) (T := TX2) (N := 3) hx hb hts in_X2 tyX2 tyX2_ok hown (hts _ q187) (hts _ q188) (hts _ q21) hK hP hD hS hA rfl (fun j hj => by rcases (show j = 0 ∨ j = 1 ∨ j = 2 by omega) with rfl | rfl | rfl <;> rfl) (Nat.le_of_ble_eq_true rfl) (Nat.le_of_ble_eq_true rfl) dL_law_23 (fun o2 H hP hD hS => ?_)
  refine W.widen (k := 9) (n := 226) (Nat.le_of_ble_eq_true rfl) (Nat.le_of_ble_eq_true rfl) ?_
  have hPx := hP.sub (ws' := wX a d its wts szs exs snt org hit rnd lt) [0, 1, 2, 3, 4, 5, 6, 7] rfl
  have hDx := hD.sub (ws' := wX a d its wts szs exs snt org hit rnd lt) [0, 1, 2, 3, 4, 5, 6, 7] (by decide) rfl
  refine lv_dup hx hb dL_law_26 rfl ?_
  refine lv_aload_n hx hb dL_law_27 rfl (lv_at hl 1 rfl) ?_
  refine lv_iconst (v := nI 0) hx hb dL_law_28 (by decide) ?_
  refine cs_X (As := [.ref b, .int (nI 0)]) (rest := [.ref o2, .ref o2]) ⟨hx, hb, hml, hown, hts⟩ (met_cell l b L xs 0 (by decide) hL) (va_cwS 2 hts (lw_S q184 q185 q19 q186) rfl rfl rfl (by decide +kernel) ⟨Nat.le_of_ble_eq_true rfl, Nat.le_of_ble_eq_true rfl⟩) (hX.kept (hS.2.1 b hbl hbA)) rfl hl.1 rfl (Nat.le_of_ble_eq_true rfl) dL_law_29 ⟨Nat.le_of_ble_eq_true rfl, Nat.le_of_ble_eq_true rfl⟩ (fun y0 _ => ?_)
  refine lv_aload_n hx hb dL_law_32 rfl (lv_at hl 1 rfl) ?_
  refine lv_iconst (v := nI 1) hx hb dL_law_33 (by decide) ?_
  refine cs_X (As := [.ref b, .int (nI 1)]) (rest := [.int y0, .ref o2, .ref o2]) ⟨hx, hb, hml, hown, hts⟩ (met_cell l b L xs 1 (by decide) hL) (va_cwS 2 hts (lw_S q184 q185 q19 q186) rfl rfl rfl (by decide +kernel) ⟨Nat.le_of_ble_eq_true rfl, Nat.le_of_ble_eq_true rfl⟩) (hX.kept (hS.2.1 b hbl hbA)) rfl hl.1 rfl (Nat.le_of_ble_eq_true rfl) dL_law_34 ⟨Nat.le_of_ble_eq_true rfl, Nat.le_of_ble_eq_true rfl⟩ (fun y1 _ => ?_)
  refine lv_aload_n hx hb dL_law_37 rfl (lv_at hl 1 rfl) ?_
  refine lv_iconst (v := nI 2) hx hb dL_law_38 (by decide) ?_
  refine cs_X (As := [.ref b, .int (nI 2)]) (rest := [.int y1, .int y0, .ref o2, .ref o2]) ⟨hx, hb, hml, hown, hts⟩ (met_cell l b L xs 2 (by decide) hL) (va_cwS 2 hts (lw_S q184 q185 q19 q186) rfl rfl rfl (by decide +kernel) ⟨Nat.le_of_ble_eq_true rfl, Nat.le_of_ble_eq_true rfl⟩) (hX.kept (hS.2.1 b hbl hbA)) rfl hl.1 rfl (Nat.le_of_ble_eq_true rfl) dL_law_39 ⟨Nat.le_of_ble_eq_true rfl, Nat.le_of_ble_eq_true rfl⟩ (fun y2 _ => ?_)
  have hPc := hP.sub (ws' := [(o2, .inr (1, nuM))]) [8] rfl
  have hDc := hD.sub (ws' := [(o2, .inr (1, nuM))]) [8] (by decide) rfl
  have hFc := va_free (wc := [(o2, .inr (1, nuM))]) hD hS hA [8] rfl
  refine va_callv (va_runI (As := [.int y0, .int y1, .int y2]) (rest := [.ref o2]) ⟨hx, hb, hml, hown, hts⟩ (mem_init l H.size D o2 y0 y1 y2) (cwI 3 hts (lw_meth q191) rfl rfl rfl (hts _ q21) (hts _ q189) (hts _ q190) rfl (by decide +kernel) ⟨Nat.le_of_ble_eq_true rfl, Nat.le_of_ble_eq_true rfl⟩) ⟨fun a U g mk q => by obtain ⟨q0, q1, qP, qK, qD⟩ := q; exact ⟨q0, q1, qP, va_K.moved (u := U) (U := U.calling g mk a) (Vm.Alike.refl U.vm) qK, qD⟩, fun U hU hW => ⟨rfl, by rw [hU], by rw [hU]; exact hPc, va_K.moved hW.alike hK, hDc.weaken (fun _ _ _ _ => trivial)⟩⟩ rfl rfl hl.1 rfl (lv_room (Nat.le_of_ble_eq_true rfl)) dL_law_42 ⟨Nat.le_of_ble_eq_true rfl, Nat.le_of_ble_eq_true rfl⟩) hS (fun q _ h => hFc q h) hFc (fun u t H1 locs ht hvm hw hB hz hk hS => ?_)
  obtain ⟨a2, d2, has, wgt, sen⟩ := u
  obtain ⟨ea, hMV⟩ := hw
  replace ea : a2 0 = o2 := ea
  obtain ⟨hP2, hK2, hD2⟩ := hB
  rw [ht] at hP2
  have hKm : va_K D vwCl (tyM d2) s := va_K.moved hvm.symm hK2
  have hDm := hD2.weaken (fun _ _ _ h => hFc _ h)
  refine W.widen (k := 11) (n := 610) (Nat.le_of_ble_eq_true rfl) (Nat.le_of_ble_eq_true rfl) ?_
  have fX : ∀ (u : XS) (i : Nat) (p : Nat × va_E), (wXu a d u)[i]? = some p → ∃ p0, (wX a d its wts szs exs snt org hit rnd lt)[i]? = some p0 ∧ p0.1 = p.1 := by
    intro u i p h
    match i, h with
    | 0, h => exact ⟨_, rfl, by cases h; rfl⟩
    | 1, h => exact ⟨_, rfl, by cases h; rfl⟩
    | 2, h => exact ⟨_, rfl, by cases h; rfl⟩
    | 3, h => exact ⟨_, rfl, by cases h; rfl⟩
    | 4, h => exact ⟨_, rfl, by cases h; rfl⟩
    | 5, h => exact ⟨_, rfl, by cases h; rfl⟩
    | 6, h => exact ⟨_, rfl, by cases h; rfl⟩
    | 7, h => exact ⟨_, rfl, by cases h; rfl⟩
    | i + 8, h => simp at h
  have fM : ∀ (v : MS) (i : Nat) (p : Nat × va_E), (wMu a2 d2 v)[i]? = some p → ∃ p0, (wMu a2 d2 (has, wgt, sen))[i]? = some p0 ∧ p0.1 = p.1 := by
    intro u i p h
    match i, h with
    | 0, h => exact ⟨_, rfl, by cases h; rfl⟩
    | 1, h => exact ⟨_, rfl, by cases h; rfl⟩
    | 2, h => exact ⟨_, rfl, by cases h; rfl⟩
    | i + 3, h => simp at h
  have hap : ∀ (u : XS) (v : MS) (i j : Nat) (p q : Nat × va_E), (wXu a d u)[i]? = some p → (wMu a2 d2 v)[j]? = some q → p.1 ≠ q.1 := by
    intro u v i j p q hp hq ee
    obtain ⟨p0, h1, h2⟩ := fX u i p hp
    obtain ⟨q0, h3, h4⟩ := fM v j q hq
    have hlt : p0.1 < H.size := (hPx i p0 h1).lt
    rcases hD2.2 j q0 h3 with ⟨k, e', h5⟩ | h5
    · match k, h5 with
      | 0, h5 =>
        have e6 : q0.1 = o2 := by cases h5; rfl
        have hi8 : i < 8 := (List.getElem?_eq_some_iff.mp h1).1
        have h7 : (wX a d its wts szs exs snt org hit rnd lt ++ [(o2, .inr (1, nuM))])[i]? = some p0 := by
          rw [List.getElem?_append_left hi8]
          exact h1
        have h8 := hD.1 i 8 p0 (o2, .inr (1, nuM)) h7 rfl (by rw [h2, ee, ← h4, e6])
        omega
      | k + 1, h5 => simp at h5
    · rw [h2, ee, ← h4] at hlt
      exact absurd hlt (Nat.not_lt.mpr h5)
  have hPx : va_P D vwCl (wX a d its wts szs exs snt org hit rnd lt) H1 := law_keep hPx (w := [(o2, .inr (1, nuM))]) (by
    intro i j p q hp hq ee
    match i, hp with
    | 0, hp =>
      have e6 : p.1 = o2 := by cases hp; rfl
      have hi8 : j < 8 := (List.getElem?_eq_some_iff.mp hq).1
      have h7 : (wX a d its wts szs exs snt org hit rnd lt ++ [(o2, .inr (1, nuM))])[j]? = some q := by
        rw [List.getElem?_append_left hi8]
        exact hq
      have h8 := hD.1 j 8 q (o2, .inr (1, nuM)) h7 rfl (by rw [← ee, e6])
      omega
    | i + 1, hp => simp at hp) hk
  subst ea
  obtain ⟨x1_, x2_, x3_⟩ := hXV
  obtain ⟨z1_, z2_⟩ := hMV
  replace x3_ : 0 = lt := x3_.symm
  replace z2_ : 0 = sen := z2_.symm
  subst x3_
  subst z2_
  refine lv_astore_n (lv' := [(2, .ref (a2 0)), (1, .ref (a 0)), (0, .ref b)]) hx hb dL_law_45 rfl hl (by decide) rfl (fun ls hl => ?_)
  refine lv_iconst (v := nI 3) hx hb dL_law_46 (by decide) ?_
  refine lv_istore_n (lv' := [(3, .int (nI 3)), (2, .ref (a2 0)), (1, .ref (a 0)), (0, .ref b)]) hx hb dL_law_47 rfl hl (by decide) rfl (fun ls hl => ?_)
  exact law_loop l hx hb hr hlocks hml hown hts hL hX hbl hbA hA hAf hKx hKm hap 264 3 (fun _ _ => false) (fun _ _ => 0) its wts szs exs snt org hit rnd 0 has wgt (by omega) (by omega) x1_ x2_ z1_ H1 _ hPx hDx hP2 hDm hS ls (lv_sub hl [0, 3, 2, 1] rfl)
end
section
set_option maxHeartbeats 4000000 in
theorem lw_walk (l : Launch) (b : Addr) (xs : List Int32) : MetFree l x (headSpec (Jvm.Cond.code x code maxLocals ret :: tables_1) room_1) (lw_P b xs) (fun _ _ _ _ _ => True) lw_Q := by
  refine MetFree.of_bodyS (code := code) (maxLocals := maxLocals) (ret := ret) (by decide) ?_ ?_
  · intro args s m h hn
    obtain ⟨meth, c, h1, h2, h3, h4, h5, h6, -, -⟩ := Cond.code_spec hn (atoms_spec (ws := Jvm.Cond.code x code maxLocals ret :: tables_1) h _ List.mem_cons_self)
    exact ⟨meth, c, h1, h2, h3, h4, h5, h6⟩
  · intro p e s m args below meth c s₁ B hml0 hP _
    obtain ⟨rfl, hx, hbd, hgv⟩ := hP
    obtain ⟨scr, harrAt, hlist, hof, hsmall⟩ := hx
    obtain ⟨hcb, hkn, -, -⟩ := State.arrayAt?_spec harrAt
    have hown : s.vm.findClass R_law = some m.cls := findClass_of_methodNamed B.named
    have hts0 : ∀ c ∈ (Jvm.Cond.code x code maxLocals ret :: tables_1), c.before #[Value.ref b] s = true := atoms_spec (ws := Jvm.Cond.code x code maxLocals ret :: tables_1) B.pre
    have hts : ∀ w ∈ lw_tbl, w.before #[Value.ref b] s = true := k2_hts_sels lw_privs (fun w hw => hts0 w (List.mem_cons_of_mem _ hw)) lw_privs_ok
    have hml : c.maxLocals = 4 := B.maxLocals_eq (hts0 _ List.mem_cons_self)
    have X₀ : Stand p l e room_1 s m #[Value.ref b] below meth c s₁ [] 0 0 := Stand.of_body B
    have hh0 : s₁.heap = s.heap := by rw [B.state]; rfl
    have hsz : scr.slots.size = xs.length := by rw [← Array.length_toList, hlist, List.length_map]
    have hval : ∀ j : Nat, j < xs.length → scr.slots[j]? = some (.int (xs.getD j 0)) := fun j hj => by
      rw [← Array.getElem?_toList, hlist]
      simp [hj]
    have hbl : b < s.heap.size := (Array.getElem?_eq_some_iff.mp hcb).1
    have hX : va_X b xs.length (fun j => xs.getD j 0) s s.heap := ⟨scr, hcb, hof, hkn, hsz, hval⟩
    have K : W p l e room_1 s m #[Value.ref b] below meth c s₁.heap [] 0 0 (lw_Z below #[Value.ref b] s) (entryFrame m ([Value.ref b] : List Value).toArray 4) := by
      rw [hh0]
      exact whole_start l hbd ⟨B.exec, B.bytes, B.returns, hml, hown, hts, hX, hbl, B.notSynchronized, hgv⟩
    obtain ⟨t, a1, o, b1, b2, b3⟩ := K s₁ rfl X₀
    exact ⟨t, o, a1, b1, b2, b3⟩
theorem lw_pre_spec {args : Array Value} {s : State} (h : (Jvm.Cond.and given_1 narrow_1).before args s = true) (hr : rest_1_c.before args s = true) : ∃ (b : Addr) (xs : List Int32), lw_P b xs args s := by
  have hs := flat_of_before _ h
  have hq := flat_of_before _ hr
  have hc : (Cond.count 1).before args s = true := hs _ (by decide +kernel)
  have harr : (Cond.arrayOf (.arg 0) .int).before args s = true := hs _ (by decide +kernel)
  have hle : (Cond.le (.length (.arg 0)) (.int 259)).before args s = true := hs _ (by decide +kernel)
  have hlen : (Cond.isInt (.length (.arg 0))).before args s = true := hq _ (by decide +kernel)
  have hall : (Cond.all (.arg 0) (.isInt (.elem (.arg 0) (.index 0)))).before args s = true := hq _ (by decide +kernel)
  obtain ⟨b, xs, hb, hx⟩ := State.ints_of_pre rfl harr hlen hall
  have hsm : xs.length < 2 ^ 31 := hx.choose_spec.2.2.2
  have hev : (Term.length (.arg 0)).eval args s none [] s = some (.int xs.length.toInt32) := hx.length_eval hb
  have hv := Cond.le_ints hev (show (Term.int 259).eval args s none [] s = some (.int 259) from rfl)
  have hd : xs.length.toInt32 ≤ 259 := by
    simpa [Cond.before, Cond.holds, hv] using hle
  have hN : xs.length ≤ 259 := (Int32.ofNat_le_ofNat hsm (by decide)).mp (show Int32.ofNat xs.length ≤ Int32.ofNat 259 from hd)
  exact ⟨b, xs, Cond.one_arg hc (show args[0]? = some (.ref b) from hb), hx, hN, h⟩
theorem lw_comes (l : Launch) : Comes l x (Jvm.Cond.code x code maxLocals ret :: tables_1) room_1 (fun tb e args s => Calls_1 tb e args s ∧ rest_1 tb e args s ∧ Pre_1 tb e args s)
    (fun _ _ args s o t => lw_Q args s o t) := by
  intro p e ha hc hk s m args below hf hfit hheap happ hpre
  obtain ⟨b, xs, hP⟩ := lw_pre_spec hpre.2.2 hpre.2.1
  obtain ⟨k, o, h1, h2, h3, hQ⟩ := lw_walk l b xs p e ha hc hk s m args below hf ((Spec.applies_iff_loose hf).mp happ).1 hP trivial
  exact ⟨k, o, h1, h2, h3, hQ⟩
theorem lw_frame {s t : State} {o : Outcome} {args : Array Value} (h : Framed s o t [] 600000 7290000) :
    Framed s o t (fieldLocs frame_1_writes args s ++ arrayLocs frame_1_arrays args s ++ staticLocs frame_1_statics s) 600000 7290000 := h
theorem lw_limb (L : Cond) (hL : ∀ (args : Array Value) (s t : State), L.after args s (.returned (some (.int 1))) t = true) :
    ArmFor flags0 classFile x code maxLocals ret World_1 tables_1 room_1 Calls_1 rest_1 Pre_1
      (fun tb e a s o t => postC L tb e a s o t ∧ Framed s o t (fieldLocs frame_1_writes a s ++ arrayLocs frame_1_arrays a s ++ staticLocs frame_1_statics s) 600000 7290000) := by
  intro l _ _ _ p e ha hc hk s m args below hf hfit hheap happ hpre
  obtain ⟨k, o, h1, h2, h3, rfl, hF⟩ := lw_comes l p e ha hc hk s m args below hf hfit hheap happ hpre
  exact ⟨k, _, h1, h2, h3, hL args s _, lw_frame hF⟩
theorem i_vc : Claimed_1_1 ∧ Claimed_1_2 := ⟨lw_limb limb_1_1 (fun args s t => by simp [limb_1_1, Cond.after, Cond.holds, Cond.value]), lw_limb limb_1_2 (fun args s t => Cond.after_iff.mpr (by
  first | (rw [show limb_1_2 = Cond.eq .result (.int 1) from rfl, Cond.eq_ints (x := 1) (y := 1) rfl rfl]; simp; done) | (simp [limb_1_2, Cond.value, Term.eval]; done)))⟩
end
