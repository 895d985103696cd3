section
-- ===== PART A: goes FIRST, ahead of the names: the tables' words, and 'selects' of the private methods out of them =====
/-- a private method of a class that the tables say can be made, by its rows of tables_1 -/
def lw_okq (q : MethodName × Nat) : Prop := (q.1.cls ≠ "java/lang/invoke/MethodHandle" ∧ q.1.cls ≠ "java/lang/invoke/VarHandle") ∧ Cond.instantiable q.1.cls q.2 ∈ tables_1 ∧ Cond.privateMethod q.1 ∈ tables_1 ∧ Cond.instanceMethod q.1 ∈ tables_1
set_option maxRecDepth 100000
theorem lw_t1 {w : Cond} (h : w ∈ tables_1_1) : w ∈ tables_1 := List.mem_append_left _ h
theorem lw_t2 {w : Cond} (h : w ∈ tables_1_2) : w ∈ tables_1 := List.mem_append_right _ h
theorem lw_p0 : lw_okq (⟨"InsolvencyPool", "isCreditor", "(I)Z"⟩, 9) := ⟨⟨by decide +kernel, by decide +kernel⟩, lw_t1 (List.mem_of_getElem? (i := 4) rfl), lw_t1 (List.mem_of_getElem? (i := 52) rfl), lw_t1 (List.mem_of_getElem? (i := 53) rfl)⟩
theorem lw_p1 : lw_okq (⟨"InsolvencyPool", "shareOut", "(I)V"⟩, 9) := ⟨⟨by decide +kernel, by decide +kernel⟩, lw_t1 (List.mem_of_getElem? (i := 4) rfl), lw_t1 (List.mem_of_getElem? (i := 87) rfl), lw_t1 (List.mem_of_getElem? (i := 88) rfl)⟩
theorem lw_p2 : lw_okq (⟨"InsolvencyPool", "total", "(I)I"⟩, 9) := ⟨⟨by decide +kernel, by decide +kernel⟩, lw_t1 (List.mem_of_getElem? (i := 4) rfl), lw_t1 (List.mem_of_getElem? (i := 91) rfl), lw_t1 (List.mem_of_getElem? (i := 92) rfl)⟩
theorem lw_p3 : lw_okq (⟨"InsolvencyPool", "shareRank", "(III)V"⟩, 9) := ⟨⟨by decide +kernel, by decide +kernel⟩, lw_t1 (List.mem_of_getElem? (i := 4) rfl), lw_t1 (List.mem_of_getElem? (i := 95) rfl), lw_t1 (List.mem_of_getElem? (i := 96) rfl)⟩
theorem lw_p4 : lw_okq (⟨"InsolvencyPool", "takeLimits", "(IZ)V"⟩, 9) := ⟨⟨by decide +kernel, by decide +kernel⟩, lw_t1 (List.mem_of_getElem? (i := 4) rfl), lw_t1 (List.mem_of_getElem? (i := 99) rfl), lw_t1 (List.mem_of_getElem? (i := 100) rfl)⟩
theorem lw_p5 : lw_okq (⟨"InsolvencyPool", "award", "(I)V"⟩, 9) := ⟨⟨by decide +kernel, by decide +kernel⟩, lw_t1 (List.mem_of_getElem? (i := 4) rfl), lw_t1 (List.mem_of_getElem? (i := 103) rfl), lw_t1 (List.mem_of_getElem? (i := 104) rfl)⟩
theorem lw_p6 : lw_okq (⟨"InsolvencyPool", "awarded", "(I)I"⟩, 9) := ⟨⟨by decide +kernel, by decide +kernel⟩, lw_t1 (List.mem_of_getElem? (i := 4) rfl), lw_t1 (List.mem_of_getElem? (i := 107) rfl), lw_t1 (List.mem_of_getElem? (i := 108) rfl)⟩
theorem lw_p7 : lw_okq (⟨"InsolvencyPool", "lose", "(I)V"⟩, 9) := ⟨⟨by decide +kernel, by decide +kernel⟩, lw_t1 (List.mem_of_getElem? (i := 4) rfl), lw_t1 (List.mem_of_getElem? (i := 111) rfl), lw_t1 (List.mem_of_getElem? (i := 112) rfl)⟩
theorem lw_p8 : lw_okq (⟨"InsolvencyPool", "lost", "(I)I"⟩, 9) := ⟨⟨by decide +kernel, by decide +kernel⟩, lw_t1 (List.mem_of_getElem? (i := 4) rfl), lw_t1 (List.mem_of_getElem? (i := 115) rfl), lw_t1 (List.mem_of_getElem? (i := 116) rfl)⟩
theorem lw_p9 : lw_okq (⟨"InsolvencyPool", "quotas", "(III)V"⟩, 9) := ⟨⟨by decide +kernel, by decide +kernel⟩, lw_t1 (List.mem_of_getElem? (i := 4) rfl), lw_t1 (List.mem_of_getElem? (i := 119) rfl), lw_t1 (List.mem_of_getElem? (i := 120) rfl)⟩
theorem lw_p10 : lw_okq (⟨"InsolvencyPool", "isGreater", "(II)Z"⟩, 9) := ⟨⟨by decide +kernel, by decide +kernel⟩, lw_t1 (List.mem_of_getElem? (i := 4) rfl), lw_t1 (List.mem_of_getElem? (i := 123) rfl), lw_t1 (List.mem_of_getElem? (i := 124) rfl)⟩
theorem lw_p11 : lw_okq (⟨"InsolvencyPoolModel", "badClaim", "(I)Z"⟩, 6) := ⟨⟨by decide +kernel, by decide +kernel⟩, lw_t1 (List.mem_of_getElem? (i := 163) rfl), lw_t1 (List.mem_of_getElem? (i := 192) rfl), lw_t1 (List.mem_of_getElem? (i := 193) rfl)⟩
theorem lw_p12 : lw_okq (⟨"InsolvencyPoolModel", "badRank", "(I)Z"⟩, 6) := ⟨⟨by decide +kernel, by decide +kernel⟩, lw_t1 (List.mem_of_getElem? (i := 163) rfl), lw_t1 (List.mem_of_getElem? (i := 196) rfl), lw_t1 (List.mem_of_getElem? (i := 197) rfl)⟩
theorem lw_p13 : lw_okq (⟨"InsolvencyPoolModel", "bad", "(I)Z"⟩, 6) := ⟨⟨by decide +kernel, by decide +kernel⟩, lw_t1 (List.mem_of_getElem? (i := 163) rfl), lw_t1 (List.mem_of_getElem? (i := 204) rfl), lw_t1 (List.mem_of_getElem? (i := 205) rfl)⟩
theorem lw_p14 : lw_okq (⟨"InsolvencyPoolModel", "hand", "(III)I"⟩, 6) := ⟨⟨by decide +kernel, by decide +kernel⟩, lw_t1 (List.mem_of_getElem? (i := 163) rfl), lw_t1 (List.mem_of_getElem? (i := 236) rfl), lw_t1 (List.mem_of_getElem? (i := 237) rfl)⟩
theorem lw_p15 : lw_okq (⟨"InsolvencyPoolModel", "chosen", "(II)I"⟩, 6) := ⟨⟨by decide +kernel, by decide +kernel⟩, lw_t1 (List.mem_of_getElem? (i := 163) rfl), lw_t2 (List.mem_of_getElem? (i := 0) rfl), lw_t2 (List.mem_of_getElem? (i := 1) rfl)⟩
def lw_privs_1 : List (MethodName × Nat) := [(⟨"InsolvencyPool", "isCreditor", "(I)Z"⟩, 9), (⟨"InsolvencyPool", "shareOut", "(I)V"⟩, 9), (⟨"InsolvencyPool", "total", "(I)I"⟩, 9), (⟨"InsolvencyPool", "shareRank", "(III)V"⟩, 9), (⟨"InsolvencyPool", "takeLimits", "(IZ)V"⟩, 9), (⟨"InsolvencyPool", "award", "(I)V"⟩, 9), (⟨"InsolvencyPool", "awarded", "(I)I"⟩, 9), (⟨"InsolvencyPool", "lose", "(I)V"⟩, 9), (⟨"InsolvencyPool", "lost", "(I)I"⟩, 9), (⟨"InsolvencyPool", "quotas", "(III)V"⟩, 9), (⟨"InsolvencyPool", "isGreater", "(II)Z"⟩, 9), (⟨"InsolvencyPoolModel", "badClaim", "(I)Z"⟩, 6), (⟨"InsolvencyPoolModel", "badRank", "(I)Z"⟩, 6), (⟨"InsolvencyPoolModel", "bad", "(I)Z"⟩, 6), (⟨"InsolvencyPoolModel", "hand", "(III)I"⟩, 6), (⟨"InsolvencyPoolModel", "chosen", "(II)I"⟩, 6)]
theorem lw_r1 : ∀ q ∈ lw_privs_1, lw_okq q := List.forall_mem_cons.mpr ⟨lw_p0, List.forall_mem_cons.mpr ⟨lw_p1, List.forall_mem_cons.mpr ⟨lw_p2, List.forall_mem_cons.mpr ⟨lw_p3, List.forall_mem_cons.mpr ⟨lw_p4, List.forall_mem_cons.mpr ⟨lw_p5, List.forall_mem_cons.mpr ⟨lw_p6, List.forall_mem_cons.mpr ⟨lw_p7, List.forall_mem_cons.mpr ⟨lw_p8, List.forall_mem_cons.mpr ⟨lw_p9, List.forall_mem_cons.mpr ⟨lw_p10, List.forall_mem_cons.mpr ⟨lw_p11, List.forall_mem_cons.mpr ⟨lw_p12, List.forall_mem_cons.mpr ⟨lw_p13, List.forall_mem_cons.mpr ⟨lw_p14, List.forall_mem_cons.mpr ⟨lw_p15, fun _ h => absurd h List.not_mem_nil⟩⟩⟩⟩⟩⟩⟩⟩⟩⟩⟩⟩⟩⟩⟩⟩
theorem lw_p16 : lw_okq (⟨"InsolvencyPoolModel", "openRank", "()I"⟩, 6) := ⟨⟨by decide +kernel, by decide +kernel⟩, lw_t1 (List.mem_of_getElem? (i := 163) rfl), lw_t2 (List.mem_of_getElem? (i := 4) rfl), lw_t2 (List.mem_of_getElem? (i := 5) rfl)⟩
theorem lw_p17 : lw_okq (⟨"InsolvencyPoolModel", "before", "(IIIZ)Z"⟩, 6) := ⟨⟨by decide +kernel, by decide +kernel⟩, lw_t1 (List.mem_of_getElem? (i := 163) rfl), lw_t2 (List.mem_of_getElem? (i := 8) rfl), lw_t2 (List.mem_of_getElem? (i := 9) rfl)⟩
def lw_privs_2 : List (MethodName × Nat) := [(⟨"InsolvencyPoolModel", "openRank", "()I"⟩, 6), (⟨"InsolvencyPoolModel", "before", "(IIIZ)Z"⟩, 6)]
theorem lw_r2 : ∀ q ∈ lw_privs_2, lw_okq q := List.forall_mem_cons.mpr ⟨lw_p16, List.forall_mem_cons.mpr ⟨lw_p17, fun _ h => absurd h List.not_mem_nil⟩⟩
def lw_privs : List (MethodName × Nat) := lw_privs_1 ++ (lw_privs_2)
def lw_tbl : List Cond := k2_sels lw_privs ++ tables_1
theorem lw_privs_ok : ∀ q ∈ lw_privs, lw_okq q := by
  show ∀ q ∈ lw_privs_1 ++ (lw_privs_2), lw_okq q
  exact List.forall_mem_append.mpr ⟨lw_r1, lw_r2⟩
-- ===== ONE list of words for every method: the tables' words that hold all through a run =====
def lw_all : List Cond := lw_tbl.filter goodWord
/-- a word of the tables by its place: claim/WORDS.tsv -/
theorem lw_w {w : Cond} (i : Nat) (h : lw_tbl[i]? = some w) (g : goodWord w = true) : w ∈ lw_all := List.mem_filter.mpr ⟨List.mem_of_getElem? h, g⟩
theorem lw_all_tbl {w : Cond} (h : w ∈ lw_all) : w ∈ lw_tbl := (List.mem_filter.mp h).1
theorem lw_self : GoodIn lw_all lw_all := fun w h => ⟨h, good_of_word (List.mem_filter.mp h).2⟩
/-- a class's field words, by their places -/
theorem lw_in (ws : List Cond) (ps : List Nat) (hp : ws = ps.filterMap (fun i => lw_tbl[i]?)) (hg : ws.all goodWord = true) : ∀ w ∈ ws, w ∈ lw_all := by
  intro w h
  have h1 := List.all_eq_true.mp hg w h
  rw [hp] at h
  obtain ⟨i, -, hi⟩ := List.mem_filterMap.mp h
  exact lw_w i hi h1
/-- the words of a contract for the method y with code b, L locals, answer r -/
abbrev ws_ (y : MethodName) (b : ByteArray) (L : Nat) (r : Option FieldType) : List Cond := Cond.code y b L r :: lw_all
theorem lw_meth {y : MethodName} {b : ByteArray} {L : Nat} {r : Option FieldType} (h : Cond.code y b L r ∈ lw_all) : GoodIn lw_all (ws_ y b L r) := by
  intro w hw
  rcases List.mem_cons.mp hw with e | e
  · rw [e]
    exact lw_self _ h
  · exact lw_self _ e
theorem lw_app {a c : List Cond} (ha : ∀ w ∈ a, w ∈ lw_all) (hc : GoodIn lw_all c) : GoodIn lw_all (a ++ c) := by
  intro w hw
  rcases List.mem_append.mp hw with e | e
  · exact lw_self w (ha w e)
  · exact hc w e
/-- what a call through an object asks: cwV n hts (lw_V ..) -/
theorem lw_V {own : String} {idx : Nat} {C : String} {y : MethodName} {b : ByteArray} {L : Nat} {r : Option FieldType} (h1 : Cond.methodLink own idx y ∈ lw_all) (h2 : Cond.instanceMethod y ∈ lw_all) (h3 : Cond.selects C y y ∈ lw_all) (h4 : Cond.initialized C ∈ lw_all) (h5 : Cond.code y b L r ∈ lw_all) : GoodIn lw_all (wsV own idx C y (ws_ y b L r)) := by
  refine lw_app ?_ (lw_meth h5)
  intro w hw
  simp only [List.mem_cons, List.not_mem_nil, or_false] at hw
  rcases hw with e | e | e | e
  · rw [e]; exact h1
  · rw [e]; exact h2
  · rw [e]; exact h3
  · rw [e]; exact h4
/-- what a static call asks: va_cwS n hts (lw_S ..) -/
theorem lw_S {own : String} {idx : Nat} {y : MethodName} {b : ByteArray} {L : Nat} {r : Option FieldType} (h1 : Cond.methodLink own idx y ∈ lw_all) (h2 : Cond.static y ∈ lw_all) (h3 : Cond.initialized y.cls ∈ lw_all) (h4 : Cond.code y b L r ∈ lw_all) : GoodIn lw_all (va_wsS own idx y (ws_ y b L r)) := by
  refine lw_app ?_ (lw_meth h4)
  intro w hw
  simp only [List.mem_cons, List.not_mem_nil, or_false] at hw
  rcases hw with e | e | e
  · rw [e]; exact h1
  · rw [e]; exact h2
  · rw [e]; exact h3
/-- the words of a contract for a method WITH HANDLERS (hh: its table) -/
abbrev wsW_ (y : MethodName) (b : ByteArray) (L : Nat) (r : Option FieldType) (hh : List (Nat × Nat × Nat × Nat)) : List Cond := Cond.codeWith y b L r hh :: lw_all
theorem lw_methW {y : MethodName} {b : ByteArray} {L : Nat} {r : Option FieldType} {hh : List (Nat × Nat × Nat × Nat)} (h : Cond.codeWith y b L r hh ∈ lw_all) : GoodIn lw_all (wsW_ y b L r hh) := by
  intro w hw
  rcases List.mem_cons.mp hw with e | e
  · rw [e]
    exact lw_self _ h
  · exact lw_self _ e
/-- any list of words by their places (lw_in), good -/
theorem lw_good {ws : List Cond} (h : ∀ w ∈ ws, w ∈ lw_all) : GoodIn lw_all ws := fun w hw => lw_self w (h w hw)
/-- what a call of a method with handlers asks: vx_cwVW n hts (lw_VW ..), vx_cwSW n hts (lw_SW ..) -/
theorem lw_VW {own : String} {idx : Nat} {C : String} {y : MethodName} {b : ByteArray} {L : Nat} {r : Option FieldType} {hh : List (Nat × Nat × Nat × Nat)} (h1 : Cond.methodLink own idx y ∈ lw_all) (h2 : Cond.instanceMethod y ∈ lw_all) (h3 : Cond.selects C y y ∈ lw_all) (h4 : Cond.initialized C ∈ lw_all) (h5 : Cond.codeWith y b L r hh ∈ lw_all) : GoodIn lw_all (wsV own idx C y (wsW_ y b L r hh)) := by
  refine lw_app ?_ (lw_methW h5)
  intro w hw
  simp only [List.mem_cons, List.not_mem_nil, or_false] at hw
  rcases hw with e | e | e | e
  · rw [e]; exact h1
  · rw [e]; exact h2
  · rw [e]; exact h3
  · rw [e]; exact h4
theorem lw_SW {own : String} {idx : Nat} {y : MethodName} {b : ByteArray} {L : Nat} {r : Option FieldType} {hh : List (Nat × Nat × Nat × Nat)} (h1 : Cond.methodLink own idx y ∈ lw_all) (h2 : Cond.static y ∈ lw_all) (h3 : Cond.initialized y.cls ∈ lw_all) (h4 : Cond.codeWith y b L r hh ∈ lw_all) : GoodIn lw_all (va_wsS own idx y (wsW_ y b L r hh)) := by
  refine lw_app ?_ (lw_methW h4)
  intro w hw
  simp only [List.mem_cons, List.not_mem_nil, or_false] at hw
  rcases hw with e | e | e
  · rw [e]; exact h1
  · rw [e]; exact h2
  · rw [e]; exact h3
/-- a word by its place in its run of the tables -/
theorem lw_at {r : List Cond} (hr : ∀ w ∈ r, w ∈ lw_tbl) {w : Cond} (i : Nat) (h : r[i]? = some w) : w ∈ lw_tbl := hr w (List.mem_of_getElem? h)
theorem lw_g {w : Cond} (h : w ∈ lw_tbl) (g : goodWord w = true) : w ∈ lw_all := List.mem_filter.mpr ⟨h, g⟩
theorem lw_ms : ∀ w ∈ k2_sels lw_privs, w ∈ lw_tbl := fun w h => show w ∈ k2_sels lw_privs ++ tables_1 from List.mem_append_left _ h
theorem lw_m1 : ∀ w ∈ tables_1_1, w ∈ lw_tbl := fun w h => show w ∈ k2_sels lw_privs ++ tables_1 from List.mem_append_right (k2_sels lw_privs) (show w ∈ tables_1 from List.mem_append_left _ h)
theorem lw_m2 : ∀ w ∈ tables_1_2, w ∈ lw_tbl := fun w h => show w ∈ k2_sels lw_privs ++ tables_1 from List.mem_append_right (k2_sels lw_privs) (show w ∈ tables_1 from List.mem_append_right _ h)
theorem qs0 : (Cond.selects "InsolvencyPool" ⟨"InsolvencyPool", "isCreditor", "(I)Z"⟩ ⟨"InsolvencyPool", "isCreditor", "(I)Z"⟩) ∈ lw_all := lw_g (lw_at lw_ms 0 rfl) rfl
theorem qs1 : (Cond.selects "InsolvencyPool" ⟨"InsolvencyPool", "shareOut", "(I)V"⟩ ⟨"InsolvencyPool", "shareOut", "(I)V"⟩) ∈ lw_all := lw_g (lw_at lw_ms 1 rfl) rfl
theorem qs2 : (Cond.selects "InsolvencyPool" ⟨"InsolvencyPool", "total", "(I)I"⟩ ⟨"InsolvencyPool", "total", "(I)I"⟩) ∈ lw_all := lw_g (lw_at lw_ms 2 rfl) rfl
theorem qs3 : (Cond.selects "InsolvencyPool" ⟨"InsolvencyPool", "shareRank", "(III)V"⟩ ⟨"InsolvencyPool", "shareRank", "(III)V"⟩) ∈ lw_all := lw_g (lw_at lw_ms 3 rfl) rfl
theorem qs4 : (Cond.selects "InsolvencyPool" ⟨"InsolvencyPool", "takeLimits", "(IZ)V"⟩ ⟨"InsolvencyPool", "takeLimits", "(IZ)V"⟩) ∈ lw_all := lw_g (lw_at lw_ms 4 rfl) rfl
theorem qs5 : (Cond.selects "InsolvencyPool" ⟨"InsolvencyPool", "award", "(I)V"⟩ ⟨"InsolvencyPool", "award", "(I)V"⟩) ∈ lw_all := lw_g (lw_at lw_ms 5 rfl) rfl
theorem qs6 : (Cond.selects "InsolvencyPool" ⟨"InsolvencyPool", "awarded", "(I)I"⟩ ⟨"InsolvencyPool", "awarded", "(I)I"⟩) ∈ lw_all := lw_g (lw_at lw_ms 6 rfl) rfl
theorem qs7 : (Cond.selects "InsolvencyPool" ⟨"InsolvencyPool", "lose", "(I)V"⟩ ⟨"InsolvencyPool", "lose", "(I)V"⟩) ∈ lw_all := lw_g (lw_at lw_ms 7 rfl) rfl
theorem qs8 : (Cond.selects "InsolvencyPool" ⟨"InsolvencyPool", "lost", "(I)I"⟩ ⟨"InsolvencyPool", "lost", "(I)I"⟩) ∈ lw_all := lw_g (lw_at lw_ms 8 rfl) rfl
theorem qs9 : (Cond.selects "InsolvencyPool" ⟨"InsolvencyPool", "quotas", "(III)V"⟩ ⟨"InsolvencyPool", "quotas", "(III)V"⟩) ∈ lw_all := lw_g (lw_at lw_ms 9 rfl) rfl
theorem qs10 : (Cond.selects "InsolvencyPool" ⟨"InsolvencyPool", "isGreater", "(II)Z"⟩ ⟨"InsolvencyPool", "isGreater", "(II)Z"⟩) ∈ lw_all := lw_g (lw_at lw_ms 10 rfl) rfl
theorem qs11 : (Cond.selects "InsolvencyPoolModel" ⟨"InsolvencyPoolModel", "badClaim", "(I)Z"⟩ ⟨"InsolvencyPoolModel", "badClaim", "(I)Z"⟩) ∈ lw_all := lw_g (lw_at lw_ms 11 rfl) rfl
theorem qs12 : (Cond.selects "InsolvencyPoolModel" ⟨"InsolvencyPoolModel", "badRank", "(I)Z"⟩ ⟨"InsolvencyPoolModel", "badRank", "(I)Z"⟩) ∈ lw_all := lw_g (lw_at lw_ms 12 rfl) rfl
theorem qs13 : (Cond.selects "InsolvencyPoolModel" ⟨"InsolvencyPoolModel", "bad", "(I)Z"⟩ ⟨"InsolvencyPoolModel", "bad", "(I)Z"⟩) ∈ lw_all := lw_g (lw_at lw_ms 13 rfl) rfl
theorem qs14 : (Cond.selects "InsolvencyPoolModel" ⟨"InsolvencyPoolModel", "hand", "(III)I"⟩ ⟨"InsolvencyPoolModel", "hand", "(III)I"⟩) ∈ lw_all := lw_g (lw_at lw_ms 14 rfl) rfl
theorem qs15 : (Cond.selects "InsolvencyPoolModel" ⟨"InsolvencyPoolModel", "chosen", "(II)I"⟩ ⟨"InsolvencyPoolModel", "chosen", "(II)I"⟩) ∈ lw_all := lw_g (lw_at lw_ms 15 rfl) rfl
theorem qs16 : (Cond.selects "InsolvencyPoolModel" ⟨"InsolvencyPoolModel", "openRank", "()I"⟩ ⟨"InsolvencyPoolModel", "openRank", "()I"⟩) ∈ lw_all := lw_g (lw_at lw_ms 16 rfl) rfl
theorem qs17 : (Cond.selects "InsolvencyPoolModel" ⟨"InsolvencyPoolModel", "before", "(IIIZ)Z"⟩ ⟨"InsolvencyPoolModel", "before", "(IIIZ)Z"⟩) ∈ lw_all := lw_g (lw_at lw_ms 17 rfl) rfl
end
section
/-! InsolvencyPool -/
set_option maxRecDepth 100000
def RX0 : String := "InsolvencyPool"
def TX0 : u_T := fun k => match k with
  | 0 => ("InsolvencyPool", "wanted", "[I", true)
  | 1 => ("InsolvencyPool", "rankOf", "[I", true)
  | 2 => ("InsolvencyPool", "rules", "[I", true)
  | 3 => ("InsolvencyPool", "got", "[I", true)
  | 4 => ("InsolvencyPool", "limit", "[I", true)
  | 5 => ("InsolvencyPool", "earlier", "[I", true)
  | 6 => ("InsolvencyPool", "count", "I", false)
  | 7 => ("InsolvencyPool", "pot", "I", false)
  | _ => ("InsolvencyPool", "over", "I", false)
def tyX0 : Nat → FieldType := fun k => match k with
  | 0 => .array .int
  | 1 => .array .int
  | 2 => .array .int
  | 3 => .array .int
  | 4 => .array .int
  | 5 => .array .int
  | 6 => .int
  | 7 => .int
  | _ => .int
abbrev wsX00 : List Cond := u_ws RX0 TX0 9
theorem nmX0 : ∀ a, a < 9 → ∀ b, b < 9 → a ≠ b → (TX0 a).2.1 ≠ (TX0 b).2.1 := by decide +kernel
theorem tyX0_ok : ∀ k, k < 9 → parseFieldDescriptor (TX0 k).2.2.1 = some (tyX0 k) := by decide +kernel
abbrev cX0_init : ByteArray := prog_1_method_1_code
def yX0_init : MethodName := ⟨RX0, "<init>", "()V"⟩
theorem dX0_init_0 : decode cX0_init 0 = .ok (.aload_n 0, 1) := by decide +kernel
theorem dX0_init_1 : decode cX0_init 1 = .ok (.invokespecial 1, 3) := by decide +kernel
theorem dX0_init_4 : decode cX0_init 4 = .ok (.aload_n 0, 1) := by decide +kernel
theorem dX0_init_5 : decode cX0_init 5 = .ok (.bipush 8, 2) := by decide +kernel
theorem dX0_init_7 : decode cX0_init 7 = .ok (.newarray .int, 2) := by decide +kernel
theorem dX0_init_9 : decode cX0_init 9 = .ok (.putfield 7, 3) := by decide +kernel
theorem dX0_init_12 : decode cX0_init 12 = .ok (.aload_n 0, 1) := by decide +kernel
theorem dX0_init_13 : decode cX0_init 13 = .ok (.bipush 8, 2) := by decide +kernel
theorem dX0_init_15 : decode cX0_init 15 = .ok (.newarray .int, 2) := by decide +kernel
theorem dX0_init_17 : decode cX0_init 17 = .ok (.putfield 13, 3) := by decide +kernel
theorem dX0_init_20 : decode cX0_init 20 = .ok (.aload_n 0, 1) := by decide +kernel
theorem dX0_init_21 : decode cX0_init 21 = .ok (.iconst 4, 1) := by decide +kernel
theorem dX0_init_22 : decode cX0_init 22 = .ok (.newarray .int, 2) := by decide +kernel
theorem dX0_init_24 : decode cX0_init 24 = .ok (.putfield 16, 3) := by decide +kernel
theorem dX0_init_27 : decode cX0_init 27 = .ok (.aload_n 0, 1) := by decide +kernel
theorem dX0_init_28 : decode cX0_init 28 = .ok (.bipush 8, 2) := by decide +kernel
theorem dX0_init_30 : decode cX0_init 30 = .ok (.newarray .int, 2) := by decide +kernel
theorem dX0_init_32 : decode cX0_init 32 = .ok (.putfield 19, 3) := by decide +kernel
theorem dX0_init_35 : decode cX0_init 35 = .ok (.aload_n 0, 1) := by decide +kernel
theorem dX0_init_36 : decode cX0_init 36 = .ok (.bipush 8, 2) := by decide +kernel
theorem dX0_init_38 : decode cX0_init 38 = .ok (.newarray .int, 2) := by decide +kernel
theorem dX0_init_40 : decode cX0_init 40 = .ok (.putfield 22, 3) := by decide +kernel
theorem dX0_init_43 : decode cX0_init 43 = .ok (.aload_n 0, 1) := by decide +kernel
theorem dX0_init_44 : decode cX0_init 44 = .ok (.bipush 8, 2) := by decide +kernel
theorem dX0_init_46 : decode cX0_init 46 = .ok (.newarray .int, 2) := by decide +kernel
theorem dX0_init_48 : decode cX0_init 48 = .ok (.putfield 25, 3) := by decide +kernel
theorem dX0_init_51 : decode cX0_init 51 = .ok (.aload_n 0, 1) := by decide +kernel
theorem dX0_init_52 : decode cX0_init 52 = .ok (.iconst 0, 1) := by decide +kernel
theorem dX0_init_53 : decode cX0_init 53 = .ok (.putfield 28, 3) := by decide +kernel
theorem dX0_init_56 : decode cX0_init 56 = .ok (.return_, 1) := by decide +kernel
abbrev cX0_add : ByteArray := prog_1_method_2_code
def yX0_add : MethodName := ⟨RX0, "add", "(II)I"⟩
theorem dX0_add_0 : decode cX0_add 0 = .ok (.iload_n 1, 1) := by decide +kernel
theorem dX0_add_1 : decode cX0_add 1 = .ok (.ifCond .lt 10, 3) := by decide +kernel
theorem dX0_add_4 : decode cX0_add 4 = .ok (.iload_n 1, 1) := by decide +kernel
theorem dX0_add_5 : decode cX0_add 5 = .ok (.sipush 150, 3) := by decide +kernel
theorem dX0_add_8 : decode cX0_add 8 = .ok (.if_icmp .le 5, 3) := by decide +kernel
theorem dX0_add_11 : decode cX0_add 11 = .ok (.iconst (-1), 1) := by decide +kernel
theorem dX0_add_12 : decode cX0_add 12 = .ok (.ireturn, 1) := by decide +kernel
theorem dX0_add_13 : decode cX0_add 13 = .ok (.iload_n 2, 1) := by decide +kernel
theorem dX0_add_14 : decode cX0_add 14 = .ok (.invokestatic 32, 3) := by decide +kernel
theorem dX0_add_17 : decode cX0_add 17 = .ok (.ifCond .ne 6, 3) := by decide +kernel
theorem dX0_add_20 : decode cX0_add 20 = .ok (.bipush (-2), 2) := by decide +kernel
theorem dX0_add_22 : decode cX0_add 22 = .ok (.ireturn, 1) := by decide +kernel
theorem dX0_add_23 : decode cX0_add 23 = .ok (.aload_n 0, 1) := by decide +kernel
theorem dX0_add_24 : decode cX0_add 24 = .ok (.getfield 28, 3) := by decide +kernel
theorem dX0_add_27 : decode cX0_add 27 = .ok (.bipush 8, 2) := by decide +kernel
theorem dX0_add_29 : decode cX0_add 29 = .ok (.if_icmp .ne 6, 3) := by decide +kernel
theorem dX0_add_32 : decode cX0_add 32 = .ok (.bipush (-3), 2) := by decide +kernel
theorem dX0_add_34 : decode cX0_add 34 = .ok (.ireturn, 1) := by decide +kernel
theorem dX0_add_35 : decode cX0_add 35 = .ok (.aload_n 0, 1) := by decide +kernel
theorem dX0_add_36 : decode cX0_add 36 = .ok (.getfield 7, 3) := by decide +kernel
theorem dX0_add_39 : decode cX0_add 39 = .ok (.aload_n 0, 1) := by decide +kernel
theorem dX0_add_40 : decode cX0_add 40 = .ok (.getfield 28, 3) := by decide +kernel
theorem dX0_add_43 : decode cX0_add 43 = .ok (.iload_n 1, 1) := by decide +kernel
theorem dX0_add_44 : decode cX0_add 44 = .ok (.iastore, 1) := by decide +kernel
theorem dX0_add_45 : decode cX0_add 45 = .ok (.aload_n 0, 1) := by decide +kernel
theorem dX0_add_46 : decode cX0_add 46 = .ok (.getfield 13, 3) := by decide +kernel
theorem dX0_add_49 : decode cX0_add 49 = .ok (.aload_n 0, 1) := by decide +kernel
theorem dX0_add_50 : decode cX0_add 50 = .ok (.getfield 28, 3) := by decide +kernel
theorem dX0_add_53 : decode cX0_add 53 = .ok (.iload_n 2, 1) := by decide +kernel
theorem dX0_add_54 : decode cX0_add 54 = .ok (.iastore, 1) := by decide +kernel
theorem dX0_add_55 : decode cX0_add 55 = .ok (.aload_n 0, 1) := by decide +kernel
theorem dX0_add_56 : decode cX0_add 56 = .ok (.dup, 1) := by decide +kernel
theorem dX0_add_57 : decode cX0_add 57 = .ok (.getfield 28, 3) := by decide +kernel
theorem dX0_add_60 : decode cX0_add 60 = .ok (.iconst 1, 1) := by decide +kernel
theorem dX0_add_61 : decode cX0_add 61 = .ok (.iadd, 1) := by decide +kernel
theorem dX0_add_62 : decode cX0_add 62 = .ok (.putfield 28, 3) := by decide +kernel
theorem dX0_add_65 : decode cX0_add 65 = .ok (.aload_n 0, 1) := by decide +kernel
theorem dX0_add_66 : decode cX0_add 66 = .ok (.getfield 28, 3) := by decide +kernel
theorem dX0_add_69 : decode cX0_add 69 = .ok (.iconst 1, 1) := by decide +kernel
theorem dX0_add_70 : decode cX0_add 70 = .ok (.isub, 1) := by decide +kernel
theorem dX0_add_71 : decode cX0_add 71 = .ok (.ireturn, 1) := by decide +kernel
abbrev cX0_isRank : ByteArray := prog_1_method_21_code
def yX0_isRank : MethodName := ⟨RX0, "isRank", "(I)Z"⟩
theorem dX0_isRank_0 : decode cX0_isRank 0 = .ok (.iload_n 0, 1) := by decide +kernel
theorem dX0_isRank_1 : decode cX0_isRank 1 = .ok (.ifCond .lt 12, 3) := by decide +kernel
theorem dX0_isRank_4 : decode cX0_isRank 4 = .ok (.iload_n 0, 1) := by decide +kernel
theorem dX0_isRank_5 : decode cX0_isRank 5 = .ok (.iconst 4, 1) := by decide +kernel
theorem dX0_isRank_6 : decode cX0_isRank 6 = .ok (.if_icmp .ge 7, 3) := by decide +kernel
theorem dX0_isRank_9 : decode cX0_isRank 9 = .ok (.iconst 1, 1) := by decide +kernel
theorem dX0_isRank_10 : decode cX0_isRank 10 = .ok (.goto 4, 3) := by decide +kernel
theorem dX0_isRank_13 : decode cX0_isRank 13 = .ok (.iconst 0, 1) := by decide +kernel
theorem dX0_isRank_14 : decode cX0_isRank 14 = .ok (.ireturn, 1) := by decide +kernel
abbrev cX0_remove : ByteArray := prog_1_method_3_code
def yX0_remove : MethodName := ⟨RX0, "remove", "(I)I"⟩
theorem dX0_remove_0 : decode cX0_remove 0 = .ok (.aload_n 0, 1) := by decide +kernel
theorem dX0_remove_1 : decode cX0_remove 1 = .ok (.iload_n 1, 1) := by decide +kernel
theorem dX0_remove_2 : decode cX0_remove 2 = .ok (.invokevirtual 36, 3) := by decide +kernel
theorem dX0_remove_5 : decode cX0_remove 5 = .ok (.ifCond .ne 5, 3) := by decide +kernel
theorem dX0_remove_8 : decode cX0_remove 8 = .ok (.iconst (-1), 1) := by decide +kernel
theorem dX0_remove_9 : decode cX0_remove 9 = .ok (.ireturn, 1) := by decide +kernel
theorem dX0_remove_10 : decode cX0_remove 10 = .ok (.iload_n 1, 1) := by decide +kernel
theorem dX0_remove_11 : decode cX0_remove 11 = .ok (.iconst 1, 1) := by decide +kernel
theorem dX0_remove_12 : decode cX0_remove 12 = .ok (.iadd, 1) := by decide +kernel
theorem dX0_remove_13 : decode cX0_remove 13 = .ok (.istore_n 2, 1) := by decide +kernel
theorem dX0_remove_14 : decode cX0_remove 14 = .ok (.iload_n 2, 1) := by decide +kernel
theorem dX0_remove_15 : decode cX0_remove 15 = .ok (.aload_n 0, 1) := by decide +kernel
theorem dX0_remove_16 : decode cX0_remove 16 = .ok (.getfield 28, 3) := by decide +kernel
theorem dX0_remove_19 : decode cX0_remove 19 = .ok (.if_icmp .ge 37, 3) := by decide +kernel
theorem dX0_remove_22 : decode cX0_remove 22 = .ok (.aload_n 0, 1) := by decide +kernel
theorem dX0_remove_23 : decode cX0_remove 23 = .ok (.getfield 7, 3) := by decide +kernel
theorem dX0_remove_26 : decode cX0_remove 26 = .ok (.iload_n 2, 1) := by decide +kernel
theorem dX0_remove_27 : decode cX0_remove 27 = .ok (.iconst 1, 1) := by decide +kernel
theorem dX0_remove_28 : decode cX0_remove 28 = .ok (.isub, 1) := by decide +kernel
theorem dX0_remove_29 : decode cX0_remove 29 = .ok (.aload_n 0, 1) := by decide +kernel
theorem dX0_remove_30 : decode cX0_remove 30 = .ok (.getfield 7, 3) := by decide +kernel
theorem dX0_remove_33 : decode cX0_remove 33 = .ok (.iload_n 2, 1) := by decide +kernel
theorem dX0_remove_34 : decode cX0_remove 34 = .ok (.iaload, 1) := by decide +kernel
theorem dX0_remove_35 : decode cX0_remove 35 = .ok (.iastore, 1) := by decide +kernel
theorem dX0_remove_36 : decode cX0_remove 36 = .ok (.aload_n 0, 1) := by decide +kernel
theorem dX0_remove_37 : decode cX0_remove 37 = .ok (.getfield 13, 3) := by decide +kernel
theorem dX0_remove_40 : decode cX0_remove 40 = .ok (.iload_n 2, 1) := by decide +kernel
theorem dX0_remove_41 : decode cX0_remove 41 = .ok (.iconst 1, 1) := by decide +kernel
theorem dX0_remove_42 : decode cX0_remove 42 = .ok (.isub, 1) := by decide +kernel
theorem dX0_remove_43 : decode cX0_remove 43 = .ok (.aload_n 0, 1) := by decide +kernel
theorem dX0_remove_44 : decode cX0_remove 44 = .ok (.getfield 13, 3) := by decide +kernel
theorem dX0_remove_47 : decode cX0_remove 47 = .ok (.iload_n 2, 1) := by decide +kernel
theorem dX0_remove_48 : decode cX0_remove 48 = .ok (.iaload, 1) := by decide +kernel
theorem dX0_remove_49 : decode cX0_remove 49 = .ok (.iastore, 1) := by decide +kernel
theorem dX0_remove_50 : decode cX0_remove 50 = .ok (.iinc 2 1, 3) := by decide +kernel
theorem dX0_remove_53 : decode cX0_remove 53 = .ok (.goto (-39), 3) := by decide +kernel
theorem dX0_remove_56 : decode cX0_remove 56 = .ok (.aload_n 0, 1) := by decide +kernel
theorem dX0_remove_57 : decode cX0_remove 57 = .ok (.dup, 1) := by decide +kernel
theorem dX0_remove_58 : decode cX0_remove 58 = .ok (.getfield 28, 3) := by decide +kernel
theorem dX0_remove_61 : decode cX0_remove 61 = .ok (.iconst 1, 1) := by decide +kernel
theorem dX0_remove_62 : decode cX0_remove 62 = .ok (.isub, 1) := by decide +kernel
theorem dX0_remove_63 : decode cX0_remove 63 = .ok (.putfield 28, 3) := by decide +kernel
theorem dX0_remove_66 : decode cX0_remove 66 = .ok (.aload_n 0, 1) := by decide +kernel
theorem dX0_remove_67 : decode cX0_remove 67 = .ok (.getfield 28, 3) := by decide +kernel
theorem dX0_remove_70 : decode cX0_remove 70 = .ok (.ireturn, 1) := by decide +kernel
abbrev cX0_isCreditor : ByteArray := prog_1_method_20_code
def yX0_isCreditor : MethodName := ⟨RX0, "isCreditor", "(I)Z"⟩
theorem dX0_isCreditor_0 : decode cX0_isCreditor 0 = .ok (.iload_n 1, 1) := by decide +kernel
theorem dX0_isCreditor_1 : decode cX0_isCreditor 1 = .ok (.ifCond .lt 15, 3) := by decide +kernel
theorem dX0_isCreditor_4 : decode cX0_isCreditor 4 = .ok (.iload_n 1, 1) := by decide +kernel
theorem dX0_isCreditor_5 : decode cX0_isCreditor 5 = .ok (.aload_n 0, 1) := by decide +kernel
theorem dX0_isCreditor_6 : decode cX0_isCreditor 6 = .ok (.getfield 28, 3) := by decide +kernel
theorem dX0_isCreditor_9 : decode cX0_isCreditor 9 = .ok (.if_icmp .ge 7, 3) := by decide +kernel
theorem dX0_isCreditor_12 : decode cX0_isCreditor 12 = .ok (.iconst 1, 1) := by decide +kernel
theorem dX0_isCreditor_13 : decode cX0_isCreditor 13 = .ok (.goto 4, 3) := by decide +kernel
theorem dX0_isCreditor_16 : decode cX0_isCreditor 16 = .ok (.iconst 0, 1) := by decide +kernel
theorem dX0_isCreditor_17 : decode cX0_isCreditor 17 = .ok (.ireturn, 1) := by decide +kernel
abbrev cX0_change : ByteArray := prog_1_method_4_code
def yX0_change : MethodName := ⟨RX0, "change", "(II)I"⟩
theorem dX0_change_0 : decode cX0_change 0 = .ok (.aload_n 0, 1) := by decide +kernel
theorem dX0_change_1 : decode cX0_change 1 = .ok (.iload_n 1, 1) := by decide +kernel
theorem dX0_change_2 : decode cX0_change 2 = .ok (.invokevirtual 36, 3) := by decide +kernel
theorem dX0_change_5 : decode cX0_change 5 = .ok (.ifCond .ne 5, 3) := by decide +kernel
theorem dX0_change_8 : decode cX0_change 8 = .ok (.iconst (-1), 1) := by decide +kernel
theorem dX0_change_9 : decode cX0_change 9 = .ok (.ireturn, 1) := by decide +kernel
theorem dX0_change_10 : decode cX0_change 10 = .ok (.iload_n 2, 1) := by decide +kernel
theorem dX0_change_11 : decode cX0_change 11 = .ok (.ifCond .lt 10, 3) := by decide +kernel
theorem dX0_change_14 : decode cX0_change 14 = .ok (.iload_n 2, 1) := by decide +kernel
theorem dX0_change_15 : decode cX0_change 15 = .ok (.sipush 150, 3) := by decide +kernel
theorem dX0_change_18 : decode cX0_change 18 = .ok (.if_icmp .le 6, 3) := by decide +kernel
theorem dX0_change_21 : decode cX0_change 21 = .ok (.bipush (-2), 2) := by decide +kernel
theorem dX0_change_23 : decode cX0_change 23 = .ok (.ireturn, 1) := by decide +kernel
theorem dX0_change_24 : decode cX0_change 24 = .ok (.aload_n 0, 1) := by decide +kernel
theorem dX0_change_25 : decode cX0_change 25 = .ok (.getfield 7, 3) := by decide +kernel
theorem dX0_change_28 : decode cX0_change 28 = .ok (.iload_n 1, 1) := by decide +kernel
theorem dX0_change_29 : decode cX0_change 29 = .ok (.iaload, 1) := by decide +kernel
theorem dX0_change_30 : decode cX0_change 30 = .ok (.istore_n 3, 1) := by decide +kernel
theorem dX0_change_31 : decode cX0_change 31 = .ok (.aload_n 0, 1) := by decide +kernel
theorem dX0_change_32 : decode cX0_change 32 = .ok (.getfield 7, 3) := by decide +kernel
theorem dX0_change_35 : decode cX0_change 35 = .ok (.iload_n 1, 1) := by decide +kernel
theorem dX0_change_36 : decode cX0_change 36 = .ok (.iload_n 2, 1) := by decide +kernel
theorem dX0_change_37 : decode cX0_change 37 = .ok (.iastore, 1) := by decide +kernel
theorem dX0_change_38 : decode cX0_change 38 = .ok (.iload_n 3, 1) := by decide +kernel
theorem dX0_change_39 : decode cX0_change 39 = .ok (.ireturn, 1) := by decide +kernel
abbrev cX0_move : ByteArray := prog_1_method_5_code
def yX0_move : MethodName := ⟨RX0, "move", "(II)I"⟩
theorem dX0_move_0 : decode cX0_move 0 = .ok (.aload_n 0, 1) := by decide +kernel
theorem dX0_move_1 : decode cX0_move 1 = .ok (.iload_n 1, 1) := by decide +kernel
theorem dX0_move_2 : decode cX0_move 2 = .ok (.invokevirtual 36, 3) := by decide +kernel
theorem dX0_move_5 : decode cX0_move 5 = .ok (.ifCond .ne 5, 3) := by decide +kernel
theorem dX0_move_8 : decode cX0_move 8 = .ok (.iconst (-1), 1) := by decide +kernel
theorem dX0_move_9 : decode cX0_move 9 = .ok (.ireturn, 1) := by decide +kernel
theorem dX0_move_10 : decode cX0_move 10 = .ok (.iload_n 2, 1) := by decide +kernel
theorem dX0_move_11 : decode cX0_move 11 = .ok (.invokestatic 32, 3) := by decide +kernel
theorem dX0_move_14 : decode cX0_move 14 = .ok (.ifCond .ne 6, 3) := by decide +kernel
theorem dX0_move_17 : decode cX0_move 17 = .ok (.bipush (-2), 2) := by decide +kernel
theorem dX0_move_19 : decode cX0_move 19 = .ok (.ireturn, 1) := by decide +kernel
theorem dX0_move_20 : decode cX0_move 20 = .ok (.aload_n 0, 1) := by decide +kernel
theorem dX0_move_21 : decode cX0_move 21 = .ok (.getfield 13, 3) := by decide +kernel
theorem dX0_move_24 : decode cX0_move 24 = .ok (.iload_n 1, 1) := by decide +kernel
theorem dX0_move_25 : decode cX0_move 25 = .ok (.iaload, 1) := by decide +kernel
theorem dX0_move_26 : decode cX0_move 26 = .ok (.istore_n 3, 1) := by decide +kernel
theorem dX0_move_27 : decode cX0_move 27 = .ok (.aload_n 0, 1) := by decide +kernel
theorem dX0_move_28 : decode cX0_move 28 = .ok (.getfield 13, 3) := by decide +kernel
theorem dX0_move_31 : decode cX0_move 31 = .ok (.iload_n 1, 1) := by decide +kernel
theorem dX0_move_32 : decode cX0_move 32 = .ok (.iload_n 2, 1) := by decide +kernel
theorem dX0_move_33 : decode cX0_move 33 = .ok (.iastore, 1) := by decide +kernel
theorem dX0_move_34 : decode cX0_move 34 = .ok (.iload_n 3, 1) := by decide +kernel
theorem dX0_move_35 : decode cX0_move 35 = .ok (.ireturn, 1) := by decide +kernel
abbrev cX0_rule : ByteArray := prog_1_method_6_code
def yX0_rule : MethodName := ⟨RX0, "rule", "(II)I"⟩
theorem dX0_rule_0 : decode cX0_rule 0 = .ok (.iload_n 1, 1) := by decide +kernel
theorem dX0_rule_1 : decode cX0_rule 1 = .ok (.invokestatic 32, 3) := by decide +kernel
theorem dX0_rule_4 : decode cX0_rule 4 = .ok (.ifCond .ne 5, 3) := by decide +kernel
theorem dX0_rule_7 : decode cX0_rule 7 = .ok (.iconst (-1), 1) := by decide +kernel
theorem dX0_rule_8 : decode cX0_rule 8 = .ok (.ireturn, 1) := by decide +kernel
theorem dX0_rule_9 : decode cX0_rule 9 = .ok (.iload_n 2, 1) := by decide +kernel
theorem dX0_rule_10 : decode cX0_rule 10 = .ok (.invokestatic 39, 3) := by decide +kernel
theorem dX0_rule_13 : decode cX0_rule 13 = .ok (.ifCond .ne 6, 3) := by decide +kernel
theorem dX0_rule_16 : decode cX0_rule 16 = .ok (.bipush (-2), 2) := by decide +kernel
theorem dX0_rule_18 : decode cX0_rule 18 = .ok (.ireturn, 1) := by decide +kernel
theorem dX0_rule_19 : decode cX0_rule 19 = .ok (.aload_n 0, 1) := by decide +kernel
theorem dX0_rule_20 : decode cX0_rule 20 = .ok (.getfield 16, 3) := by decide +kernel
theorem dX0_rule_23 : decode cX0_rule 23 = .ok (.iload_n 1, 1) := by decide +kernel
theorem dX0_rule_24 : decode cX0_rule 24 = .ok (.iaload, 1) := by decide +kernel
theorem dX0_rule_25 : decode cX0_rule 25 = .ok (.istore_n 3, 1) := by decide +kernel
theorem dX0_rule_26 : decode cX0_rule 26 = .ok (.aload_n 0, 1) := by decide +kernel
theorem dX0_rule_27 : decode cX0_rule 27 = .ok (.getfield 16, 3) := by decide +kernel
theorem dX0_rule_30 : decode cX0_rule 30 = .ok (.iload_n 1, 1) := by decide +kernel
theorem dX0_rule_31 : decode cX0_rule 31 = .ok (.iload_n 2, 1) := by decide +kernel
theorem dX0_rule_32 : decode cX0_rule 32 = .ok (.iastore, 1) := by decide +kernel
theorem dX0_rule_33 : decode cX0_rule 33 = .ok (.iload_n 3, 1) := by decide +kernel
theorem dX0_rule_34 : decode cX0_rule 34 = .ok (.ireturn, 1) := by decide +kernel
abbrev cX0_isRule : ByteArray := prog_1_method_22_code
def yX0_isRule : MethodName := ⟨RX0, "isRule", "(I)Z"⟩
theorem dX0_isRule_0 : decode cX0_isRule 0 = .ok (.iload_n 0, 1) := by decide +kernel
theorem dX0_isRule_1 : decode cX0_isRule 1 = .ok (.ifCond .lt 12, 3) := by decide +kernel
theorem dX0_isRule_4 : decode cX0_isRule 4 = .ok (.iload_n 0, 1) := by decide +kernel
theorem dX0_isRule_5 : decode cX0_isRule 5 = .ok (.iconst 3, 1) := by decide +kernel
theorem dX0_isRule_6 : decode cX0_isRule 6 = .ok (.if_icmp .gt 7, 3) := by decide +kernel
theorem dX0_isRule_9 : decode cX0_isRule 9 = .ok (.iconst 1, 1) := by decide +kernel
theorem dX0_isRule_10 : decode cX0_isRule 10 = .ok (.goto 4, 3) := by decide +kernel
theorem dX0_isRule_13 : decode cX0_isRule 13 = .ok (.iconst 0, 1) := by decide +kernel
theorem dX0_isRule_14 : decode cX0_isRule 14 = .ok (.ireturn, 1) := by decide +kernel
abbrev cX0_estate : ByteArray := prog_1_method_7_code
def yX0_estate : MethodName := ⟨RX0, "estate", "(I)I"⟩
theorem dX0_estate_0 : decode cX0_estate 0 = .ok (.iload_n 1, 1) := by decide +kernel
theorem dX0_estate_1 : decode cX0_estate 1 = .ok (.sipush (-1500), 3) := by decide +kernel
theorem dX0_estate_4 : decode cX0_estate 4 = .ok (.if_icmp .lt 31, 3) := by decide +kernel
theorem dX0_estate_7 : decode cX0_estate 7 = .ok (.iload_n 1, 1) := by decide +kernel
theorem dX0_estate_8 : decode cX0_estate 8 = .ok (.sipush 1500, 3) := by decide +kernel
theorem dX0_estate_11 : decode cX0_estate 11 = .ok (.if_icmp .gt 24, 3) := by decide +kernel
theorem dX0_estate_14 : decode cX0_estate 14 = .ok (.aload_n 0, 1) := by decide +kernel
theorem dX0_estate_15 : decode cX0_estate 15 = .ok (.getfield 42, 3) := by decide +kernel
theorem dX0_estate_18 : decode cX0_estate 18 = .ok (.iload_n 1, 1) := by decide +kernel
theorem dX0_estate_19 : decode cX0_estate 19 = .ok (.iadd, 1) := by decide +kernel
theorem dX0_estate_20 : decode cX0_estate 20 = .ok (.ifCond .lt 15, 3) := by decide +kernel
theorem dX0_estate_23 : decode cX0_estate 23 = .ok (.aload_n 0, 1) := by decide +kernel
theorem dX0_estate_24 : decode cX0_estate 24 = .ok (.getfield 42, 3) := by decide +kernel
theorem dX0_estate_27 : decode cX0_estate 27 = .ok (.iload_n 1, 1) := by decide +kernel
theorem dX0_estate_28 : decode cX0_estate 28 = .ok (.iadd, 1) := by decide +kernel
theorem dX0_estate_29 : decode cX0_estate 29 = .ok (.sipush 1500, 3) := by decide +kernel
theorem dX0_estate_32 : decode cX0_estate 32 = .ok (.if_icmp .le 5, 3) := by decide +kernel
theorem dX0_estate_35 : decode cX0_estate 35 = .ok (.iconst (-1), 1) := by decide +kernel
theorem dX0_estate_36 : decode cX0_estate 36 = .ok (.ireturn, 1) := by decide +kernel
theorem dX0_estate_37 : decode cX0_estate 37 = .ok (.aload_n 0, 1) := by decide +kernel
theorem dX0_estate_38 : decode cX0_estate 38 = .ok (.dup, 1) := by decide +kernel
theorem dX0_estate_39 : decode cX0_estate 39 = .ok (.getfield 42, 3) := by decide +kernel
theorem dX0_estate_42 : decode cX0_estate 42 = .ok (.iload_n 1, 1) := by decide +kernel
theorem dX0_estate_43 : decode cX0_estate 43 = .ok (.iadd, 1) := by decide +kernel
theorem dX0_estate_44 : decode cX0_estate 44 = .ok (.putfield 42, 3) := by decide +kernel
theorem dX0_estate_47 : decode cX0_estate 47 = .ok (.aload_n 0, 1) := by decide +kernel
theorem dX0_estate_48 : decode cX0_estate 48 = .ok (.getfield 42, 3) := by decide +kernel
theorem dX0_estate_51 : decode cX0_estate 51 = .ok (.ireturn, 1) := by decide +kernel
abbrev cX0_creditors : ByteArray := prog_1_method_8_code
def yX0_creditors : MethodName := ⟨RX0, "creditors", "()I"⟩
theorem dX0_creditors_0 : decode cX0_creditors 0 = .ok (.aload_n 0, 1) := by decide +kernel
theorem dX0_creditors_1 : decode cX0_creditors 1 = .ok (.getfield 28, 3) := by decide +kernel
theorem dX0_creditors_4 : decode cX0_creditors 4 = .ok (.ireturn, 1) := by decide +kernel
abbrev cX0_claimOf : ByteArray := prog_1_method_9_code
def yX0_claimOf : MethodName := ⟨RX0, "claimOf", "(I)I"⟩
theorem dX0_claimOf_0 : decode cX0_claimOf 0 = .ok (.aload_n 0, 1) := by decide +kernel
theorem dX0_claimOf_1 : decode cX0_claimOf 1 = .ok (.iload_n 1, 1) := by decide +kernel
theorem dX0_claimOf_2 : decode cX0_claimOf 2 = .ok (.invokevirtual 36, 3) := by decide +kernel
theorem dX0_claimOf_5 : decode cX0_claimOf 5 = .ok (.ifCond .eq 12, 3) := by decide +kernel
theorem dX0_claimOf_8 : decode cX0_claimOf 8 = .ok (.aload_n 0, 1) := by decide +kernel
theorem dX0_claimOf_9 : decode cX0_claimOf 9 = .ok (.getfield 7, 3) := by decide +kernel
theorem dX0_claimOf_12 : decode cX0_claimOf 12 = .ok (.iload_n 1, 1) := by decide +kernel
theorem dX0_claimOf_13 : decode cX0_claimOf 13 = .ok (.iaload, 1) := by decide +kernel
theorem dX0_claimOf_14 : decode cX0_claimOf 14 = .ok (.goto 4, 3) := by decide +kernel
theorem dX0_claimOf_17 : decode cX0_claimOf 17 = .ok (.iconst (-1), 1) := by decide +kernel
theorem dX0_claimOf_18 : decode cX0_claimOf 18 = .ok (.ireturn, 1) := by decide +kernel
abbrev cX0_share : ByteArray := prog_1_method_10_code
def yX0_share : MethodName := ⟨RX0, "share", "(I)I"⟩
theorem dX0_share_0 : decode cX0_share 0 = .ok (.aload_n 0, 1) := by decide +kernel
theorem dX0_share_1 : decode cX0_share 1 = .ok (.iload_n 1, 1) := by decide +kernel
theorem dX0_share_2 : decode cX0_share 2 = .ok (.invokevirtual 36, 3) := by decide +kernel
theorem dX0_share_5 : decode cX0_share 5 = .ok (.ifCond .ne 5, 3) := by decide +kernel
theorem dX0_share_8 : decode cX0_share 8 = .ok (.iconst (-1), 1) := by decide +kernel
theorem dX0_share_9 : decode cX0_share 9 = .ok (.ireturn, 1) := by decide +kernel
theorem dX0_share_10 : decode cX0_share 10 = .ok (.aload_n 0, 1) := by decide +kernel
theorem dX0_share_11 : decode cX0_share 11 = .ok (.aload_n 0, 1) := by decide +kernel
theorem dX0_share_12 : decode cX0_share 12 = .ok (.getfield 42, 3) := by decide +kernel
theorem dX0_share_15 : decode cX0_share 15 = .ok (.invokevirtual 45, 3) := by decide +kernel
theorem dX0_share_18 : decode cX0_share 18 = .ok (.aload_n 0, 1) := by decide +kernel
theorem dX0_share_19 : decode cX0_share 19 = .ok (.getfield 19, 3) := by decide +kernel
theorem dX0_share_22 : decode cX0_share 22 = .ok (.iload_n 1, 1) := by decide +kernel
theorem dX0_share_23 : decode cX0_share 23 = .ok (.iaload, 1) := by decide +kernel
theorem dX0_share_24 : decode cX0_share 24 = .ok (.ireturn, 1) := by decide +kernel
abbrev cX0_shareOut : ByteArray := prog_1_method_24_code
def yX0_shareOut : MethodName := ⟨RX0, "shareOut", "(I)V"⟩
theorem dX0_shareOut_0 : decode cX0_shareOut 0 = .ok (.iload_n 1, 1) := by decide +kernel
theorem dX0_shareOut_1 : decode cX0_shareOut 1 = .ok (.istore_n 2, 1) := by decide +kernel
theorem dX0_shareOut_2 : decode cX0_shareOut 2 = .ok (.iconst 0, 1) := by decide +kernel
theorem dX0_shareOut_3 : decode cX0_shareOut 3 = .ok (.istore_n 3, 1) := by decide +kernel
theorem dX0_shareOut_4 : decode cX0_shareOut 4 = .ok (.iload_n 3, 1) := by decide +kernel
theorem dX0_shareOut_5 : decode cX0_shareOut 5 = .ok (.aload_n 0, 1) := by decide +kernel
theorem dX0_shareOut_6 : decode cX0_shareOut 6 = .ok (.getfield 28, 3) := by decide +kernel
theorem dX0_shareOut_9 : decode cX0_shareOut 9 = .ok (.if_icmp .ge 16, 3) := by decide +kernel
theorem dX0_shareOut_12 : decode cX0_shareOut 12 = .ok (.aload_n 0, 1) := by decide +kernel
theorem dX0_shareOut_13 : decode cX0_shareOut 13 = .ok (.getfield 19, 3) := by decide +kernel
theorem dX0_shareOut_16 : decode cX0_shareOut 16 = .ok (.iload_n 3, 1) := by decide +kernel
theorem dX0_shareOut_17 : decode cX0_shareOut 17 = .ok (.iconst 0, 1) := by decide +kernel
theorem dX0_shareOut_18 : decode cX0_shareOut 18 = .ok (.iastore, 1) := by decide +kernel
theorem dX0_shareOut_19 : decode cX0_shareOut 19 = .ok (.iinc 3 1, 3) := by decide +kernel
theorem dX0_shareOut_22 : decode cX0_shareOut 22 = .ok (.goto (-18), 3) := by decide +kernel
theorem dX0_shareOut_25 : decode cX0_shareOut 25 = .ok (.iconst 0, 1) := by decide +kernel
theorem dX0_shareOut_26 : decode cX0_shareOut 26 = .ok (.istore_n 3, 1) := by decide +kernel
theorem dX0_shareOut_27 : decode cX0_shareOut 27 = .ok (.iload_n 3, 1) := by decide +kernel
theorem dX0_shareOut_28 : decode cX0_shareOut 28 = .ok (.iconst 4, 1) := by decide +kernel
theorem dX0_shareOut_29 : decode cX0_shareOut 29 = .ok (.if_icmp .ge 44, 3) := by decide +kernel
theorem dX0_shareOut_32 : decode cX0_shareOut 32 = .ok (.aload_n 0, 1) := by decide +kernel
theorem dX0_shareOut_33 : decode cX0_shareOut 33 = .ok (.iload_n 3, 1) := by decide +kernel
theorem dX0_shareOut_34 : decode cX0_shareOut 34 = .ok (.invokevirtual 49, 3) := by decide +kernel
theorem dX0_shareOut_37 : decode cX0_shareOut 37 = .ok (.istore 4, 2) := by decide +kernel
theorem dX0_shareOut_39 : decode cX0_shareOut 39 = .ok (.iload_n 2, 1) := by decide +kernel
theorem dX0_shareOut_40 : decode cX0_shareOut 40 = .ok (.iload 4, 2) := by decide +kernel
theorem dX0_shareOut_42 : decode cX0_shareOut 42 = .ok (.if_icmp .ge 7, 3) := by decide +kernel
theorem dX0_shareOut_45 : decode cX0_shareOut 45 = .ok (.iload_n 2, 1) := by decide +kernel
theorem dX0_shareOut_46 : decode cX0_shareOut 46 = .ok (.goto 5, 3) := by decide +kernel
theorem dX0_shareOut_49 : decode cX0_shareOut 49 = .ok (.iload 4, 2) := by decide +kernel
theorem dX0_shareOut_51 : decode cX0_shareOut 51 = .ok (.istore 5, 2) := by decide +kernel
theorem dX0_shareOut_53 : decode cX0_shareOut 53 = .ok (.aload_n 0, 1) := by decide +kernel
theorem dX0_shareOut_54 : decode cX0_shareOut 54 = .ok (.iload_n 3, 1) := by decide +kernel
theorem dX0_shareOut_55 : decode cX0_shareOut 55 = .ok (.iload 5, 2) := by decide +kernel
theorem dX0_shareOut_57 : decode cX0_shareOut 57 = .ok (.iload 4, 2) := by decide +kernel
theorem dX0_shareOut_59 : decode cX0_shareOut 59 = .ok (.invokevirtual 56, 3) := by decide +kernel
theorem dX0_shareOut_62 : decode cX0_shareOut 62 = .ok (.iload_n 2, 1) := by decide +kernel
theorem dX0_shareOut_63 : decode cX0_shareOut 63 = .ok (.iload 5, 2) := by decide +kernel
theorem dX0_shareOut_65 : decode cX0_shareOut 65 = .ok (.isub, 1) := by decide +kernel
theorem dX0_shareOut_66 : decode cX0_shareOut 66 = .ok (.istore_n 2, 1) := by decide +kernel
theorem dX0_shareOut_67 : decode cX0_shareOut 67 = .ok (.iinc 3 1, 3) := by decide +kernel
theorem dX0_shareOut_70 : decode cX0_shareOut 70 = .ok (.goto (-43), 3) := by decide +kernel
theorem dX0_shareOut_73 : decode cX0_shareOut 73 = .ok (.aload_n 0, 1) := by decide +kernel
theorem dX0_shareOut_74 : decode cX0_shareOut 74 = .ok (.iload_n 2, 1) := by decide +kernel
theorem dX0_shareOut_75 : decode cX0_shareOut 75 = .ok (.putfield 53, 3) := by decide +kernel
theorem dX0_shareOut_78 : decode cX0_shareOut 78 = .ok (.return_, 1) := by decide +kernel
abbrev cX0_total : ByteArray := prog_1_method_23_code
def yX0_total : MethodName := ⟨RX0, "total", "(I)I"⟩
theorem dX0_total_0 : decode cX0_total 0 = .ok (.iconst 0, 1) := by decide +kernel
theorem dX0_total_1 : decode cX0_total 1 = .ok (.istore_n 2, 1) := by decide +kernel
theorem dX0_total_2 : decode cX0_total 2 = .ok (.iconst 0, 1) := by decide +kernel
theorem dX0_total_3 : decode cX0_total 3 = .ok (.istore_n 3, 1) := by decide +kernel
theorem dX0_total_4 : decode cX0_total 4 = .ok (.iload_n 3, 1) := by decide +kernel
theorem dX0_total_5 : decode cX0_total 5 = .ok (.aload_n 0, 1) := by decide +kernel
theorem dX0_total_6 : decode cX0_total 6 = .ok (.getfield 28, 3) := by decide +kernel
theorem dX0_total_9 : decode cX0_total 9 = .ok (.if_icmp .ge 32, 3) := by decide +kernel
theorem dX0_total_12 : decode cX0_total 12 = .ok (.iload_n 2, 1) := by decide +kernel
theorem dX0_total_13 : decode cX0_total 13 = .ok (.aload_n 0, 1) := by decide +kernel
theorem dX0_total_14 : decode cX0_total 14 = .ok (.getfield 13, 3) := by decide +kernel
theorem dX0_total_17 : decode cX0_total 17 = .ok (.iload_n 3, 1) := by decide +kernel
theorem dX0_total_18 : decode cX0_total 18 = .ok (.iaload, 1) := by decide +kernel
theorem dX0_total_19 : decode cX0_total 19 = .ok (.iload_n 1, 1) := by decide +kernel
theorem dX0_total_20 : decode cX0_total 20 = .ok (.if_icmp .ne 12, 3) := by decide +kernel
theorem dX0_total_23 : decode cX0_total 23 = .ok (.aload_n 0, 1) := by decide +kernel
theorem dX0_total_24 : decode cX0_total 24 = .ok (.getfield 7, 3) := by decide +kernel
theorem dX0_total_27 : decode cX0_total 27 = .ok (.iload_n 3, 1) := by decide +kernel
theorem dX0_total_28 : decode cX0_total 28 = .ok (.iaload, 1) := by decide +kernel
theorem dX0_total_29 : decode cX0_total 29 = .ok (.goto 4, 3) := by decide +kernel
theorem dX0_total_32 : decode cX0_total 32 = .ok (.iconst 0, 1) := by decide +kernel
theorem dX0_total_33 : decode cX0_total 33 = .ok (.iadd, 1) := by decide +kernel
theorem dX0_total_34 : decode cX0_total 34 = .ok (.istore_n 2, 1) := by decide +kernel
theorem dX0_total_35 : decode cX0_total 35 = .ok (.iinc 3 1, 3) := by decide +kernel
theorem dX0_total_38 : decode cX0_total 38 = .ok (.goto (-34), 3) := by decide +kernel
theorem dX0_total_41 : decode cX0_total 41 = .ok (.iload_n 2, 1) := by decide +kernel
theorem dX0_total_42 : decode cX0_total 42 = .ok (.ireturn, 1) := by decide +kernel
abbrev cX0_shareRank : ByteArray := prog_1_method_25_code
def yX0_shareRank : MethodName := ⟨RX0, "shareRank", "(III)V"⟩
theorem dX0_shareRank_0 : decode cX0_shareRank 0 = .ok (.aload_n 0, 1) := by decide +kernel
theorem dX0_shareRank_1 : decode cX0_shareRank 1 = .ok (.getfield 16, 3) := by decide +kernel
theorem dX0_shareRank_4 : decode cX0_shareRank 4 = .ok (.iload_n 1, 1) := by decide +kernel
theorem dX0_shareRank_5 : decode cX0_shareRank 5 = .ok (.iaload, 1) := by decide +kernel
theorem dX0_shareRank_6 : decode cX0_shareRank 6 = .ok (.ifCond .ne 17, 3) := by decide +kernel
theorem dX0_shareRank_9 : decode cX0_shareRank 9 = .ok (.aload_n 0, 1) := by decide +kernel
theorem dX0_shareRank_10 : decode cX0_shareRank 10 = .ok (.iload_n 1, 1) := by decide +kernel
theorem dX0_shareRank_11 : decode cX0_shareRank 11 = .ok (.iconst 0, 1) := by decide +kernel
theorem dX0_shareRank_12 : decode cX0_shareRank 12 = .ok (.invokevirtual 60, 3) := by decide +kernel
theorem dX0_shareRank_15 : decode cX0_shareRank 15 = .ok (.aload_n 0, 1) := by decide +kernel
theorem dX0_shareRank_16 : decode cX0_shareRank 16 = .ok (.iload_n 2, 1) := by decide +kernel
theorem dX0_shareRank_17 : decode cX0_shareRank 17 = .ok (.invokevirtual 64, 3) := by decide +kernel
theorem dX0_shareRank_20 : decode cX0_shareRank 20 = .ok (.goto 94, 3) := by decide +kernel
theorem dX0_shareRank_23 : decode cX0_shareRank 23 = .ok (.aload_n 0, 1) := by decide +kernel
theorem dX0_shareRank_24 : decode cX0_shareRank 24 = .ok (.getfield 16, 3) := by decide +kernel
theorem dX0_shareRank_27 : decode cX0_shareRank 27 = .ok (.iload_n 1, 1) := by decide +kernel
theorem dX0_shareRank_28 : decode cX0_shareRank 28 = .ok (.iaload, 1) := by decide +kernel
theorem dX0_shareRank_29 : decode cX0_shareRank 29 = .ok (.iconst 1, 1) := by decide +kernel
theorem dX0_shareRank_30 : decode cX0_shareRank 30 = .ok (.if_icmp .ne 17, 3) := by decide +kernel
theorem dX0_shareRank_33 : decode cX0_shareRank 33 = .ok (.aload_n 0, 1) := by decide +kernel
theorem dX0_shareRank_34 : decode cX0_shareRank 34 = .ok (.iload_n 1, 1) := by decide +kernel
theorem dX0_shareRank_35 : decode cX0_shareRank 35 = .ok (.iconst 0, 1) := by decide +kernel
theorem dX0_shareRank_36 : decode cX0_shareRank 36 = .ok (.invokevirtual 60, 3) := by decide +kernel
theorem dX0_shareRank_39 : decode cX0_shareRank 39 = .ok (.aload_n 0, 1) := by decide +kernel
theorem dX0_shareRank_40 : decode cX0_shareRank 40 = .ok (.iload_n 2, 1) := by decide +kernel
theorem dX0_shareRank_41 : decode cX0_shareRank 41 = .ok (.invokevirtual 67, 3) := by decide +kernel
theorem dX0_shareRank_44 : decode cX0_shareRank 44 = .ok (.goto 70, 3) := by decide +kernel
theorem dX0_shareRank_47 : decode cX0_shareRank 47 = .ok (.aload_n 0, 1) := by decide +kernel
theorem dX0_shareRank_48 : decode cX0_shareRank 48 = .ok (.getfield 16, 3) := by decide +kernel
theorem dX0_shareRank_51 : decode cX0_shareRank 51 = .ok (.iload_n 1, 1) := by decide +kernel
theorem dX0_shareRank_52 : decode cX0_shareRank 52 = .ok (.iaload, 1) := by decide +kernel
theorem dX0_shareRank_53 : decode cX0_shareRank 53 = .ok (.iconst 2, 1) := by decide +kernel
theorem dX0_shareRank_54 : decode cX0_shareRank 54 = .ok (.if_icmp .ne 13, 3) := by decide +kernel
theorem dX0_shareRank_57 : decode cX0_shareRank 57 = .ok (.aload_n 0, 1) := by decide +kernel
theorem dX0_shareRank_58 : decode cX0_shareRank 58 = .ok (.iload_n 1, 1) := by decide +kernel
theorem dX0_shareRank_59 : decode cX0_shareRank 59 = .ok (.iload_n 2, 1) := by decide +kernel
theorem dX0_shareRank_60 : decode cX0_shareRank 60 = .ok (.iload_n 3, 1) := by decide +kernel
theorem dX0_shareRank_61 : decode cX0_shareRank 61 = .ok (.invokevirtual 70, 3) := by decide +kernel
theorem dX0_shareRank_64 : decode cX0_shareRank 64 = .ok (.goto 50, 3) := by decide +kernel
theorem dX0_shareRank_67 : decode cX0_shareRank 67 = .ok (.iload_n 3, 1) := by decide +kernel
theorem dX0_shareRank_68 : decode cX0_shareRank 68 = .ok (.iconst 1, 1) := by decide +kernel
theorem dX0_shareRank_69 : decode cX0_shareRank 69 = .ok (.iadd, 1) := by decide +kernel
theorem dX0_shareRank_70 : decode cX0_shareRank 70 = .ok (.iconst 1, 1) := by decide +kernel
theorem dX0_shareRank_71 : decode cX0_shareRank 71 = .ok (.ishr, 1) := by decide +kernel
theorem dX0_shareRank_72 : decode cX0_shareRank 72 = .ok (.istore 4, 2) := by decide +kernel
theorem dX0_shareRank_74 : decode cX0_shareRank 74 = .ok (.iload_n 2, 1) := by decide +kernel
theorem dX0_shareRank_75 : decode cX0_shareRank 75 = .ok (.iload 4, 2) := by decide +kernel
theorem dX0_shareRank_77 : decode cX0_shareRank 77 = .ok (.if_icmp .ge 7, 3) := by decide +kernel
theorem dX0_shareRank_80 : decode cX0_shareRank 80 = .ok (.iload_n 2, 1) := by decide +kernel
theorem dX0_shareRank_81 : decode cX0_shareRank 81 = .ok (.goto 5, 3) := by decide +kernel
theorem dX0_shareRank_84 : decode cX0_shareRank 84 = .ok (.iload 4, 2) := by decide +kernel
theorem dX0_shareRank_86 : decode cX0_shareRank 86 = .ok (.istore 5, 2) := by decide +kernel
theorem dX0_shareRank_88 : decode cX0_shareRank 88 = .ok (.aload_n 0, 1) := by decide +kernel
theorem dX0_shareRank_89 : decode cX0_shareRank 89 = .ok (.iload_n 1, 1) := by decide +kernel
theorem dX0_shareRank_90 : decode cX0_shareRank 90 = .ok (.iconst 1, 1) := by decide +kernel
theorem dX0_shareRank_91 : decode cX0_shareRank 91 = .ok (.invokevirtual 60, 3) := by decide +kernel
theorem dX0_shareRank_94 : decode cX0_shareRank 94 = .ok (.aload_n 0, 1) := by decide +kernel
theorem dX0_shareRank_95 : decode cX0_shareRank 95 = .ok (.iload 5, 2) := by decide +kernel
theorem dX0_shareRank_97 : decode cX0_shareRank 97 = .ok (.invokevirtual 64, 3) := by decide +kernel
theorem dX0_shareRank_100 : decode cX0_shareRank 100 = .ok (.aload_n 0, 1) := by decide +kernel
theorem dX0_shareRank_101 : decode cX0_shareRank 101 = .ok (.iload_n 1, 1) := by decide +kernel
theorem dX0_shareRank_102 : decode cX0_shareRank 102 = .ok (.iconst 0, 1) := by decide +kernel
theorem dX0_shareRank_103 : decode cX0_shareRank 103 = .ok (.invokevirtual 60, 3) := by decide +kernel
theorem dX0_shareRank_106 : decode cX0_shareRank 106 = .ok (.aload_n 0, 1) := by decide +kernel
theorem dX0_shareRank_107 : decode cX0_shareRank 107 = .ok (.iload_n 2, 1) := by decide +kernel
theorem dX0_shareRank_108 : decode cX0_shareRank 108 = .ok (.iload 5, 2) := by decide +kernel
theorem dX0_shareRank_110 : decode cX0_shareRank 110 = .ok (.isub, 1) := by decide +kernel
theorem dX0_shareRank_111 : decode cX0_shareRank 111 = .ok (.invokevirtual 67, 3) := by decide +kernel
theorem dX0_shareRank_114 : decode cX0_shareRank 114 = .ok (.return_, 1) := by decide +kernel
abbrev cX0_takeLimits : ByteArray := prog_1_method_26_code
def yX0_takeLimits : MethodName := ⟨RX0, "takeLimits", "(IZ)V"⟩
theorem dX0_takeLimits_0 : decode cX0_takeLimits 0 = .ok (.iconst 0, 1) := by decide +kernel
theorem dX0_takeLimits_1 : decode cX0_takeLimits 1 = .ok (.istore_n 3, 1) := by decide +kernel
theorem dX0_takeLimits_2 : decode cX0_takeLimits 2 = .ok (.iload_n 3, 1) := by decide +kernel
theorem dX0_takeLimits_3 : decode cX0_takeLimits 3 = .ok (.aload_n 0, 1) := by decide +kernel
theorem dX0_takeLimits_4 : decode cX0_takeLimits 4 = .ok (.getfield 28, 3) := by decide +kernel
theorem dX0_takeLimits_7 : decode cX0_takeLimits 7 = .ok (.if_icmp .ge 63, 3) := by decide +kernel
theorem dX0_takeLimits_10 : decode cX0_takeLimits 10 = .ok (.iload_n 2, 1) := by decide +kernel
theorem dX0_takeLimits_11 : decode cX0_takeLimits 11 = .ok (.ifCond .eq 16, 3) := by decide +kernel
theorem dX0_takeLimits_14 : decode cX0_takeLimits 14 = .ok (.aload_n 0, 1) := by decide +kernel
theorem dX0_takeLimits_15 : decode cX0_takeLimits 15 = .ok (.getfield 7, 3) := by decide +kernel
theorem dX0_takeLimits_18 : decode cX0_takeLimits 18 = .ok (.iload_n 3, 1) := by decide +kernel
theorem dX0_takeLimits_19 : decode cX0_takeLimits 19 = .ok (.iaload, 1) := by decide +kernel
theorem dX0_takeLimits_20 : decode cX0_takeLimits 20 = .ok (.iconst 1, 1) := by decide +kernel
theorem dX0_takeLimits_21 : decode cX0_takeLimits 21 = .ok (.iadd, 1) := by decide +kernel
theorem dX0_takeLimits_22 : decode cX0_takeLimits 22 = .ok (.iconst 1, 1) := by decide +kernel
theorem dX0_takeLimits_23 : decode cX0_takeLimits 23 = .ok (.ishr, 1) := by decide +kernel
theorem dX0_takeLimits_24 : decode cX0_takeLimits 24 = .ok (.goto 9, 3) := by decide +kernel
theorem dX0_takeLimits_27 : decode cX0_takeLimits 27 = .ok (.aload_n 0, 1) := by decide +kernel
theorem dX0_takeLimits_28 : decode cX0_takeLimits 28 = .ok (.getfield 7, 3) := by decide +kernel
theorem dX0_takeLimits_31 : decode cX0_takeLimits 31 = .ok (.iload_n 3, 1) := by decide +kernel
theorem dX0_takeLimits_32 : decode cX0_takeLimits 32 = .ok (.iaload, 1) := by decide +kernel
theorem dX0_takeLimits_33 : decode cX0_takeLimits 33 = .ok (.istore 4, 2) := by decide +kernel
theorem dX0_takeLimits_35 : decode cX0_takeLimits 35 = .ok (.aload_n 0, 1) := by decide +kernel
theorem dX0_takeLimits_36 : decode cX0_takeLimits 36 = .ok (.getfield 22, 3) := by decide +kernel
theorem dX0_takeLimits_39 : decode cX0_takeLimits 39 = .ok (.iload_n 3, 1) := by decide +kernel
theorem dX0_takeLimits_40 : decode cX0_takeLimits 40 = .ok (.aload_n 0, 1) := by decide +kernel
theorem dX0_takeLimits_41 : decode cX0_takeLimits 41 = .ok (.getfield 13, 3) := by decide +kernel
theorem dX0_takeLimits_44 : decode cX0_takeLimits 44 = .ok (.iload_n 3, 1) := by decide +kernel
theorem dX0_takeLimits_45 : decode cX0_takeLimits 45 = .ok (.iaload, 1) := by decide +kernel
theorem dX0_takeLimits_46 : decode cX0_takeLimits 46 = .ok (.iload_n 1, 1) := by decide +kernel
theorem dX0_takeLimits_47 : decode cX0_takeLimits 47 = .ok (.if_icmp .ne 15, 3) := by decide +kernel
theorem dX0_takeLimits_50 : decode cX0_takeLimits 50 = .ok (.iload 4, 2) := by decide +kernel
theorem dX0_takeLimits_52 : decode cX0_takeLimits 52 = .ok (.aload_n 0, 1) := by decide +kernel
theorem dX0_takeLimits_53 : decode cX0_takeLimits 53 = .ok (.getfield 19, 3) := by decide +kernel
theorem dX0_takeLimits_56 : decode cX0_takeLimits 56 = .ok (.iload_n 3, 1) := by decide +kernel
theorem dX0_takeLimits_57 : decode cX0_takeLimits 57 = .ok (.iaload, 1) := by decide +kernel
theorem dX0_takeLimits_58 : decode cX0_takeLimits 58 = .ok (.isub, 1) := by decide +kernel
theorem dX0_takeLimits_59 : decode cX0_takeLimits 59 = .ok (.goto 4, 3) := by decide +kernel
theorem dX0_takeLimits_62 : decode cX0_takeLimits 62 = .ok (.iconst 0, 1) := by decide +kernel
theorem dX0_takeLimits_63 : decode cX0_takeLimits 63 = .ok (.iastore, 1) := by decide +kernel
theorem dX0_takeLimits_64 : decode cX0_takeLimits 64 = .ok (.iinc 3 1, 3) := by decide +kernel
theorem dX0_takeLimits_67 : decode cX0_takeLimits 67 = .ok (.goto (-65), 3) := by decide +kernel
theorem dX0_takeLimits_70 : decode cX0_takeLimits 70 = .ok (.return_, 1) := by decide +kernel
abbrev cX0_award : ByteArray := prog_1_method_28_code
def yX0_award : MethodName := ⟨RX0, "award", "(I)V"⟩
theorem dX0_award_0 : decode cX0_award 0 = .ok (.iconst 0, 1) := by decide +kernel
theorem dX0_award_1 : decode cX0_award 1 = .ok (.istore_n 2, 1) := by decide +kernel
theorem dX0_award_2 : decode cX0_award 2 = .ok (.sipush 150, 3) := by decide +kernel
theorem dX0_award_5 : decode cX0_award 5 = .ok (.istore_n 3, 1) := by decide +kernel
theorem dX0_award_6 : decode cX0_award 6 = .ok (.iconst 0, 1) := by decide +kernel
theorem dX0_award_7 : decode cX0_award 7 = .ok (.istore 4, 2) := by decide +kernel
theorem dX0_award_9 : decode cX0_award 9 = .ok (.iload 4, 2) := by decide +kernel
theorem dX0_award_11 : decode cX0_award 11 = .ok (.bipush 9, 2) := by decide +kernel
theorem dX0_award_13 : decode cX0_award 13 = .ok (.if_icmp .ge 44, 3) := by decide +kernel
theorem dX0_award_16 : decode cX0_award 16 = .ok (.iload_n 2, 1) := by decide +kernel
theorem dX0_award_17 : decode cX0_award 17 = .ok (.iload_n 3, 1) := by decide +kernel
theorem dX0_award_18 : decode cX0_award 18 = .ok (.if_icmp .ge 39, 3) := by decide +kernel
theorem dX0_award_21 : decode cX0_award 21 = .ok (.iload_n 2, 1) := by decide +kernel
theorem dX0_award_22 : decode cX0_award 22 = .ok (.iload_n 3, 1) := by decide +kernel
theorem dX0_award_23 : decode cX0_award 23 = .ok (.iadd, 1) := by decide +kernel
theorem dX0_award_24 : decode cX0_award 24 = .ok (.iconst 1, 1) := by decide +kernel
theorem dX0_award_25 : decode cX0_award 25 = .ok (.iadd, 1) := by decide +kernel
theorem dX0_award_26 : decode cX0_award 26 = .ok (.iconst 1, 1) := by decide +kernel
theorem dX0_award_27 : decode cX0_award 27 = .ok (.ishr, 1) := by decide +kernel
theorem dX0_award_28 : decode cX0_award 28 = .ok (.istore 5, 2) := by decide +kernel
theorem dX0_award_30 : decode cX0_award 30 = .ok (.aload_n 0, 1) := by decide +kernel
theorem dX0_award_31 : decode cX0_award 31 = .ok (.iload 5, 2) := by decide +kernel
theorem dX0_award_33 : decode cX0_award 33 = .ok (.invokevirtual 73, 3) := by decide +kernel
theorem dX0_award_36 : decode cX0_award 36 = .ok (.iload_n 1, 1) := by decide +kernel
theorem dX0_award_37 : decode cX0_award 37 = .ok (.if_icmp .gt 9, 3) := by decide +kernel
theorem dX0_award_40 : decode cX0_award 40 = .ok (.iload 5, 2) := by decide +kernel
theorem dX0_award_42 : decode cX0_award 42 = .ok (.istore_n 2, 1) := by decide +kernel
theorem dX0_award_43 : decode cX0_award 43 = .ok (.goto 8, 3) := by decide +kernel
theorem dX0_award_46 : decode cX0_award 46 = .ok (.iload 5, 2) := by decide +kernel
theorem dX0_award_48 : decode cX0_award 48 = .ok (.iconst 1, 1) := by decide +kernel
theorem dX0_award_49 : decode cX0_award 49 = .ok (.isub, 1) := by decide +kernel
theorem dX0_award_50 : decode cX0_award 50 = .ok (.istore_n 3, 1) := by decide +kernel
theorem dX0_award_51 : decode cX0_award 51 = .ok (.iinc 4 1, 3) := by decide +kernel
theorem dX0_award_54 : decode cX0_award 54 = .ok (.goto (-45), 3) := by decide +kernel
theorem dX0_award_57 : decode cX0_award 57 = .ok (.iload_n 1, 1) := by decide +kernel
theorem dX0_award_58 : decode cX0_award 58 = .ok (.aload_n 0, 1) := by decide +kernel
theorem dX0_award_59 : decode cX0_award 59 = .ok (.iload_n 2, 1) := by decide +kernel
theorem dX0_award_60 : decode cX0_award 60 = .ok (.invokevirtual 73, 3) := by decide +kernel
theorem dX0_award_63 : decode cX0_award 63 = .ok (.isub, 1) := by decide +kernel
theorem dX0_award_64 : decode cX0_award 64 = .ok (.istore 4, 2) := by decide +kernel
theorem dX0_award_66 : decode cX0_award 66 = .ok (.iconst 0, 1) := by decide +kernel
theorem dX0_award_67 : decode cX0_award 67 = .ok (.istore 5, 2) := by decide +kernel
theorem dX0_award_69 : decode cX0_award 69 = .ok (.iload 5, 2) := by decide +kernel
theorem dX0_award_71 : decode cX0_award 71 = .ok (.aload_n 0, 1) := by decide +kernel
theorem dX0_award_72 : decode cX0_award 72 = .ok (.getfield 28, 3) := by decide +kernel
theorem dX0_award_75 : decode cX0_award 75 = .ok (.if_icmp .ge 90, 3) := by decide +kernel
theorem dX0_award_78 : decode cX0_award 78 = .ok (.aload_n 0, 1) := by decide +kernel
theorem dX0_award_79 : decode cX0_award 79 = .ok (.getfield 22, 3) := by decide +kernel
theorem dX0_award_82 : decode cX0_award 82 = .ok (.iload 5, 2) := by decide +kernel
theorem dX0_award_84 : decode cX0_award 84 = .ok (.iaload, 1) := by decide +kernel
theorem dX0_award_85 : decode cX0_award 85 = .ok (.iload_n 2, 1) := by decide +kernel
theorem dX0_award_86 : decode cX0_award 86 = .ok (.if_icmp .le 12, 3) := by decide +kernel
theorem dX0_award_89 : decode cX0_award 89 = .ok (.iload 4, 2) := by decide +kernel
theorem dX0_award_91 : decode cX0_award 91 = .ok (.ifCond .le 7, 3) := by decide +kernel
theorem dX0_award_94 : decode cX0_award 94 = .ok (.iconst 1, 1) := by decide +kernel
theorem dX0_award_95 : decode cX0_award 95 = .ok (.goto 4, 3) := by decide +kernel
theorem dX0_award_98 : decode cX0_award 98 = .ok (.iconst 0, 1) := by decide +kernel
theorem dX0_award_99 : decode cX0_award 99 = .ok (.istore 6, 2) := by decide +kernel
theorem dX0_award_101 : decode cX0_award 101 = .ok (.aload_n 0, 1) := by decide +kernel
theorem dX0_award_102 : decode cX0_award 102 = .ok (.getfield 19, 3) := by decide +kernel
theorem dX0_award_105 : decode cX0_award 105 = .ok (.iload 5, 2) := by decide +kernel
theorem dX0_award_107 : decode cX0_award 107 = .ok (.dup2, 1) := by decide +kernel
theorem dX0_award_108 : decode cX0_award 108 = .ok (.iaload, 1) := by decide +kernel
theorem dX0_award_109 : decode cX0_award 109 = .ok (.aload_n 0, 1) := by decide +kernel
theorem dX0_award_110 : decode cX0_award 110 = .ok (.getfield 22, 3) := by decide +kernel
theorem dX0_award_113 : decode cX0_award 113 = .ok (.iload 5, 2) := by decide +kernel
theorem dX0_award_115 : decode cX0_award 115 = .ok (.iaload, 1) := by decide +kernel
theorem dX0_award_116 : decode cX0_award 116 = .ok (.iload_n 2, 1) := by decide +kernel
theorem dX0_award_117 : decode cX0_award 117 = .ok (.if_icmp .ge 13, 3) := by decide +kernel
theorem dX0_award_120 : decode cX0_award 120 = .ok (.aload_n 0, 1) := by decide +kernel
theorem dX0_award_121 : decode cX0_award 121 = .ok (.getfield 22, 3) := by decide +kernel
theorem dX0_award_124 : decode cX0_award 124 = .ok (.iload 5, 2) := by decide +kernel
theorem dX0_award_126 : decode cX0_award 126 = .ok (.iaload, 1) := by decide +kernel
theorem dX0_award_127 : decode cX0_award 127 = .ok (.goto 4, 3) := by decide +kernel
theorem dX0_award_130 : decode cX0_award 130 = .ok (.iload_n 2, 1) := by decide +kernel
theorem dX0_award_131 : decode cX0_award 131 = .ok (.iload 6, 2) := by decide +kernel
theorem dX0_award_133 : decode cX0_award 133 = .ok (.ifCond .eq 7, 3) := by decide +kernel
theorem dX0_award_136 : decode cX0_award 136 = .ok (.iconst 1, 1) := by decide +kernel
theorem dX0_award_137 : decode cX0_award 137 = .ok (.goto 4, 3) := by decide +kernel
theorem dX0_award_140 : decode cX0_award 140 = .ok (.iconst 0, 1) := by decide +kernel
theorem dX0_award_141 : decode cX0_award 141 = .ok (.iadd, 1) := by decide +kernel
theorem dX0_award_142 : decode cX0_award 142 = .ok (.iadd, 1) := by decide +kernel
theorem dX0_award_143 : decode cX0_award 143 = .ok (.iastore, 1) := by decide +kernel
theorem dX0_award_144 : decode cX0_award 144 = .ok (.iload 4, 2) := by decide +kernel
theorem dX0_award_146 : decode cX0_award 146 = .ok (.iload 6, 2) := by decide +kernel
theorem dX0_award_148 : decode cX0_award 148 = .ok (.ifCond .eq 7, 3) := by decide +kernel
theorem dX0_award_151 : decode cX0_award 151 = .ok (.iconst 1, 1) := by decide +kernel
theorem dX0_award_152 : decode cX0_award 152 = .ok (.goto 4, 3) := by decide +kernel
theorem dX0_award_155 : decode cX0_award 155 = .ok (.iconst 0, 1) := by decide +kernel
theorem dX0_award_156 : decode cX0_award 156 = .ok (.isub, 1) := by decide +kernel
theorem dX0_award_157 : decode cX0_award 157 = .ok (.istore 4, 2) := by decide +kernel
theorem dX0_award_159 : decode cX0_award 159 = .ok (.iinc 5 1, 3) := by decide +kernel
theorem dX0_award_162 : decode cX0_award 162 = .ok (.goto (-93), 3) := by decide +kernel
theorem dX0_award_165 : decode cX0_award 165 = .ok (.return_, 1) := by decide +kernel
abbrev cX0_awarded : ByteArray := prog_1_method_27_code
def yX0_awarded : MethodName := ⟨RX0, "awarded", "(I)I"⟩
theorem dX0_awarded_0 : decode cX0_awarded 0 = .ok (.iconst 0, 1) := by decide +kernel
theorem dX0_awarded_1 : decode cX0_awarded 1 = .ok (.istore_n 2, 1) := by decide +kernel
theorem dX0_awarded_2 : decode cX0_awarded 2 = .ok (.iconst 0, 1) := by decide +kernel
theorem dX0_awarded_3 : decode cX0_awarded 3 = .ok (.istore_n 3, 1) := by decide +kernel
theorem dX0_awarded_4 : decode cX0_awarded 4 = .ok (.iload_n 3, 1) := by decide +kernel
theorem dX0_awarded_5 : decode cX0_awarded 5 = .ok (.aload_n 0, 1) := by decide +kernel
theorem dX0_awarded_6 : decode cX0_awarded 6 = .ok (.getfield 28, 3) := by decide +kernel
theorem dX0_awarded_9 : decode cX0_awarded 9 = .ok (.if_icmp .ge 32, 3) := by decide +kernel
theorem dX0_awarded_12 : decode cX0_awarded 12 = .ok (.iload_n 2, 1) := by decide +kernel
theorem dX0_awarded_13 : decode cX0_awarded 13 = .ok (.aload_n 0, 1) := by decide +kernel
theorem dX0_awarded_14 : decode cX0_awarded 14 = .ok (.getfield 22, 3) := by decide +kernel
theorem dX0_awarded_17 : decode cX0_awarded 17 = .ok (.iload_n 3, 1) := by decide +kernel
theorem dX0_awarded_18 : decode cX0_awarded 18 = .ok (.iaload, 1) := by decide +kernel
theorem dX0_awarded_19 : decode cX0_awarded 19 = .ok (.iload_n 1, 1) := by decide +kernel
theorem dX0_awarded_20 : decode cX0_awarded 20 = .ok (.if_icmp .ge 12, 3) := by decide +kernel
theorem dX0_awarded_23 : decode cX0_awarded 23 = .ok (.aload_n 0, 1) := by decide +kernel
theorem dX0_awarded_24 : decode cX0_awarded 24 = .ok (.getfield 22, 3) := by decide +kernel
theorem dX0_awarded_27 : decode cX0_awarded 27 = .ok (.iload_n 3, 1) := by decide +kernel
theorem dX0_awarded_28 : decode cX0_awarded 28 = .ok (.iaload, 1) := by decide +kernel
theorem dX0_awarded_29 : decode cX0_awarded 29 = .ok (.goto 4, 3) := by decide +kernel
theorem dX0_awarded_32 : decode cX0_awarded 32 = .ok (.iload_n 1, 1) := by decide +kernel
theorem dX0_awarded_33 : decode cX0_awarded 33 = .ok (.iadd, 1) := by decide +kernel
theorem dX0_awarded_34 : decode cX0_awarded 34 = .ok (.istore_n 2, 1) := by decide +kernel
theorem dX0_awarded_35 : decode cX0_awarded 35 = .ok (.iinc 3 1, 3) := by decide +kernel
theorem dX0_awarded_38 : decode cX0_awarded 38 = .ok (.goto (-34), 3) := by decide +kernel
theorem dX0_awarded_41 : decode cX0_awarded 41 = .ok (.iload_n 2, 1) := by decide +kernel
theorem dX0_awarded_42 : decode cX0_awarded 42 = .ok (.ireturn, 1) := by decide +kernel
abbrev cX0_lose : ByteArray := prog_1_method_30_code
def yX0_lose : MethodName := ⟨RX0, "lose", "(I)V"⟩
theorem dX0_lose_0 : decode cX0_lose 0 = .ok (.iconst 0, 1) := by decide +kernel
theorem dX0_lose_1 : decode cX0_lose 1 = .ok (.istore_n 2, 1) := by decide +kernel
theorem dX0_lose_2 : decode cX0_lose 2 = .ok (.sipush 150, 3) := by decide +kernel
theorem dX0_lose_5 : decode cX0_lose 5 = .ok (.istore_n 3, 1) := by decide +kernel
theorem dX0_lose_6 : decode cX0_lose 6 = .ok (.iconst 0, 1) := by decide +kernel
theorem dX0_lose_7 : decode cX0_lose 7 = .ok (.istore 4, 2) := by decide +kernel
theorem dX0_lose_9 : decode cX0_lose 9 = .ok (.iload 4, 2) := by decide +kernel
theorem dX0_lose_11 : decode cX0_lose 11 = .ok (.bipush 9, 2) := by decide +kernel
theorem dX0_lose_13 : decode cX0_lose 13 = .ok (.if_icmp .ge 42, 3) := by decide +kernel
theorem dX0_lose_16 : decode cX0_lose 16 = .ok (.iload_n 2, 1) := by decide +kernel
theorem dX0_lose_17 : decode cX0_lose 17 = .ok (.iload_n 3, 1) := by decide +kernel
theorem dX0_lose_18 : decode cX0_lose 18 = .ok (.if_icmp .ge 37, 3) := by decide +kernel
theorem dX0_lose_21 : decode cX0_lose 21 = .ok (.iload_n 2, 1) := by decide +kernel
theorem dX0_lose_22 : decode cX0_lose 22 = .ok (.iload_n 3, 1) := by decide +kernel
theorem dX0_lose_23 : decode cX0_lose 23 = .ok (.iadd, 1) := by decide +kernel
theorem dX0_lose_24 : decode cX0_lose 24 = .ok (.iconst 1, 1) := by decide +kernel
theorem dX0_lose_25 : decode cX0_lose 25 = .ok (.ishr, 1) := by decide +kernel
theorem dX0_lose_26 : decode cX0_lose 26 = .ok (.istore 5, 2) := by decide +kernel
theorem dX0_lose_28 : decode cX0_lose 28 = .ok (.aload_n 0, 1) := by decide +kernel
theorem dX0_lose_29 : decode cX0_lose 29 = .ok (.iload 5, 2) := by decide +kernel
theorem dX0_lose_31 : decode cX0_lose 31 = .ok (.invokevirtual 76, 3) := by decide +kernel
theorem dX0_lose_34 : decode cX0_lose 34 = .ok (.iload_n 1, 1) := by decide +kernel
theorem dX0_lose_35 : decode cX0_lose 35 = .ok (.if_icmp .gt 9, 3) := by decide +kernel
theorem dX0_lose_38 : decode cX0_lose 38 = .ok (.iload 5, 2) := by decide +kernel
theorem dX0_lose_40 : decode cX0_lose 40 = .ok (.istore_n 3, 1) := by decide +kernel
theorem dX0_lose_41 : decode cX0_lose 41 = .ok (.goto 8, 3) := by decide +kernel
theorem dX0_lose_44 : decode cX0_lose 44 = .ok (.iload 5, 2) := by decide +kernel
theorem dX0_lose_46 : decode cX0_lose 46 = .ok (.iconst 1, 1) := by decide +kernel
theorem dX0_lose_47 : decode cX0_lose 47 = .ok (.iadd, 1) := by decide +kernel
theorem dX0_lose_48 : decode cX0_lose 48 = .ok (.istore_n 2, 1) := by decide +kernel
theorem dX0_lose_49 : decode cX0_lose 49 = .ok (.iinc 4 1, 3) := by decide +kernel
theorem dX0_lose_52 : decode cX0_lose 52 = .ok (.goto (-43), 3) := by decide +kernel
theorem dX0_lose_55 : decode cX0_lose 55 = .ok (.iload_n 1, 1) := by decide +kernel
theorem dX0_lose_56 : decode cX0_lose 56 = .ok (.aload_n 0, 1) := by decide +kernel
theorem dX0_lose_57 : decode cX0_lose 57 = .ok (.iload_n 2, 1) := by decide +kernel
theorem dX0_lose_58 : decode cX0_lose 58 = .ok (.invokevirtual 76, 3) := by decide +kernel
theorem dX0_lose_61 : decode cX0_lose 61 = .ok (.isub, 1) := by decide +kernel
theorem dX0_lose_62 : decode cX0_lose 62 = .ok (.istore 4, 2) := by decide +kernel
theorem dX0_lose_64 : decode cX0_lose 64 = .ok (.iconst 0, 1) := by decide +kernel
theorem dX0_lose_65 : decode cX0_lose 65 = .ok (.istore 5, 2) := by decide +kernel
theorem dX0_lose_67 : decode cX0_lose 67 = .ok (.iload 5, 2) := by decide +kernel
theorem dX0_lose_69 : decode cX0_lose 69 = .ok (.aload_n 0, 1) := by decide +kernel
theorem dX0_lose_70 : decode cX0_lose 70 = .ok (.getfield 28, 3) := by decide +kernel
theorem dX0_lose_73 : decode cX0_lose 73 = .ok (.if_icmp .ge 106, 3) := by decide +kernel
theorem dX0_lose_76 : decode cX0_lose 76 = .ok (.aload_n 0, 1) := by decide +kernel
theorem dX0_lose_77 : decode cX0_lose 77 = .ok (.getfield 22, 3) := by decide +kernel
theorem dX0_lose_80 : decode cX0_lose 80 = .ok (.iload 5, 2) := by decide +kernel
theorem dX0_lose_82 : decode cX0_lose 82 = .ok (.iaload, 1) := by decide +kernel
theorem dX0_lose_83 : decode cX0_lose 83 = .ok (.iload_n 2, 1) := by decide +kernel
theorem dX0_lose_84 : decode cX0_lose 84 = .ok (.if_icmp .lt 26, 3) := by decide +kernel
theorem dX0_lose_87 : decode cX0_lose 87 = .ok (.aload_n 0, 1) := by decide +kernel
theorem dX0_lose_88 : decode cX0_lose 88 = .ok (.getfield 22, 3) := by decide +kernel
theorem dX0_lose_91 : decode cX0_lose 91 = .ok (.iload 5, 2) := by decide +kernel
theorem dX0_lose_93 : decode cX0_lose 93 = .ok (.iaload, 1) := by decide +kernel
theorem dX0_lose_94 : decode cX0_lose 94 = .ok (.ifCond .le 16, 3) := by decide +kernel
theorem dX0_lose_97 : decode cX0_lose 97 = .ok (.iload_n 2, 1) := by decide +kernel
theorem dX0_lose_98 : decode cX0_lose 98 = .ok (.ifCond .le 12, 3) := by decide +kernel
theorem dX0_lose_101 : decode cX0_lose 101 = .ok (.iload 4, 2) := by decide +kernel
theorem dX0_lose_103 : decode cX0_lose 103 = .ok (.ifCond .le 7, 3) := by decide +kernel
theorem dX0_lose_106 : decode cX0_lose 106 = .ok (.iconst 1, 1) := by decide +kernel
theorem dX0_lose_107 : decode cX0_lose 107 = .ok (.goto 4, 3) := by decide +kernel
theorem dX0_lose_110 : decode cX0_lose 110 = .ok (.iconst 0, 1) := by decide +kernel
theorem dX0_lose_111 : decode cX0_lose 111 = .ok (.istore 6, 2) := by decide +kernel
theorem dX0_lose_113 : decode cX0_lose 113 = .ok (.aload_n 0, 1) := by decide +kernel
theorem dX0_lose_114 : decode cX0_lose 114 = .ok (.getfield 19, 3) := by decide +kernel
theorem dX0_lose_117 : decode cX0_lose 117 = .ok (.iload 5, 2) := by decide +kernel
theorem dX0_lose_119 : decode cX0_lose 119 = .ok (.dup2, 1) := by decide +kernel
theorem dX0_lose_120 : decode cX0_lose 120 = .ok (.iaload, 1) := by decide +kernel
theorem dX0_lose_121 : decode cX0_lose 121 = .ok (.aload_n 0, 1) := by decide +kernel
theorem dX0_lose_122 : decode cX0_lose 122 = .ok (.getfield 22, 3) := by decide +kernel
theorem dX0_lose_125 : decode cX0_lose 125 = .ok (.iload 5, 2) := by decide +kernel
theorem dX0_lose_127 : decode cX0_lose 127 = .ok (.iaload, 1) := by decide +kernel
theorem dX0_lose_128 : decode cX0_lose 128 = .ok (.iload_n 2, 1) := by decide +kernel
theorem dX0_lose_129 : decode cX0_lose 129 = .ok (.if_icmp .le 15, 3) := by decide +kernel
theorem dX0_lose_132 : decode cX0_lose 132 = .ok (.aload_n 0, 1) := by decide +kernel
theorem dX0_lose_133 : decode cX0_lose 133 = .ok (.getfield 22, 3) := by decide +kernel
theorem dX0_lose_136 : decode cX0_lose 136 = .ok (.iload 5, 2) := by decide +kernel
theorem dX0_lose_138 : decode cX0_lose 138 = .ok (.iaload, 1) := by decide +kernel
theorem dX0_lose_139 : decode cX0_lose 139 = .ok (.iload_n 2, 1) := by decide +kernel
theorem dX0_lose_140 : decode cX0_lose 140 = .ok (.isub, 1) := by decide +kernel
theorem dX0_lose_141 : decode cX0_lose 141 = .ok (.goto 4, 3) := by decide +kernel
theorem dX0_lose_144 : decode cX0_lose 144 = .ok (.iconst 0, 1) := by decide +kernel
theorem dX0_lose_145 : decode cX0_lose 145 = .ok (.iload 6, 2) := by decide +kernel
theorem dX0_lose_147 : decode cX0_lose 147 = .ok (.ifCond .eq 7, 3) := by decide +kernel
theorem dX0_lose_150 : decode cX0_lose 150 = .ok (.iconst 1, 1) := by decide +kernel
theorem dX0_lose_151 : decode cX0_lose 151 = .ok (.goto 4, 3) := by decide +kernel
theorem dX0_lose_154 : decode cX0_lose 154 = .ok (.iconst 0, 1) := by decide +kernel
theorem dX0_lose_155 : decode cX0_lose 155 = .ok (.iadd, 1) := by decide +kernel
theorem dX0_lose_156 : decode cX0_lose 156 = .ok (.iadd, 1) := by decide +kernel
theorem dX0_lose_157 : decode cX0_lose 157 = .ok (.iastore, 1) := by decide +kernel
theorem dX0_lose_158 : decode cX0_lose 158 = .ok (.iload 4, 2) := by decide +kernel
theorem dX0_lose_160 : decode cX0_lose 160 = .ok (.iload 6, 2) := by decide +kernel
theorem dX0_lose_162 : decode cX0_lose 162 = .ok (.ifCond .eq 7, 3) := by decide +kernel
theorem dX0_lose_165 : decode cX0_lose 165 = .ok (.iconst 1, 1) := by decide +kernel
theorem dX0_lose_166 : decode cX0_lose 166 = .ok (.goto 4, 3) := by decide +kernel
theorem dX0_lose_169 : decode cX0_lose 169 = .ok (.iconst 0, 1) := by decide +kernel
theorem dX0_lose_170 : decode cX0_lose 170 = .ok (.isub, 1) := by decide +kernel
theorem dX0_lose_171 : decode cX0_lose 171 = .ok (.istore 4, 2) := by decide +kernel
theorem dX0_lose_173 : decode cX0_lose 173 = .ok (.iinc 5 1, 3) := by decide +kernel
theorem dX0_lose_176 : decode cX0_lose 176 = .ok (.goto (-109), 3) := by decide +kernel
theorem dX0_lose_179 : decode cX0_lose 179 = .ok (.return_, 1) := by decide +kernel
abbrev cX0_lost : ByteArray := prog_1_method_29_code
def yX0_lost : MethodName := ⟨RX0, "lost", "(I)I"⟩
theorem dX0_lost_0 : decode cX0_lost 0 = .ok (.iconst 0, 1) := by decide +kernel
theorem dX0_lost_1 : decode cX0_lost 1 = .ok (.istore_n 2, 1) := by decide +kernel
theorem dX0_lost_2 : decode cX0_lost 2 = .ok (.iconst 0, 1) := by decide +kernel
theorem dX0_lost_3 : decode cX0_lost 3 = .ok (.istore_n 3, 1) := by decide +kernel
theorem dX0_lost_4 : decode cX0_lost 4 = .ok (.iload_n 3, 1) := by decide +kernel
theorem dX0_lost_5 : decode cX0_lost 5 = .ok (.aload_n 0, 1) := by decide +kernel
theorem dX0_lost_6 : decode cX0_lost 6 = .ok (.getfield 28, 3) := by decide +kernel
theorem dX0_lost_9 : decode cX0_lost 9 = .ok (.if_icmp .ge 34, 3) := by decide +kernel
theorem dX0_lost_12 : decode cX0_lost 12 = .ok (.iload_n 2, 1) := by decide +kernel
theorem dX0_lost_13 : decode cX0_lost 13 = .ok (.aload_n 0, 1) := by decide +kernel
theorem dX0_lost_14 : decode cX0_lost 14 = .ok (.getfield 22, 3) := by decide +kernel
theorem dX0_lost_17 : decode cX0_lost 17 = .ok (.iload_n 3, 1) := by decide +kernel
theorem dX0_lost_18 : decode cX0_lost 18 = .ok (.iaload, 1) := by decide +kernel
theorem dX0_lost_19 : decode cX0_lost 19 = .ok (.iload_n 1, 1) := by decide +kernel
theorem dX0_lost_20 : decode cX0_lost 20 = .ok (.if_icmp .le 14, 3) := by decide +kernel
theorem dX0_lost_23 : decode cX0_lost 23 = .ok (.aload_n 0, 1) := by decide +kernel
theorem dX0_lost_24 : decode cX0_lost 24 = .ok (.getfield 22, 3) := by decide +kernel
theorem dX0_lost_27 : decode cX0_lost 27 = .ok (.iload_n 3, 1) := by decide +kernel
theorem dX0_lost_28 : decode cX0_lost 28 = .ok (.iaload, 1) := by decide +kernel
theorem dX0_lost_29 : decode cX0_lost 29 = .ok (.iload_n 1, 1) := by decide +kernel
theorem dX0_lost_30 : decode cX0_lost 30 = .ok (.isub, 1) := by decide +kernel
theorem dX0_lost_31 : decode cX0_lost 31 = .ok (.goto 4, 3) := by decide +kernel
theorem dX0_lost_34 : decode cX0_lost 34 = .ok (.iconst 0, 1) := by decide +kernel
theorem dX0_lost_35 : decode cX0_lost 35 = .ok (.iadd, 1) := by decide +kernel
theorem dX0_lost_36 : decode cX0_lost 36 = .ok (.istore_n 2, 1) := by decide +kernel
theorem dX0_lost_37 : decode cX0_lost 37 = .ok (.iinc 3 1, 3) := by decide +kernel
theorem dX0_lost_40 : decode cX0_lost 40 = .ok (.goto (-36), 3) := by decide +kernel
theorem dX0_lost_43 : decode cX0_lost 43 = .ok (.iload_n 2, 1) := by decide +kernel
theorem dX0_lost_44 : decode cX0_lost 44 = .ok (.ireturn, 1) := by decide +kernel
abbrev cX0_quotas : ByteArray := prog_1_method_31_code
def yX0_quotas : MethodName := ⟨RX0, "quotas", "(III)V"⟩
theorem dX0_quotas_0 : decode cX0_quotas 0 = .ok (.iload_n 2, 1) := by decide +kernel
theorem dX0_quotas_1 : decode cX0_quotas 1 = .ok (.istore 4, 2) := by decide +kernel
theorem dX0_quotas_3 : decode cX0_quotas 3 = .ok (.iconst 0, 1) := by decide +kernel
theorem dX0_quotas_4 : decode cX0_quotas 4 = .ok (.istore 5, 2) := by decide +kernel
theorem dX0_quotas_6 : decode cX0_quotas 6 = .ok (.iload 5, 2) := by decide +kernel
theorem dX0_quotas_8 : decode cX0_quotas 8 = .ok (.aload_n 0, 1) := by decide +kernel
theorem dX0_quotas_9 : decode cX0_quotas 9 = .ok (.getfield 28, 3) := by decide +kernel
theorem dX0_quotas_12 : decode cX0_quotas 12 = .ok (.if_icmp .ge 54, 3) := by decide +kernel
theorem dX0_quotas_15 : decode cX0_quotas 15 = .ok (.aload_n 0, 1) := by decide +kernel
theorem dX0_quotas_16 : decode cX0_quotas 16 = .ok (.getfield 13, 3) := by decide +kernel
theorem dX0_quotas_19 : decode cX0_quotas 19 = .ok (.iload 5, 2) := by decide +kernel
theorem dX0_quotas_21 : decode cX0_quotas 21 = .ok (.iaload, 1) := by decide +kernel
theorem dX0_quotas_22 : decode cX0_quotas 22 = .ok (.iload_n 1, 1) := by decide +kernel
theorem dX0_quotas_23 : decode cX0_quotas 23 = .ok (.if_icmp .ne 37, 3) := by decide +kernel
theorem dX0_quotas_26 : decode cX0_quotas 26 = .ok (.iload_n 3, 1) := by decide +kernel
theorem dX0_quotas_27 : decode cX0_quotas 27 = .ok (.ifCond .le 33, 3) := by decide +kernel
theorem dX0_quotas_30 : decode cX0_quotas 30 = .ok (.aload_n 0, 1) := by decide +kernel
theorem dX0_quotas_31 : decode cX0_quotas 31 = .ok (.getfield 19, 3) := by decide +kernel
theorem dX0_quotas_34 : decode cX0_quotas 34 = .ok (.iload 5, 2) := by decide +kernel
theorem dX0_quotas_36 : decode cX0_quotas 36 = .ok (.iload_n 2, 1) := by decide +kernel
theorem dX0_quotas_37 : decode cX0_quotas 37 = .ok (.aload_n 0, 1) := by decide +kernel
theorem dX0_quotas_38 : decode cX0_quotas 38 = .ok (.getfield 7, 3) := by decide +kernel
theorem dX0_quotas_41 : decode cX0_quotas 41 = .ok (.iload 5, 2) := by decide +kernel
theorem dX0_quotas_43 : decode cX0_quotas 43 = .ok (.iaload, 1) := by decide +kernel
theorem dX0_quotas_44 : decode cX0_quotas 44 = .ok (.imul, 1) := by decide +kernel
theorem dX0_quotas_45 : decode cX0_quotas 45 = .ok (.iload_n 3, 1) := by decide +kernel
theorem dX0_quotas_46 : decode cX0_quotas 46 = .ok (.idiv, 1) := by decide +kernel
theorem dX0_quotas_47 : decode cX0_quotas 47 = .ok (.iastore, 1) := by decide +kernel
theorem dX0_quotas_48 : decode cX0_quotas 48 = .ok (.iload 4, 2) := by decide +kernel
theorem dX0_quotas_50 : decode cX0_quotas 50 = .ok (.aload_n 0, 1) := by decide +kernel
theorem dX0_quotas_51 : decode cX0_quotas 51 = .ok (.getfield 19, 3) := by decide +kernel
theorem dX0_quotas_54 : decode cX0_quotas 54 = .ok (.iload 5, 2) := by decide +kernel
theorem dX0_quotas_56 : decode cX0_quotas 56 = .ok (.iaload, 1) := by decide +kernel
theorem dX0_quotas_57 : decode cX0_quotas 57 = .ok (.isub, 1) := by decide +kernel
theorem dX0_quotas_58 : decode cX0_quotas 58 = .ok (.istore 4, 2) := by decide +kernel
theorem dX0_quotas_60 : decode cX0_quotas 60 = .ok (.iinc 5 1, 3) := by decide +kernel
theorem dX0_quotas_63 : decode cX0_quotas 63 = .ok (.goto (-57), 3) := by decide +kernel
theorem dX0_quotas_66 : decode cX0_quotas 66 = .ok (.iconst 0, 1) := by decide +kernel
theorem dX0_quotas_67 : decode cX0_quotas 67 = .ok (.istore 5, 2) := by decide +kernel
theorem dX0_quotas_69 : decode cX0_quotas 69 = .ok (.iload 5, 2) := by decide +kernel
theorem dX0_quotas_71 : decode cX0_quotas 71 = .ok (.bipush 8, 2) := by decide +kernel
theorem dX0_quotas_73 : decode cX0_quotas 73 = .ok (.if_icmp .ge 102, 3) := by decide +kernel
theorem dX0_quotas_76 : decode cX0_quotas 76 = .ok (.iload 4, 2) := by decide +kernel
theorem dX0_quotas_78 : decode cX0_quotas 78 = .ok (.ifCond .le 97, 3) := by decide +kernel
theorem dX0_quotas_81 : decode cX0_quotas 81 = .ok (.iconst (-1), 1) := by decide +kernel
theorem dX0_quotas_82 : decode cX0_quotas 82 = .ok (.istore 6, 2) := by decide +kernel
theorem dX0_quotas_84 : decode cX0_quotas 84 = .ok (.iconst 0, 1) := by decide +kernel
theorem dX0_quotas_85 : decode cX0_quotas 85 = .ok (.istore 7, 2) := by decide +kernel
theorem dX0_quotas_87 : decode cX0_quotas 87 = .ok (.iload 7, 2) := by decide +kernel
theorem dX0_quotas_89 : decode cX0_quotas 89 = .ok (.aload_n 0, 1) := by decide +kernel
theorem dX0_quotas_90 : decode cX0_quotas 90 = .ok (.getfield 28, 3) := by decide +kernel
theorem dX0_quotas_93 : decode cX0_quotas 93 = .ok (.if_icmp .ge 57, 3) := by decide +kernel
theorem dX0_quotas_96 : decode cX0_quotas 96 = .ok (.aload_n 0, 1) := by decide +kernel
theorem dX0_quotas_97 : decode cX0_quotas 97 = .ok (.getfield 13, 3) := by decide +kernel
theorem dX0_quotas_100 : decode cX0_quotas 100 = .ok (.iload 7, 2) := by decide +kernel
theorem dX0_quotas_102 : decode cX0_quotas 102 = .ok (.iaload, 1) := by decide +kernel
theorem dX0_quotas_103 : decode cX0_quotas 103 = .ok (.iload_n 1, 1) := by decide +kernel
theorem dX0_quotas_104 : decode cX0_quotas 104 = .ok (.if_icmp .ne 40, 3) := by decide +kernel
theorem dX0_quotas_107 : decode cX0_quotas 107 = .ok (.aload_n 0, 1) := by decide +kernel
theorem dX0_quotas_108 : decode cX0_quotas 108 = .ok (.getfield 19, 3) := by decide +kernel
theorem dX0_quotas_111 : decode cX0_quotas 111 = .ok (.iload 7, 2) := by decide +kernel
theorem dX0_quotas_113 : decode cX0_quotas 113 = .ok (.iaload, 1) := by decide +kernel
theorem dX0_quotas_114 : decode cX0_quotas 114 = .ok (.aload_n 0, 1) := by decide +kernel
theorem dX0_quotas_115 : decode cX0_quotas 115 = .ok (.getfield 7, 3) := by decide +kernel
theorem dX0_quotas_118 : decode cX0_quotas 118 = .ok (.iload 7, 2) := by decide +kernel
theorem dX0_quotas_120 : decode cX0_quotas 120 = .ok (.iaload, 1) := by decide +kernel
theorem dX0_quotas_121 : decode cX0_quotas 121 = .ok (.if_icmp .ge 23, 3) := by decide +kernel
theorem dX0_quotas_124 : decode cX0_quotas 124 = .ok (.iload 6, 2) := by decide +kernel
theorem dX0_quotas_126 : decode cX0_quotas 126 = .ok (.ifCond .lt 14, 3) := by decide +kernel
theorem dX0_quotas_129 : decode cX0_quotas 129 = .ok (.aload_n 0, 1) := by decide +kernel
theorem dX0_quotas_130 : decode cX0_quotas 130 = .ok (.iload 7, 2) := by decide +kernel
theorem dX0_quotas_132 : decode cX0_quotas 132 = .ok (.iload 6, 2) := by decide +kernel
theorem dX0_quotas_134 : decode cX0_quotas 134 = .ok (.invokevirtual 79, 3) := by decide +kernel
theorem dX0_quotas_137 : decode cX0_quotas 137 = .ok (.ifCond .eq 7, 3) := by decide +kernel
theorem dX0_quotas_140 : decode cX0_quotas 140 = .ok (.iload 7, 2) := by decide +kernel
theorem dX0_quotas_142 : decode cX0_quotas 142 = .ok (.istore 6, 2) := by decide +kernel
theorem dX0_quotas_144 : decode cX0_quotas 144 = .ok (.iinc 7 1, 3) := by decide +kernel
theorem dX0_quotas_147 : decode cX0_quotas 147 = .ok (.goto (-60), 3) := by decide +kernel
theorem dX0_quotas_150 : decode cX0_quotas 150 = .ok (.iload 6, 2) := by decide +kernel
theorem dX0_quotas_152 : decode cX0_quotas 152 = .ok (.ifCond .lt 14, 3) := by decide +kernel
theorem dX0_quotas_155 : decode cX0_quotas 155 = .ok (.aload_n 0, 1) := by decide +kernel
theorem dX0_quotas_156 : decode cX0_quotas 156 = .ok (.getfield 19, 3) := by decide +kernel
theorem dX0_quotas_159 : decode cX0_quotas 159 = .ok (.iload 6, 2) := by decide +kernel
theorem dX0_quotas_161 : decode cX0_quotas 161 = .ok (.dup2, 1) := by decide +kernel
theorem dX0_quotas_162 : decode cX0_quotas 162 = .ok (.iaload, 1) := by decide +kernel
theorem dX0_quotas_163 : decode cX0_quotas 163 = .ok (.iconst 1, 1) := by decide +kernel
theorem dX0_quotas_164 : decode cX0_quotas 164 = .ok (.iadd, 1) := by decide +kernel
theorem dX0_quotas_165 : decode cX0_quotas 165 = .ok (.iastore, 1) := by decide +kernel
theorem dX0_quotas_166 : decode cX0_quotas 166 = .ok (.iinc 4 (-1), 3) := by decide +kernel
theorem dX0_quotas_169 : decode cX0_quotas 169 = .ok (.iinc 5 1, 3) := by decide +kernel
theorem dX0_quotas_172 : decode cX0_quotas 172 = .ok (.goto (-103), 3) := by decide +kernel
theorem dX0_quotas_175 : decode cX0_quotas 175 = .ok (.return_, 1) := by decide +kernel
abbrev cX0_isGreater : ByteArray := prog_1_method_32_code
def yX0_isGreater : MethodName := ⟨RX0, "isGreater", "(II)Z"⟩
theorem dX0_isGreater_0 : decode cX0_isGreater 0 = .ok (.aload_n 0, 1) := by decide +kernel
theorem dX0_isGreater_1 : decode cX0_isGreater 1 = .ok (.getfield 7, 3) := by decide +kernel
theorem dX0_isGreater_4 : decode cX0_isGreater 4 = .ok (.iload_n 1, 1) := by decide +kernel
theorem dX0_isGreater_5 : decode cX0_isGreater 5 = .ok (.iaload, 1) := by decide +kernel
theorem dX0_isGreater_6 : decode cX0_isGreater 6 = .ok (.aload_n 0, 1) := by decide +kernel
theorem dX0_isGreater_7 : decode cX0_isGreater 7 = .ok (.getfield 19, 3) := by decide +kernel
theorem dX0_isGreater_10 : decode cX0_isGreater 10 = .ok (.iload_n 2, 1) := by decide +kernel
theorem dX0_isGreater_11 : decode cX0_isGreater 11 = .ok (.iaload, 1) := by decide +kernel
theorem dX0_isGreater_12 : decode cX0_isGreater 12 = .ok (.iconst 1, 1) := by decide +kernel
theorem dX0_isGreater_13 : decode cX0_isGreater 13 = .ok (.iadd, 1) := by decide +kernel
theorem dX0_isGreater_14 : decode cX0_isGreater 14 = .ok (.imul, 1) := by decide +kernel
theorem dX0_isGreater_15 : decode cX0_isGreater 15 = .ok (.aload_n 0, 1) := by decide +kernel
theorem dX0_isGreater_16 : decode cX0_isGreater 16 = .ok (.getfield 7, 3) := by decide +kernel
theorem dX0_isGreater_19 : decode cX0_isGreater 19 = .ok (.iload_n 2, 1) := by decide +kernel
theorem dX0_isGreater_20 : decode cX0_isGreater 20 = .ok (.iaload, 1) := by decide +kernel
theorem dX0_isGreater_21 : decode cX0_isGreater 21 = .ok (.aload_n 0, 1) := by decide +kernel
theorem dX0_isGreater_22 : decode cX0_isGreater 22 = .ok (.getfield 19, 3) := by decide +kernel
theorem dX0_isGreater_25 : decode cX0_isGreater 25 = .ok (.iload_n 1, 1) := by decide +kernel
theorem dX0_isGreater_26 : decode cX0_isGreater 26 = .ok (.iaload, 1) := by decide +kernel
theorem dX0_isGreater_27 : decode cX0_isGreater 27 = .ok (.iconst 1, 1) := by decide +kernel
theorem dX0_isGreater_28 : decode cX0_isGreater 28 = .ok (.iadd, 1) := by decide +kernel
theorem dX0_isGreater_29 : decode cX0_isGreater 29 = .ok (.imul, 1) := by decide +kernel
theorem dX0_isGreater_30 : decode cX0_isGreater 30 = .ok (.if_icmp .le 7, 3) := by decide +kernel
theorem dX0_isGreater_33 : decode cX0_isGreater 33 = .ok (.iconst 1, 1) := by decide +kernel
theorem dX0_isGreater_34 : decode cX0_isGreater 34 = .ok (.goto 4, 3) := by decide +kernel
theorem dX0_isGreater_37 : decode cX0_isGreater 37 = .ok (.iconst 0, 1) := by decide +kernel
theorem dX0_isGreater_38 : decode cX0_isGreater 38 = .ok (.ireturn, 1) := by decide +kernel
abbrev cX0_shareOf : ByteArray := prog_1_method_11_code
def yX0_shareOf : MethodName := ⟨RX0, "shareOf", "(II)I"⟩
theorem dX0_shareOf_0 : decode cX0_shareOf 0 = .ok (.aload_n 0, 1) := by decide +kernel
theorem dX0_shareOf_1 : decode cX0_shareOf 1 = .ok (.iload_n 1, 1) := by decide +kernel
theorem dX0_shareOf_2 : decode cX0_shareOf 2 = .ok (.invokevirtual 36, 3) := by decide +kernel
theorem dX0_shareOf_5 : decode cX0_shareOf 5 = .ok (.ifCond .ne 5, 3) := by decide +kernel
theorem dX0_shareOf_8 : decode cX0_shareOf 8 = .ok (.iconst (-1), 1) := by decide +kernel
theorem dX0_shareOf_9 : decode cX0_shareOf 9 = .ok (.ireturn, 1) := by decide +kernel
theorem dX0_shareOf_10 : decode cX0_shareOf 10 = .ok (.iload_n 2, 1) := by decide +kernel
theorem dX0_shareOf_11 : decode cX0_shareOf 11 = .ok (.ifCond .lt 10, 3) := by decide +kernel
theorem dX0_shareOf_14 : decode cX0_shareOf 14 = .ok (.iload_n 2, 1) := by decide +kernel
theorem dX0_shareOf_15 : decode cX0_shareOf 15 = .ok (.sipush 1500, 3) := by decide +kernel
theorem dX0_shareOf_18 : decode cX0_shareOf 18 = .ok (.if_icmp .le 6, 3) := by decide +kernel
theorem dX0_shareOf_21 : decode cX0_shareOf 21 = .ok (.bipush (-2), 2) := by decide +kernel
theorem dX0_shareOf_23 : decode cX0_shareOf 23 = .ok (.ireturn, 1) := by decide +kernel
theorem dX0_shareOf_24 : decode cX0_shareOf 24 = .ok (.aload_n 0, 1) := by decide +kernel
theorem dX0_shareOf_25 : decode cX0_shareOf 25 = .ok (.iload_n 2, 1) := by decide +kernel
theorem dX0_shareOf_26 : decode cX0_shareOf 26 = .ok (.invokevirtual 45, 3) := by decide +kernel
theorem dX0_shareOf_29 : decode cX0_shareOf 29 = .ok (.aload_n 0, 1) := by decide +kernel
theorem dX0_shareOf_30 : decode cX0_shareOf 30 = .ok (.getfield 19, 3) := by decide +kernel
theorem dX0_shareOf_33 : decode cX0_shareOf 33 = .ok (.iload_n 1, 1) := by decide +kernel
theorem dX0_shareOf_34 : decode cX0_shareOf 34 = .ok (.iaload, 1) := by decide +kernel
theorem dX0_shareOf_35 : decode cX0_shareOf 35 = .ok (.ireturn, 1) := by decide +kernel
abbrev cX0_shareUnder : ByteArray := prog_1_method_12_code
def yX0_shareUnder : MethodName := ⟨RX0, "shareUnder", "(II)I"⟩
theorem dX0_shareUnder_0 : decode cX0_shareUnder 0 = .ok (.aload_n 0, 1) := by decide +kernel
theorem dX0_shareUnder_1 : decode cX0_shareUnder 1 = .ok (.iload_n 1, 1) := by decide +kernel
theorem dX0_shareUnder_2 : decode cX0_shareUnder 2 = .ok (.invokevirtual 36, 3) := by decide +kernel
theorem dX0_shareUnder_5 : decode cX0_shareUnder 5 = .ok (.ifCond .ne 5, 3) := by decide +kernel
theorem dX0_shareUnder_8 : decode cX0_shareUnder 8 = .ok (.iconst (-1), 1) := by decide +kernel
theorem dX0_shareUnder_9 : decode cX0_shareUnder 9 = .ok (.ireturn, 1) := by decide +kernel
theorem dX0_shareUnder_10 : decode cX0_shareUnder 10 = .ok (.iload_n 2, 1) := by decide +kernel
theorem dX0_shareUnder_11 : decode cX0_shareUnder 11 = .ok (.invokestatic 39, 3) := by decide +kernel
theorem dX0_shareUnder_14 : decode cX0_shareUnder 14 = .ok (.ifCond .ne 6, 3) := by decide +kernel
theorem dX0_shareUnder_17 : decode cX0_shareUnder 17 = .ok (.bipush (-2), 2) := by decide +kernel
theorem dX0_shareUnder_19 : decode cX0_shareUnder 19 = .ok (.ireturn, 1) := by decide +kernel
theorem dX0_shareUnder_20 : decode cX0_shareUnder 20 = .ok (.aload_n 0, 1) := by decide +kernel
theorem dX0_shareUnder_21 : decode cX0_shareUnder 21 = .ok (.getfield 13, 3) := by decide +kernel
theorem dX0_shareUnder_24 : decode cX0_shareUnder 24 = .ok (.iload_n 1, 1) := by decide +kernel
theorem dX0_shareUnder_25 : decode cX0_shareUnder 25 = .ok (.iaload, 1) := by decide +kernel
theorem dX0_shareUnder_26 : decode cX0_shareUnder 26 = .ok (.istore_n 3, 1) := by decide +kernel
theorem dX0_shareUnder_27 : decode cX0_shareUnder 27 = .ok (.aload_n 0, 1) := by decide +kernel
theorem dX0_shareUnder_28 : decode cX0_shareUnder 28 = .ok (.getfield 16, 3) := by decide +kernel
theorem dX0_shareUnder_31 : decode cX0_shareUnder 31 = .ok (.iload_n 3, 1) := by decide +kernel
theorem dX0_shareUnder_32 : decode cX0_shareUnder 32 = .ok (.iaload, 1) := by decide +kernel
theorem dX0_shareUnder_33 : decode cX0_shareUnder 33 = .ok (.istore 4, 2) := by decide +kernel
theorem dX0_shareUnder_35 : decode cX0_shareUnder 35 = .ok (.aload_n 0, 1) := by decide +kernel
theorem dX0_shareUnder_36 : decode cX0_shareUnder 36 = .ok (.getfield 16, 3) := by decide +kernel
theorem dX0_shareUnder_39 : decode cX0_shareUnder 39 = .ok (.iload_n 3, 1) := by decide +kernel
theorem dX0_shareUnder_40 : decode cX0_shareUnder 40 = .ok (.iload_n 2, 1) := by decide +kernel
theorem dX0_shareUnder_41 : decode cX0_shareUnder 41 = .ok (.iastore, 1) := by decide +kernel
theorem dX0_shareUnder_42 : decode cX0_shareUnder 42 = .ok (.aload_n 0, 1) := by decide +kernel
theorem dX0_shareUnder_43 : decode cX0_shareUnder 43 = .ok (.aload_n 0, 1) := by decide +kernel
theorem dX0_shareUnder_44 : decode cX0_shareUnder 44 = .ok (.getfield 42, 3) := by decide +kernel
theorem dX0_shareUnder_47 : decode cX0_shareUnder 47 = .ok (.invokevirtual 45, 3) := by decide +kernel
theorem dX0_shareUnder_50 : decode cX0_shareUnder 50 = .ok (.aload_n 0, 1) := by decide +kernel
theorem dX0_shareUnder_51 : decode cX0_shareUnder 51 = .ok (.getfield 16, 3) := by decide +kernel
theorem dX0_shareUnder_54 : decode cX0_shareUnder 54 = .ok (.iload_n 3, 1) := by decide +kernel
theorem dX0_shareUnder_55 : decode cX0_shareUnder 55 = .ok (.iload 4, 2) := by decide +kernel
theorem dX0_shareUnder_57 : decode cX0_shareUnder 57 = .ok (.iastore, 1) := by decide +kernel
theorem dX0_shareUnder_58 : decode cX0_shareUnder 58 = .ok (.aload_n 0, 1) := by decide +kernel
theorem dX0_shareUnder_59 : decode cX0_shareUnder 59 = .ok (.getfield 19, 3) := by decide +kernel
theorem dX0_shareUnder_62 : decode cX0_shareUnder 62 = .ok (.iload_n 1, 1) := by decide +kernel
theorem dX0_shareUnder_63 : decode cX0_shareUnder 63 = .ok (.iaload, 1) := by decide +kernel
theorem dX0_shareUnder_64 : decode cX0_shareUnder 64 = .ok (.ireturn, 1) := by decide +kernel
abbrev cX0_leastEstate : ByteArray := prog_1_method_13_code
def yX0_leastEstate : MethodName := ⟨RX0, "leastEstate", "(II)I"⟩
theorem dX0_leastEstate_0 : decode cX0_leastEstate 0 = .ok (.aload_n 0, 1) := by decide +kernel
theorem dX0_leastEstate_1 : decode cX0_leastEstate 1 = .ok (.iload_n 1, 1) := by decide +kernel
theorem dX0_leastEstate_2 : decode cX0_leastEstate 2 = .ok (.invokevirtual 36, 3) := by decide +kernel
theorem dX0_leastEstate_5 : decode cX0_leastEstate 5 = .ok (.ifCond .ne 5, 3) := by decide +kernel
theorem dX0_leastEstate_8 : decode cX0_leastEstate 8 = .ok (.iconst (-1), 1) := by decide +kernel
theorem dX0_leastEstate_9 : decode cX0_leastEstate 9 = .ok (.ireturn, 1) := by decide +kernel
theorem dX0_leastEstate_10 : decode cX0_leastEstate 10 = .ok (.iload_n 2, 1) := by decide +kernel
theorem dX0_leastEstate_11 : decode cX0_leastEstate 11 = .ok (.ifCond .lt 10, 3) := by decide +kernel
theorem dX0_leastEstate_14 : decode cX0_leastEstate 14 = .ok (.iload_n 2, 1) := by decide +kernel
theorem dX0_leastEstate_15 : decode cX0_leastEstate 15 = .ok (.sipush 150, 3) := by decide +kernel
theorem dX0_leastEstate_18 : decode cX0_leastEstate 18 = .ok (.if_icmp .le 6, 3) := by decide +kernel
theorem dX0_leastEstate_21 : decode cX0_leastEstate 21 = .ok (.bipush (-2), 2) := by decide +kernel
theorem dX0_leastEstate_23 : decode cX0_leastEstate 23 = .ok (.ireturn, 1) := by decide +kernel
theorem dX0_leastEstate_24 : decode cX0_leastEstate 24 = .ok (.iload_n 2, 1) := by decide +kernel
theorem dX0_leastEstate_25 : decode cX0_leastEstate 25 = .ok (.aload_n 0, 1) := by decide +kernel
theorem dX0_leastEstate_26 : decode cX0_leastEstate 26 = .ok (.getfield 7, 3) := by decide +kernel
theorem dX0_leastEstate_29 : decode cX0_leastEstate 29 = .ok (.iload_n 1, 1) := by decide +kernel
theorem dX0_leastEstate_30 : decode cX0_leastEstate 30 = .ok (.iaload, 1) := by decide +kernel
theorem dX0_leastEstate_31 : decode cX0_leastEstate 31 = .ok (.if_icmp .le 6, 3) := by decide +kernel
theorem dX0_leastEstate_34 : decode cX0_leastEstate 34 = .ok (.bipush (-3), 2) := by decide +kernel
theorem dX0_leastEstate_36 : decode cX0_leastEstate 36 = .ok (.ireturn, 1) := by decide +kernel
theorem dX0_leastEstate_37 : decode cX0_leastEstate 37 = .ok (.iconst 0, 1) := by decide +kernel
theorem dX0_leastEstate_38 : decode cX0_leastEstate 38 = .ok (.istore_n 3, 1) := by decide +kernel
theorem dX0_leastEstate_39 : decode cX0_leastEstate 39 = .ok (.sipush 1500, 3) := by decide +kernel
theorem dX0_leastEstate_42 : decode cX0_leastEstate 42 = .ok (.istore 4, 2) := by decide +kernel
theorem dX0_leastEstate_44 : decode cX0_leastEstate 44 = .ok (.iconst 0, 1) := by decide +kernel
theorem dX0_leastEstate_45 : decode cX0_leastEstate 45 = .ok (.istore 5, 2) := by decide +kernel
theorem dX0_leastEstate_47 : decode cX0_leastEstate 47 = .ok (.iload 5, 2) := by decide +kernel
theorem dX0_leastEstate_49 : decode cX0_leastEstate 49 = .ok (.bipush 12, 2) := by decide +kernel
theorem dX0_leastEstate_51 : decode cX0_leastEstate 51 = .ok (.if_icmp .ge 51, 3) := by decide +kernel
theorem dX0_leastEstate_54 : decode cX0_leastEstate 54 = .ok (.iload_n 3, 1) := by decide +kernel
theorem dX0_leastEstate_55 : decode cX0_leastEstate 55 = .ok (.iload 4, 2) := by decide +kernel
theorem dX0_leastEstate_57 : decode cX0_leastEstate 57 = .ok (.if_icmp .ge 45, 3) := by decide +kernel
theorem dX0_leastEstate_60 : decode cX0_leastEstate 60 = .ok (.iload_n 3, 1) := by decide +kernel
theorem dX0_leastEstate_61 : decode cX0_leastEstate 61 = .ok (.iload 4, 2) := by decide +kernel
theorem dX0_leastEstate_63 : decode cX0_leastEstate 63 = .ok (.iadd, 1) := by decide +kernel
theorem dX0_leastEstate_64 : decode cX0_leastEstate 64 = .ok (.iconst 1, 1) := by decide +kernel
theorem dX0_leastEstate_65 : decode cX0_leastEstate 65 = .ok (.ishr, 1) := by decide +kernel
theorem dX0_leastEstate_66 : decode cX0_leastEstate 66 = .ok (.istore 6, 2) := by decide +kernel
theorem dX0_leastEstate_68 : decode cX0_leastEstate 68 = .ok (.aload_n 0, 1) := by decide +kernel
theorem dX0_leastEstate_69 : decode cX0_leastEstate 69 = .ok (.iload 6, 2) := by decide +kernel
theorem dX0_leastEstate_71 : decode cX0_leastEstate 71 = .ok (.invokevirtual 45, 3) := by decide +kernel
theorem dX0_leastEstate_74 : decode cX0_leastEstate 74 = .ok (.aload_n 0, 1) := by decide +kernel
theorem dX0_leastEstate_75 : decode cX0_leastEstate 75 = .ok (.getfield 19, 3) := by decide +kernel
theorem dX0_leastEstate_78 : decode cX0_leastEstate 78 = .ok (.iload_n 1, 1) := by decide +kernel
theorem dX0_leastEstate_79 : decode cX0_leastEstate 79 = .ok (.iaload, 1) := by decide +kernel
theorem dX0_leastEstate_80 : decode cX0_leastEstate 80 = .ok (.iload_n 2, 1) := by decide +kernel
theorem dX0_leastEstate_81 : decode cX0_leastEstate 81 = .ok (.if_icmp .lt 10, 3) := by decide +kernel
theorem dX0_leastEstate_84 : decode cX0_leastEstate 84 = .ok (.iload 6, 2) := by decide +kernel
theorem dX0_leastEstate_86 : decode cX0_leastEstate 86 = .ok (.istore 4, 2) := by decide +kernel
theorem dX0_leastEstate_88 : decode cX0_leastEstate 88 = .ok (.goto 8, 3) := by decide +kernel
theorem dX0_leastEstate_91 : decode cX0_leastEstate 91 = .ok (.iload 6, 2) := by decide +kernel
theorem dX0_leastEstate_93 : decode cX0_leastEstate 93 = .ok (.iconst 1, 1) := by decide +kernel
theorem dX0_leastEstate_94 : decode cX0_leastEstate 94 = .ok (.iadd, 1) := by decide +kernel
theorem dX0_leastEstate_95 : decode cX0_leastEstate 95 = .ok (.istore_n 3, 1) := by decide +kernel
theorem dX0_leastEstate_96 : decode cX0_leastEstate 96 = .ok (.iinc 5 1, 3) := by decide +kernel
theorem dX0_leastEstate_99 : decode cX0_leastEstate 99 = .ok (.goto (-52), 3) := by decide +kernel
theorem dX0_leastEstate_102 : decode cX0_leastEstate 102 = .ok (.iload_n 3, 1) := by decide +kernel
theorem dX0_leastEstate_103 : decode cX0_leastEstate 103 = .ok (.ireturn, 1) := by decide +kernel
abbrev cX0_claims : ByteArray := prog_1_method_14_code
def yX0_claims : MethodName := ⟨RX0, "claims", "(I)I"⟩
theorem dX0_claims_0 : decode cX0_claims 0 = .ok (.iload_n 1, 1) := by decide +kernel
theorem dX0_claims_1 : decode cX0_claims 1 = .ok (.invokestatic 32, 3) := by decide +kernel
theorem dX0_claims_4 : decode cX0_claims 4 = .ok (.ifCond .eq 11, 3) := by decide +kernel
theorem dX0_claims_7 : decode cX0_claims 7 = .ok (.aload_n 0, 1) := by decide +kernel
theorem dX0_claims_8 : decode cX0_claims 8 = .ok (.iload_n 1, 1) := by decide +kernel
theorem dX0_claims_9 : decode cX0_claims 9 = .ok (.invokevirtual 49, 3) := by decide +kernel
theorem dX0_claims_12 : decode cX0_claims 12 = .ok (.goto 4, 3) := by decide +kernel
theorem dX0_claims_15 : decode cX0_claims 15 = .ok (.iconst (-1), 1) := by decide +kernel
theorem dX0_claims_16 : decode cX0_claims 16 = .ok (.ireturn, 1) := by decide +kernel
abbrev cX0_paid : ByteArray := prog_1_method_15_code
def yX0_paid : MethodName := ⟨RX0, "paid", "(I)I"⟩
theorem dX0_paid_0 : decode cX0_paid 0 = .ok (.iload_n 1, 1) := by decide +kernel
theorem dX0_paid_1 : decode cX0_paid 1 = .ok (.invokestatic 32, 3) := by decide +kernel
theorem dX0_paid_4 : decode cX0_paid 4 = .ok (.ifCond .ne 5, 3) := by decide +kernel
theorem dX0_paid_7 : decode cX0_paid 7 = .ok (.iconst (-1), 1) := by decide +kernel
theorem dX0_paid_8 : decode cX0_paid 8 = .ok (.ireturn, 1) := by decide +kernel
theorem dX0_paid_9 : decode cX0_paid 9 = .ok (.aload_n 0, 1) := by decide +kernel
theorem dX0_paid_10 : decode cX0_paid 10 = .ok (.aload_n 0, 1) := by decide +kernel
theorem dX0_paid_11 : decode cX0_paid 11 = .ok (.getfield 42, 3) := by decide +kernel
theorem dX0_paid_14 : decode cX0_paid 14 = .ok (.invokevirtual 45, 3) := by decide +kernel
theorem dX0_paid_17 : decode cX0_paid 17 = .ok (.iconst 0, 1) := by decide +kernel
theorem dX0_paid_18 : decode cX0_paid 18 = .ok (.istore_n 2, 1) := by decide +kernel
theorem dX0_paid_19 : decode cX0_paid 19 = .ok (.iconst 0, 1) := by decide +kernel
theorem dX0_paid_20 : decode cX0_paid 20 = .ok (.istore_n 3, 1) := by decide +kernel
theorem dX0_paid_21 : decode cX0_paid 21 = .ok (.iload_n 3, 1) := by decide +kernel
theorem dX0_paid_22 : decode cX0_paid 22 = .ok (.aload_n 0, 1) := by decide +kernel
theorem dX0_paid_23 : decode cX0_paid 23 = .ok (.getfield 28, 3) := by decide +kernel
theorem dX0_paid_26 : decode cX0_paid 26 = .ok (.if_icmp .ge 32, 3) := by decide +kernel
theorem dX0_paid_29 : decode cX0_paid 29 = .ok (.iload_n 2, 1) := by decide +kernel
theorem dX0_paid_30 : decode cX0_paid 30 = .ok (.aload_n 0, 1) := by decide +kernel
theorem dX0_paid_31 : decode cX0_paid 31 = .ok (.getfield 13, 3) := by decide +kernel
theorem dX0_paid_34 : decode cX0_paid 34 = .ok (.iload_n 3, 1) := by decide +kernel
theorem dX0_paid_35 : decode cX0_paid 35 = .ok (.iaload, 1) := by decide +kernel
theorem dX0_paid_36 : decode cX0_paid 36 = .ok (.iload_n 1, 1) := by decide +kernel
theorem dX0_paid_37 : decode cX0_paid 37 = .ok (.if_icmp .ne 12, 3) := by decide +kernel
theorem dX0_paid_40 : decode cX0_paid 40 = .ok (.aload_n 0, 1) := by decide +kernel
theorem dX0_paid_41 : decode cX0_paid 41 = .ok (.getfield 19, 3) := by decide +kernel
theorem dX0_paid_44 : decode cX0_paid 44 = .ok (.iload_n 3, 1) := by decide +kernel
theorem dX0_paid_45 : decode cX0_paid 45 = .ok (.iaload, 1) := by decide +kernel
theorem dX0_paid_46 : decode cX0_paid 46 = .ok (.goto 4, 3) := by decide +kernel
theorem dX0_paid_49 : decode cX0_paid 49 = .ok (.iconst 0, 1) := by decide +kernel
theorem dX0_paid_50 : decode cX0_paid 50 = .ok (.iadd, 1) := by decide +kernel
theorem dX0_paid_51 : decode cX0_paid 51 = .ok (.istore_n 2, 1) := by decide +kernel
theorem dX0_paid_52 : decode cX0_paid 52 = .ok (.iinc 3 1, 3) := by decide +kernel
theorem dX0_paid_55 : decode cX0_paid 55 = .ok (.goto (-34), 3) := by decide +kernel
theorem dX0_paid_58 : decode cX0_paid 58 = .ok (.iload_n 2, 1) := by decide +kernel
theorem dX0_paid_59 : decode cX0_paid 59 = .ok (.ireturn, 1) := by decide +kernel
abbrev cX0_left : ByteArray := prog_1_method_16_code
def yX0_left : MethodName := ⟨RX0, "left", "()I"⟩
theorem dX0_left_0 : decode cX0_left 0 = .ok (.aload_n 0, 1) := by decide +kernel
theorem dX0_left_1 : decode cX0_left 1 = .ok (.aload_n 0, 1) := by decide +kernel
theorem dX0_left_2 : decode cX0_left 2 = .ok (.getfield 42, 3) := by decide +kernel
theorem dX0_left_5 : decode cX0_left 5 = .ok (.invokevirtual 45, 3) := by decide +kernel
theorem dX0_left_8 : decode cX0_left 8 = .ok (.aload_n 0, 1) := by decide +kernel
theorem dX0_left_9 : decode cX0_left 9 = .ok (.getfield 53, 3) := by decide +kernel
theorem dX0_left_12 : decode cX0_left 12 = .ok (.ireturn, 1) := by decide +kernel
abbrev cX0_next : ByteArray := prog_1_method_17_code
def yX0_next : MethodName := ⟨RX0, "next", "()I"⟩
theorem dX0_next_0 : decode cX0_next 0 = .ok (.aload_n 0, 1) := by decide +kernel
theorem dX0_next_1 : decode cX0_next 1 = .ok (.aload_n 0, 1) := by decide +kernel
theorem dX0_next_2 : decode cX0_next 2 = .ok (.getfield 42, 3) := by decide +kernel
theorem dX0_next_5 : decode cX0_next 5 = .ok (.invokevirtual 45, 3) := by decide +kernel
theorem dX0_next_8 : decode cX0_next 8 = .ok (.iconst 0, 1) := by decide +kernel
theorem dX0_next_9 : decode cX0_next 9 = .ok (.istore_n 1, 1) := by decide +kernel
theorem dX0_next_10 : decode cX0_next 10 = .ok (.iload_n 1, 1) := by decide +kernel
theorem dX0_next_11 : decode cX0_next 11 = .ok (.aload_n 0, 1) := by decide +kernel
theorem dX0_next_12 : decode cX0_next 12 = .ok (.getfield 28, 3) := by decide +kernel
theorem dX0_next_15 : decode cX0_next 15 = .ok (.if_icmp .ge 21, 3) := by decide +kernel
theorem dX0_next_18 : decode cX0_next 18 = .ok (.aload_n 0, 1) := by decide +kernel
theorem dX0_next_19 : decode cX0_next 19 = .ok (.getfield 25, 3) := by decide +kernel
theorem dX0_next_22 : decode cX0_next 22 = .ok (.iload_n 1, 1) := by decide +kernel
theorem dX0_next_23 : decode cX0_next 23 = .ok (.aload_n 0, 1) := by decide +kernel
theorem dX0_next_24 : decode cX0_next 24 = .ok (.getfield 19, 3) := by decide +kernel
theorem dX0_next_27 : decode cX0_next 27 = .ok (.iload_n 1, 1) := by decide +kernel
theorem dX0_next_28 : decode cX0_next 28 = .ok (.iaload, 1) := by decide +kernel
theorem dX0_next_29 : decode cX0_next 29 = .ok (.iastore, 1) := by decide +kernel
theorem dX0_next_30 : decode cX0_next 30 = .ok (.iinc 1 1, 3) := by decide +kernel
theorem dX0_next_33 : decode cX0_next 33 = .ok (.goto (-23), 3) := by decide +kernel
theorem dX0_next_36 : decode cX0_next 36 = .ok (.aload_n 0, 1) := by decide +kernel
theorem dX0_next_37 : decode cX0_next 37 = .ok (.aload_n 0, 1) := by decide +kernel
theorem dX0_next_38 : decode cX0_next 38 = .ok (.getfield 42, 3) := by decide +kernel
theorem dX0_next_41 : decode cX0_next 41 = .ok (.iconst 1, 1) := by decide +kernel
theorem dX0_next_42 : decode cX0_next 42 = .ok (.iadd, 1) := by decide +kernel
theorem dX0_next_43 : decode cX0_next 43 = .ok (.invokevirtual 45, 3) := by decide +kernel
theorem dX0_next_46 : decode cX0_next 46 = .ok (.iconst 0, 1) := by decide +kernel
theorem dX0_next_47 : decode cX0_next 47 = .ok (.istore_n 1, 1) := by decide +kernel
theorem dX0_next_48 : decode cX0_next 48 = .ok (.iload_n 1, 1) := by decide +kernel
theorem dX0_next_49 : decode cX0_next 49 = .ok (.aload_n 0, 1) := by decide +kernel
theorem dX0_next_50 : decode cX0_next 50 = .ok (.getfield 28, 3) := by decide +kernel
theorem dX0_next_53 : decode cX0_next 53 = .ok (.if_icmp .ge 26, 3) := by decide +kernel
theorem dX0_next_56 : decode cX0_next 56 = .ok (.aload_n 0, 1) := by decide +kernel
theorem dX0_next_57 : decode cX0_next 57 = .ok (.getfield 19, 3) := by decide +kernel
theorem dX0_next_60 : decode cX0_next 60 = .ok (.iload_n 1, 1) := by decide +kernel
theorem dX0_next_61 : decode cX0_next 61 = .ok (.iaload, 1) := by decide +kernel
theorem dX0_next_62 : decode cX0_next 62 = .ok (.aload_n 0, 1) := by decide +kernel
theorem dX0_next_63 : decode cX0_next 63 = .ok (.getfield 25, 3) := by decide +kernel
theorem dX0_next_66 : decode cX0_next 66 = .ok (.iload_n 1, 1) := by decide +kernel
theorem dX0_next_67 : decode cX0_next 67 = .ok (.iaload, 1) := by decide +kernel
theorem dX0_next_68 : decode cX0_next 68 = .ok (.if_icmp .le 5, 3) := by decide +kernel
theorem dX0_next_71 : decode cX0_next 71 = .ok (.iload_n 1, 1) := by decide +kernel
theorem dX0_next_72 : decode cX0_next 72 = .ok (.ireturn, 1) := by decide +kernel
theorem dX0_next_73 : decode cX0_next 73 = .ok (.iinc 1 1, 3) := by decide +kernel
theorem dX0_next_76 : decode cX0_next 76 = .ok (.goto (-28), 3) := by decide +kernel
theorem dX0_next_79 : decode cX0_next 79 = .ok (.iconst (-1), 1) := by decide +kernel
theorem dX0_next_80 : decode cX0_next 80 = .ok (.ireturn, 1) := by decide +kernel
abbrev cX0_unpaid : ByteArray := prog_1_method_18_code
def yX0_unpaid : MethodName := ⟨RX0, "unpaid", "()I"⟩
theorem dX0_unpaid_0 : decode cX0_unpaid 0 = .ok (.aload_n 0, 1) := by decide +kernel
theorem dX0_unpaid_1 : decode cX0_unpaid 1 = .ok (.aload_n 0, 1) := by decide +kernel
theorem dX0_unpaid_2 : decode cX0_unpaid 2 = .ok (.getfield 42, 3) := by decide +kernel
theorem dX0_unpaid_5 : decode cX0_unpaid 5 = .ok (.invokevirtual 45, 3) := by decide +kernel
theorem dX0_unpaid_8 : decode cX0_unpaid 8 = .ok (.iconst 0, 1) := by decide +kernel
theorem dX0_unpaid_9 : decode cX0_unpaid 9 = .ok (.istore_n 1, 1) := by decide +kernel
theorem dX0_unpaid_10 : decode cX0_unpaid 10 = .ok (.iconst 0, 1) := by decide +kernel
theorem dX0_unpaid_11 : decode cX0_unpaid 11 = .ok (.istore_n 2, 1) := by decide +kernel
theorem dX0_unpaid_12 : decode cX0_unpaid 12 = .ok (.iload_n 2, 1) := by decide +kernel
theorem dX0_unpaid_13 : decode cX0_unpaid 13 = .ok (.aload_n 0, 1) := by decide +kernel
theorem dX0_unpaid_14 : decode cX0_unpaid 14 = .ok (.getfield 28, 3) := by decide +kernel
theorem dX0_unpaid_17 : decode cX0_unpaid 17 = .ok (.if_icmp .ge 32, 3) := by decide +kernel
theorem dX0_unpaid_20 : decode cX0_unpaid 20 = .ok (.iload_n 1, 1) := by decide +kernel
theorem dX0_unpaid_21 : decode cX0_unpaid 21 = .ok (.aload_n 0, 1) := by decide +kernel
theorem dX0_unpaid_22 : decode cX0_unpaid 22 = .ok (.getfield 19, 3) := by decide +kernel
theorem dX0_unpaid_25 : decode cX0_unpaid 25 = .ok (.iload_n 2, 1) := by decide +kernel
theorem dX0_unpaid_26 : decode cX0_unpaid 26 = .ok (.iaload, 1) := by decide +kernel
theorem dX0_unpaid_27 : decode cX0_unpaid 27 = .ok (.aload_n 0, 1) := by decide +kernel
theorem dX0_unpaid_28 : decode cX0_unpaid 28 = .ok (.getfield 7, 3) := by decide +kernel
theorem dX0_unpaid_31 : decode cX0_unpaid 31 = .ok (.iload_n 2, 1) := by decide +kernel
theorem dX0_unpaid_32 : decode cX0_unpaid 32 = .ok (.iaload, 1) := by decide +kernel
theorem dX0_unpaid_33 : decode cX0_unpaid 33 = .ok (.if_icmp .ge 7, 3) := by decide +kernel
theorem dX0_unpaid_36 : decode cX0_unpaid 36 = .ok (.iconst 1, 1) := by decide +kernel
theorem dX0_unpaid_37 : decode cX0_unpaid 37 = .ok (.goto 4, 3) := by decide +kernel
theorem dX0_unpaid_40 : decode cX0_unpaid 40 = .ok (.iconst 0, 1) := by decide +kernel
theorem dX0_unpaid_41 : decode cX0_unpaid 41 = .ok (.iadd, 1) := by decide +kernel
theorem dX0_unpaid_42 : decode cX0_unpaid 42 = .ok (.istore_n 1, 1) := by decide +kernel
theorem dX0_unpaid_43 : decode cX0_unpaid 43 = .ok (.iinc 2 1, 3) := by decide +kernel
theorem dX0_unpaid_46 : decode cX0_unpaid 46 = .ok (.goto (-34), 3) := by decide +kernel
theorem dX0_unpaid_49 : decode cX0_unpaid 49 = .ok (.iload_n 1, 1) := by decide +kernel
theorem dX0_unpaid_50 : decode cX0_unpaid 50 = .ok (.ireturn, 1) := by decide +kernel
abbrev cX0_worst : ByteArray := prog_1_method_19_code
def yX0_worst : MethodName := ⟨RX0, "worst", "()I"⟩
theorem dX0_worst_0 : decode cX0_worst 0 = .ok (.aload_n 0, 1) := by decide +kernel
theorem dX0_worst_1 : decode cX0_worst 1 = .ok (.aload_n 0, 1) := by decide +kernel
theorem dX0_worst_2 : decode cX0_worst 2 = .ok (.getfield 42, 3) := by decide +kernel
theorem dX0_worst_5 : decode cX0_worst 5 = .ok (.invokevirtual 45, 3) := by decide +kernel
theorem dX0_worst_8 : decode cX0_worst 8 = .ok (.iconst 0, 1) := by decide +kernel
theorem dX0_worst_9 : decode cX0_worst 9 = .ok (.istore_n 1, 1) := by decide +kernel
theorem dX0_worst_10 : decode cX0_worst 10 = .ok (.iconst 0, 1) := by decide +kernel
theorem dX0_worst_11 : decode cX0_worst 11 = .ok (.istore_n 2, 1) := by decide +kernel
theorem dX0_worst_12 : decode cX0_worst 12 = .ok (.iload_n 2, 1) := by decide +kernel
theorem dX0_worst_13 : decode cX0_worst 13 = .ok (.aload_n 0, 1) := by decide +kernel
theorem dX0_worst_14 : decode cX0_worst 14 = .ok (.getfield 28, 3) := by decide +kernel
theorem dX0_worst_17 : decode cX0_worst 17 = .ok (.if_icmp .ge 34, 3) := by decide +kernel
theorem dX0_worst_20 : decode cX0_worst 20 = .ok (.aload_n 0, 1) := by decide +kernel
theorem dX0_worst_21 : decode cX0_worst 21 = .ok (.getfield 7, 3) := by decide +kernel
theorem dX0_worst_24 : decode cX0_worst 24 = .ok (.iload_n 2, 1) := by decide +kernel
theorem dX0_worst_25 : decode cX0_worst 25 = .ok (.iaload, 1) := by decide +kernel
theorem dX0_worst_26 : decode cX0_worst 26 = .ok (.aload_n 0, 1) := by decide +kernel
theorem dX0_worst_27 : decode cX0_worst 27 = .ok (.getfield 19, 3) := by decide +kernel
theorem dX0_worst_30 : decode cX0_worst 30 = .ok (.iload_n 2, 1) := by decide +kernel
theorem dX0_worst_31 : decode cX0_worst 31 = .ok (.iaload, 1) := by decide +kernel
theorem dX0_worst_32 : decode cX0_worst 32 = .ok (.isub, 1) := by decide +kernel
theorem dX0_worst_33 : decode cX0_worst 33 = .ok (.istore_n 3, 1) := by decide +kernel
theorem dX0_worst_34 : decode cX0_worst 34 = .ok (.iload_n 3, 1) := by decide +kernel
theorem dX0_worst_35 : decode cX0_worst 35 = .ok (.iload_n 1, 1) := by decide +kernel
theorem dX0_worst_36 : decode cX0_worst 36 = .ok (.if_icmp .le 7, 3) := by decide +kernel
theorem dX0_worst_39 : decode cX0_worst 39 = .ok (.iload_n 3, 1) := by decide +kernel
theorem dX0_worst_40 : decode cX0_worst 40 = .ok (.goto 4, 3) := by decide +kernel
theorem dX0_worst_43 : decode cX0_worst 43 = .ok (.iload_n 1, 1) := by decide +kernel
theorem dX0_worst_44 : decode cX0_worst 44 = .ok (.istore_n 1, 1) := by decide +kernel
theorem dX0_worst_45 : decode cX0_worst 45 = .ok (.iinc 2 1, 3) := by decide +kernel
theorem dX0_worst_48 : decode cX0_worst 48 = .ok (.goto (-36), 3) := by decide +kernel
theorem dX0_worst_51 : decode cX0_worst 51 = .ok (.iload_n 1, 1) := by decide +kernel
theorem dX0_worst_52 : decode cX0_worst 52 = .ok (.ireturn, 1) := by decide +kernel
theorem q19 : (Jvm.Cond.initialized "InsolvencyPool") ∈ lw_all := lw_g (lw_at lw_m1 1 rfl) rfl
theorem q22 : (Jvm.Cond.instantiable "InsolvencyPool" (9 : Nat)) ∈ lw_all := lw_g (lw_at lw_m1 4 rfl) rfl
theorem q24 : (Jvm.Cond.instanceMethod ({ cls := "InsolvencyPool", name := "<init>", desc := "()V" } : Jvm.MethodName)) ∈ lw_all := lw_g (lw_at lw_m1 6 rfl) rfl
theorem q25 : (Jvm.Cond.code ({ cls := "InsolvencyPool", name := "<init>", desc := "()V" } : Jvm.MethodName) prog_1_method_1_code (1 : Nat) (Option.none : Option Jvm.ClassFile.FieldType)) ∈ lw_all := lw_g (lw_at lw_m1 7 rfl) rfl
theorem q26 : (Jvm.Cond.methodLink "InsolvencyPool" (1 : Nat) ({ cls := "java/lang/Object", name := "<init>", desc := "()V" } : Jvm.MethodName)) ∈ lw_all := lw_g (lw_at lw_m1 8 rfl) rfl
theorem q29 : (Jvm.Cond.fieldLink "InsolvencyPool" (7 : Nat) "InsolvencyPool" "wanted" "[I") ∈ lw_all := lw_g (lw_at lw_m1 11 rfl) rfl
theorem q30 : (Jvm.Cond.fieldLink "InsolvencyPool" (13 : Nat) "InsolvencyPool" "rankOf" "[I") ∈ lw_all := lw_g (lw_at lw_m1 12 rfl) rfl
theorem q31 : (Jvm.Cond.fieldLink "InsolvencyPool" (16 : Nat) "InsolvencyPool" "rules" "[I") ∈ lw_all := lw_g (lw_at lw_m1 13 rfl) rfl
theorem q32 : (Jvm.Cond.fieldLink "InsolvencyPool" (19 : Nat) "InsolvencyPool" "got" "[I") ∈ lw_all := lw_g (lw_at lw_m1 14 rfl) rfl
theorem q33 : (Jvm.Cond.fieldLink "InsolvencyPool" (22 : Nat) "InsolvencyPool" "limit" "[I") ∈ lw_all := lw_g (lw_at lw_m1 15 rfl) rfl
theorem q34 : (Jvm.Cond.fieldLink "InsolvencyPool" (25 : Nat) "InsolvencyPool" "earlier" "[I") ∈ lw_all := lw_g (lw_at lw_m1 16 rfl) rfl
theorem q35 : (Jvm.Cond.fieldLink "InsolvencyPool" (28 : Nat) "InsolvencyPool" "count" "I") ∈ lw_all := lw_g (lw_at lw_m1 17 rfl) rfl
theorem q36 : (Jvm.Cond.fieldLink "InsolvencyPool" (42 : Nat) "InsolvencyPool" "pot" "I") ∈ lw_all := lw_g (lw_at lw_m1 18 rfl) rfl
theorem q37 : (Jvm.Cond.fieldLink "InsolvencyPool" (53 : Nat) "InsolvencyPool" "over" "I") ∈ lw_all := lw_g (lw_at lw_m1 19 rfl) rfl
theorem q38 : (Jvm.Cond.laysFinal "InsolvencyPool" "InsolvencyPool" "wanted" "[I") ∈ lw_all := lw_g (lw_at lw_m1 20 rfl) rfl
theorem q39 : (Jvm.Cond.soleField "InsolvencyPool" "wanted") ∈ lw_all := lw_g (lw_at lw_m1 21 rfl) rfl
theorem q40 : (Jvm.Cond.laysFinal "InsolvencyPool" "InsolvencyPool" "rankOf" "[I") ∈ lw_all := lw_g (lw_at lw_m1 22 rfl) rfl
theorem q41 : (Jvm.Cond.soleField "InsolvencyPool" "rankOf") ∈ lw_all := lw_g (lw_at lw_m1 23 rfl) rfl
theorem q42 : (Jvm.Cond.laysFinal "InsolvencyPool" "InsolvencyPool" "rules" "[I") ∈ lw_all := lw_g (lw_at lw_m1 24 rfl) rfl
theorem q43 : (Jvm.Cond.soleField "InsolvencyPool" "rules") ∈ lw_all := lw_g (lw_at lw_m1 25 rfl) rfl
theorem q44 : (Jvm.Cond.laysFinal "InsolvencyPool" "InsolvencyPool" "got" "[I") ∈ lw_all := lw_g (lw_at lw_m1 26 rfl) rfl
theorem q45 : (Jvm.Cond.soleField "InsolvencyPool" "got") ∈ lw_all := lw_g (lw_at lw_m1 27 rfl) rfl
theorem q46 : (Jvm.Cond.laysFinal "InsolvencyPool" "InsolvencyPool" "limit" "[I") ∈ lw_all := lw_g (lw_at lw_m1 28 rfl) rfl
theorem q47 : (Jvm.Cond.soleField "InsolvencyPool" "limit") ∈ lw_all := lw_g (lw_at lw_m1 29 rfl) rfl
theorem q48 : (Jvm.Cond.laysFinal "InsolvencyPool" "InsolvencyPool" "earlier" "[I") ∈ lw_all := lw_g (lw_at lw_m1 30 rfl) rfl
theorem q49 : (Jvm.Cond.soleField "InsolvencyPool" "earlier") ∈ lw_all := lw_g (lw_at lw_m1 31 rfl) rfl
theorem q50 : (Jvm.Cond.lays "InsolvencyPool" "InsolvencyPool" "count" "I") ∈ lw_all := lw_g (lw_at lw_m1 32 rfl) rfl
theorem q51 : (Jvm.Cond.soleField "InsolvencyPool" "count") ∈ lw_all := lw_g (lw_at lw_m1 33 rfl) rfl
theorem q52 : (Jvm.Cond.lays "InsolvencyPool" "InsolvencyPool" "pot" "I") ∈ lw_all := lw_g (lw_at lw_m1 34 rfl) rfl
theorem q53 : (Jvm.Cond.soleField "InsolvencyPool" "pot") ∈ lw_all := lw_g (lw_at lw_m1 35 rfl) rfl
theorem q54 : (Jvm.Cond.lays "InsolvencyPool" "InsolvencyPool" "over" "I") ∈ lw_all := lw_g (lw_at lw_m1 36 rfl) rfl
theorem q55 : (Jvm.Cond.soleField "InsolvencyPool" "over") ∈ lw_all := lw_g (lw_at lw_m1 37 rfl) rfl
theorem q56 : (Jvm.Cond.superclass "InsolvencyPool" "java/lang/Object") ∈ lw_all := lw_g (lw_at lw_m1 38 rfl) rfl
theorem q59 : (Jvm.Cond.instanceMethod ({ cls := "InsolvencyPool", name := "add", desc := "(II)I" } : Jvm.MethodName)) ∈ lw_all := lw_g (lw_at lw_m1 41 rfl) rfl
theorem q60 : (Jvm.Cond.selects "InsolvencyPool" ({ cls := "InsolvencyPool", name := "add", desc := "(II)I" } : Jvm.MethodName) ({ cls := "InsolvencyPool", name := "add", desc := "(II)I" } : Jvm.MethodName)) ∈ lw_all := lw_g (lw_at lw_m1 42 rfl) rfl
theorem q61 : (Jvm.Cond.code ({ cls := "InsolvencyPool", name := "add", desc := "(II)I" } : Jvm.MethodName) prog_1_method_2_code (3 : Nat) (Option.some Jvm.ClassFile.FieldType.int)) ∈ lw_all := lw_g (lw_at lw_m1 43 rfl) rfl
theorem q62 : (Jvm.Cond.methodLink "InsolvencyPool" (32 : Nat) ({ cls := "InsolvencyPool", name := "isRank", desc := "(I)Z" } : Jvm.MethodName)) ∈ lw_all := lw_g (lw_at lw_m1 44 rfl) rfl
theorem q63 : (Jvm.Cond.static ({ cls := "InsolvencyPool", name := "isRank", desc := "(I)Z" } : Jvm.MethodName)) ∈ lw_all := lw_g (lw_at lw_m1 45 rfl) rfl
theorem q64 : (Jvm.Cond.code ({ cls := "InsolvencyPool", name := "isRank", desc := "(I)Z" } : Jvm.MethodName) prog_1_method_21_code (1 : Nat) (Option.some Jvm.ClassFile.FieldType.boolean)) ∈ lw_all := lw_g (lw_at lw_m1 46 rfl) rfl
theorem q66 : (Jvm.Cond.instanceMethod ({ cls := "InsolvencyPool", name := "remove", desc := "(I)I" } : Jvm.MethodName)) ∈ lw_all := lw_g (lw_at lw_m1 48 rfl) rfl
theorem q67 : (Jvm.Cond.selects "InsolvencyPool" ({ cls := "InsolvencyPool", name := "remove", desc := "(I)I" } : Jvm.MethodName) ({ cls := "InsolvencyPool", name := "remove", desc := "(I)I" } : Jvm.MethodName)) ∈ lw_all := lw_g (lw_at lw_m1 49 rfl) rfl
theorem q68 : (Jvm.Cond.code ({ cls := "InsolvencyPool", name := "remove", desc := "(I)I" } : Jvm.MethodName) prog_1_method_3_code (3 : Nat) (Option.some Jvm.ClassFile.FieldType.int)) ∈ lw_all := lw_g (lw_at lw_m1 50 rfl) rfl
theorem q69 : (Jvm.Cond.methodLink "InsolvencyPool" (36 : Nat) ({ cls := "InsolvencyPool", name := "isCreditor", desc := "(I)Z" } : Jvm.MethodName)) ∈ lw_all := lw_g (lw_at lw_m1 51 rfl) rfl
theorem q70 : (Jvm.Cond.privateMethod ({ cls := "InsolvencyPool", name := "isCreditor", desc := "(I)Z" } : Jvm.MethodName)) ∈ lw_tbl := lw_at lw_m1 52 rfl
theorem q71 : (Jvm.Cond.instanceMethod ({ cls := "InsolvencyPool", name := "isCreditor", desc := "(I)Z" } : Jvm.MethodName)) ∈ lw_all := lw_g (lw_at lw_m1 53 rfl) rfl
theorem q72 : (Jvm.Cond.code ({ cls := "InsolvencyPool", name := "isCreditor", desc := "(I)Z" } : Jvm.MethodName) prog_1_method_20_code (2 : Nat) (Option.some Jvm.ClassFile.FieldType.boolean)) ∈ lw_all := lw_g (lw_at lw_m1 54 rfl) rfl
theorem q74 : (Jvm.Cond.instanceMethod ({ cls := "InsolvencyPool", name := "change", desc := "(II)I" } : Jvm.MethodName)) ∈ lw_all := lw_g (lw_at lw_m1 56 rfl) rfl
theorem q75 : (Jvm.Cond.selects "InsolvencyPool" ({ cls := "InsolvencyPool", name := "change", desc := "(II)I" } : Jvm.MethodName) ({ cls := "InsolvencyPool", name := "change", desc := "(II)I" } : Jvm.MethodName)) ∈ lw_all := lw_g (lw_at lw_m1 57 rfl) rfl
theorem q76 : (Jvm.Cond.code ({ cls := "InsolvencyPool", name := "change", desc := "(II)I" } : Jvm.MethodName) prog_1_method_4_code (4 : Nat) (Option.some Jvm.ClassFile.FieldType.int)) ∈ lw_all := lw_g (lw_at lw_m1 58 rfl) rfl
theorem q78 : (Jvm.Cond.instanceMethod ({ cls := "InsolvencyPool", name := "move", desc := "(II)I" } : Jvm.MethodName)) ∈ lw_all := lw_g (lw_at lw_m1 60 rfl) rfl
theorem q79 : (Jvm.Cond.selects "InsolvencyPool" ({ cls := "InsolvencyPool", name := "move", desc := "(II)I" } : Jvm.MethodName) ({ cls := "InsolvencyPool", name := "move", desc := "(II)I" } : Jvm.MethodName)) ∈ lw_all := lw_g (lw_at lw_m1 61 rfl) rfl
theorem q80 : (Jvm.Cond.code ({ cls := "InsolvencyPool", name := "move", desc := "(II)I" } : Jvm.MethodName) prog_1_method_5_code (4 : Nat) (Option.some Jvm.ClassFile.FieldType.int)) ∈ lw_all := lw_g (lw_at lw_m1 62 rfl) rfl
theorem q82 : (Jvm.Cond.instanceMethod ({ cls := "InsolvencyPool", name := "rule", desc := "(II)I" } : Jvm.MethodName)) ∈ lw_all := lw_g (lw_at lw_m1 64 rfl) rfl
theorem q83 : (Jvm.Cond.selects "InsolvencyPool" ({ cls := "InsolvencyPool", name := "rule", desc := "(II)I" } : Jvm.MethodName) ({ cls := "InsolvencyPool", name := "rule", desc := "(II)I" } : Jvm.MethodName)) ∈ lw_all := lw_g (lw_at lw_m1 65 rfl) rfl
theorem q84 : (Jvm.Cond.code ({ cls := "InsolvencyPool", name := "rule", desc := "(II)I" } : Jvm.MethodName) prog_1_method_6_code (4 : Nat) (Option.some Jvm.ClassFile.FieldType.int)) ∈ lw_all := lw_g (lw_at lw_m1 66 rfl) rfl
theorem q85 : (Jvm.Cond.methodLink "InsolvencyPool" (39 : Nat) ({ cls := "InsolvencyPool", name := "isRule", desc := "(I)Z" } : Jvm.MethodName)) ∈ lw_all := lw_g (lw_at lw_m1 67 rfl) rfl
theorem q86 : (Jvm.Cond.static ({ cls := "InsolvencyPool", name := "isRule", desc := "(I)Z" } : Jvm.MethodName)) ∈ lw_all := lw_g (lw_at lw_m1 68 rfl) rfl
theorem q87 : (Jvm.Cond.code ({ cls := "InsolvencyPool", name := "isRule", desc := "(I)Z" } : Jvm.MethodName) prog_1_method_22_code (1 : Nat) (Option.some Jvm.ClassFile.FieldType.boolean)) ∈ lw_all := lw_g (lw_at lw_m1 69 rfl) rfl
theorem q89 : (Jvm.Cond.instanceMethod ({ cls := "InsolvencyPool", name := "estate", desc := "(I)I" } : Jvm.MethodName)) ∈ lw_all := lw_g (lw_at lw_m1 71 rfl) rfl
theorem q90 : (Jvm.Cond.selects "InsolvencyPool" ({ cls := "InsolvencyPool", name := "estate", desc := "(I)I" } : Jvm.MethodName) ({ cls := "InsolvencyPool", name := "estate", desc := "(I)I" } : Jvm.MethodName)) ∈ lw_all := lw_g (lw_at lw_m1 72 rfl) rfl
theorem q91 : (Jvm.Cond.code ({ cls := "InsolvencyPool", name := "estate", desc := "(I)I" } : Jvm.MethodName) prog_1_method_7_code (2 : Nat) (Option.some Jvm.ClassFile.FieldType.int)) ∈ lw_all := lw_g (lw_at lw_m1 73 rfl) rfl
theorem q93 : (Jvm.Cond.instanceMethod ({ cls := "InsolvencyPool", name := "creditors", desc := "()I" } : Jvm.MethodName)) ∈ lw_all := lw_g (lw_at lw_m1 75 rfl) rfl
theorem q94 : (Jvm.Cond.selects "InsolvencyPool" ({ cls := "InsolvencyPool", name := "creditors", desc := "()I" } : Jvm.MethodName) ({ cls := "InsolvencyPool", name := "creditors", desc := "()I" } : Jvm.MethodName)) ∈ lw_all := lw_g (lw_at lw_m1 76 rfl) rfl
theorem q95 : (Jvm.Cond.code ({ cls := "InsolvencyPool", name := "creditors", desc := "()I" } : Jvm.MethodName) prog_1_method_8_code (1 : Nat) (Option.some Jvm.ClassFile.FieldType.int)) ∈ lw_all := lw_g (lw_at lw_m1 77 rfl) rfl
theorem q97 : (Jvm.Cond.instanceMethod ({ cls := "InsolvencyPool", name := "claimOf", desc := "(I)I" } : Jvm.MethodName)) ∈ lw_all := lw_g (lw_at lw_m1 79 rfl) rfl
theorem q98 : (Jvm.Cond.selects "InsolvencyPool" ({ cls := "InsolvencyPool", name := "claimOf", desc := "(I)I" } : Jvm.MethodName) ({ cls := "InsolvencyPool", name := "claimOf", desc := "(I)I" } : Jvm.MethodName)) ∈ lw_all := lw_g (lw_at lw_m1 80 rfl) rfl
theorem q99 : (Jvm.Cond.code ({ cls := "InsolvencyPool", name := "claimOf", desc := "(I)I" } : Jvm.MethodName) prog_1_method_9_code (2 : Nat) (Option.some Jvm.ClassFile.FieldType.int)) ∈ lw_all := lw_g (lw_at lw_m1 81 rfl) rfl
theorem q101 : (Jvm.Cond.instanceMethod ({ cls := "InsolvencyPool", name := "share", desc := "(I)I" } : Jvm.MethodName)) ∈ lw_all := lw_g (lw_at lw_m1 83 rfl) rfl
theorem q102 : (Jvm.Cond.selects "InsolvencyPool" ({ cls := "InsolvencyPool", name := "share", desc := "(I)I" } : Jvm.MethodName) ({ cls := "InsolvencyPool", name := "share", desc := "(I)I" } : Jvm.MethodName)) ∈ lw_all := lw_g (lw_at lw_m1 84 rfl) rfl
theorem q103 : (Jvm.Cond.code ({ cls := "InsolvencyPool", name := "share", desc := "(I)I" } : Jvm.MethodName) prog_1_method_10_code (2 : Nat) (Option.some Jvm.ClassFile.FieldType.int)) ∈ lw_all := lw_g (lw_at lw_m1 85 rfl) rfl
theorem q104 : (Jvm.Cond.methodLink "InsolvencyPool" (45 : Nat) ({ cls := "InsolvencyPool", name := "shareOut", desc := "(I)V" } : Jvm.MethodName)) ∈ lw_all := lw_g (lw_at lw_m1 86 rfl) rfl
theorem q105 : (Jvm.Cond.privateMethod ({ cls := "InsolvencyPool", name := "shareOut", desc := "(I)V" } : Jvm.MethodName)) ∈ lw_tbl := lw_at lw_m1 87 rfl
theorem q106 : (Jvm.Cond.instanceMethod ({ cls := "InsolvencyPool", name := "shareOut", desc := "(I)V" } : Jvm.MethodName)) ∈ lw_all := lw_g (lw_at lw_m1 88 rfl) rfl
theorem q107 : (Jvm.Cond.code ({ cls := "InsolvencyPool", name := "shareOut", desc := "(I)V" } : Jvm.MethodName) prog_1_method_24_code (6 : Nat) (Option.none : Option Jvm.ClassFile.FieldType)) ∈ lw_all := lw_g (lw_at lw_m1 89 rfl) rfl
theorem q108 : (Jvm.Cond.methodLink "InsolvencyPool" (49 : Nat) ({ cls := "InsolvencyPool", name := "total", desc := "(I)I" } : Jvm.MethodName)) ∈ lw_all := lw_g (lw_at lw_m1 90 rfl) rfl
theorem q109 : (Jvm.Cond.privateMethod ({ cls := "InsolvencyPool", name := "total", desc := "(I)I" } : Jvm.MethodName)) ∈ lw_tbl := lw_at lw_m1 91 rfl
theorem q110 : (Jvm.Cond.instanceMethod ({ cls := "InsolvencyPool", name := "total", desc := "(I)I" } : Jvm.MethodName)) ∈ lw_all := lw_g (lw_at lw_m1 92 rfl) rfl
theorem q111 : (Jvm.Cond.code ({ cls := "InsolvencyPool", name := "total", desc := "(I)I" } : Jvm.MethodName) prog_1_method_23_code (4 : Nat) (Option.some Jvm.ClassFile.FieldType.int)) ∈ lw_all := lw_g (lw_at lw_m1 93 rfl) rfl
theorem q112 : (Jvm.Cond.methodLink "InsolvencyPool" (56 : Nat) ({ cls := "InsolvencyPool", name := "shareRank", desc := "(III)V" } : Jvm.MethodName)) ∈ lw_all := lw_g (lw_at lw_m1 94 rfl) rfl
theorem q113 : (Jvm.Cond.privateMethod ({ cls := "InsolvencyPool", name := "shareRank", desc := "(III)V" } : Jvm.MethodName)) ∈ lw_tbl := lw_at lw_m1 95 rfl
theorem q114 : (Jvm.Cond.instanceMethod ({ cls := "InsolvencyPool", name := "shareRank", desc := "(III)V" } : Jvm.MethodName)) ∈ lw_all := lw_g (lw_at lw_m1 96 rfl) rfl
theorem q115 : (Jvm.Cond.code ({ cls := "InsolvencyPool", name := "shareRank", desc := "(III)V" } : Jvm.MethodName) prog_1_method_25_code (6 : Nat) (Option.none : Option Jvm.ClassFile.FieldType)) ∈ lw_all := lw_g (lw_at lw_m1 97 rfl) rfl
theorem q116 : (Jvm.Cond.methodLink "InsolvencyPool" (60 : Nat) ({ cls := "InsolvencyPool", name := "takeLimits", desc := "(IZ)V" } : Jvm.MethodName)) ∈ lw_all := lw_g (lw_at lw_m1 98 rfl) rfl
theorem q117 : (Jvm.Cond.privateMethod ({ cls := "InsolvencyPool", name := "takeLimits", desc := "(IZ)V" } : Jvm.MethodName)) ∈ lw_tbl := lw_at lw_m1 99 rfl
theorem q118 : (Jvm.Cond.instanceMethod ({ cls := "InsolvencyPool", name := "takeLimits", desc := "(IZ)V" } : Jvm.MethodName)) ∈ lw_all := lw_g (lw_at lw_m1 100 rfl) rfl
theorem q119 : (Jvm.Cond.code ({ cls := "InsolvencyPool", name := "takeLimits", desc := "(IZ)V" } : Jvm.MethodName) prog_1_method_26_code (5 : Nat) (Option.none : Option Jvm.ClassFile.FieldType)) ∈ lw_all := lw_g (lw_at lw_m1 101 rfl) rfl
theorem q120 : (Jvm.Cond.methodLink "InsolvencyPool" (64 : Nat) ({ cls := "InsolvencyPool", name := "award", desc := "(I)V" } : Jvm.MethodName)) ∈ lw_all := lw_g (lw_at lw_m1 102 rfl) rfl
theorem q121 : (Jvm.Cond.privateMethod ({ cls := "InsolvencyPool", name := "award", desc := "(I)V" } : Jvm.MethodName)) ∈ lw_tbl := lw_at lw_m1 103 rfl
theorem q122 : (Jvm.Cond.instanceMethod ({ cls := "InsolvencyPool", name := "award", desc := "(I)V" } : Jvm.MethodName)) ∈ lw_all := lw_g (lw_at lw_m1 104 rfl) rfl
theorem q123 : (Jvm.Cond.code ({ cls := "InsolvencyPool", name := "award", desc := "(I)V" } : Jvm.MethodName) prog_1_method_28_code (7 : Nat) (Option.none : Option Jvm.ClassFile.FieldType)) ∈ lw_all := lw_g (lw_at lw_m1 105 rfl) rfl
theorem q124 : (Jvm.Cond.methodLink "InsolvencyPool" (73 : Nat) ({ cls := "InsolvencyPool", name := "awarded", desc := "(I)I" } : Jvm.MethodName)) ∈ lw_all := lw_g (lw_at lw_m1 106 rfl) rfl
theorem q125 : (Jvm.Cond.privateMethod ({ cls := "InsolvencyPool", name := "awarded", desc := "(I)I" } : Jvm.MethodName)) ∈ lw_tbl := lw_at lw_m1 107 rfl
theorem q126 : (Jvm.Cond.instanceMethod ({ cls := "InsolvencyPool", name := "awarded", desc := "(I)I" } : Jvm.MethodName)) ∈ lw_all := lw_g (lw_at lw_m1 108 rfl) rfl
theorem q127 : (Jvm.Cond.code ({ cls := "InsolvencyPool", name := "awarded", desc := "(I)I" } : Jvm.MethodName) prog_1_method_27_code (4 : Nat) (Option.some Jvm.ClassFile.FieldType.int)) ∈ lw_all := lw_g (lw_at lw_m1 109 rfl) rfl
theorem q128 : (Jvm.Cond.methodLink "InsolvencyPool" (67 : Nat) ({ cls := "InsolvencyPool", name := "lose", desc := "(I)V" } : Jvm.MethodName)) ∈ lw_all := lw_g (lw_at lw_m1 110 rfl) rfl
theorem q129 : (Jvm.Cond.privateMethod ({ cls := "InsolvencyPool", name := "lose", desc := "(I)V" } : Jvm.MethodName)) ∈ lw_tbl := lw_at lw_m1 111 rfl
theorem q130 : (Jvm.Cond.instanceMethod ({ cls := "InsolvencyPool", name := "lose", desc := "(I)V" } : Jvm.MethodName)) ∈ lw_all := lw_g (lw_at lw_m1 112 rfl) rfl
theorem q131 : (Jvm.Cond.code ({ cls := "InsolvencyPool", name := "lose", desc := "(I)V" } : Jvm.MethodName) prog_1_method_30_code (7 : Nat) (Option.none : Option Jvm.ClassFile.FieldType)) ∈ lw_all := lw_g (lw_at lw_m1 113 rfl) rfl
theorem q132 : (Jvm.Cond.methodLink "InsolvencyPool" (76 : Nat) ({ cls := "InsolvencyPool", name := "lost", desc := "(I)I" } : Jvm.MethodName)) ∈ lw_all := lw_g (lw_at lw_m1 114 rfl) rfl
theorem q133 : (Jvm.Cond.privateMethod ({ cls := "InsolvencyPool", name := "lost", desc := "(I)I" } : Jvm.MethodName)) ∈ lw_tbl := lw_at lw_m1 115 rfl
theorem q134 : (Jvm.Cond.instanceMethod ({ cls := "InsolvencyPool", name := "lost", desc := "(I)I" } : Jvm.MethodName)) ∈ lw_all := lw_g (lw_at lw_m1 116 rfl) rfl
theorem q135 : (Jvm.Cond.code ({ cls := "InsolvencyPool", name := "lost", desc := "(I)I" } : Jvm.MethodName) prog_1_method_29_code (4 : Nat) (Option.some Jvm.ClassFile.FieldType.int)) ∈ lw_all := lw_g (lw_at lw_m1 117 rfl) rfl
theorem q136 : (Jvm.Cond.methodLink "InsolvencyPool" (70 : Nat) ({ cls := "InsolvencyPool", name := "quotas", desc := "(III)V" } : Jvm.MethodName)) ∈ lw_all := lw_g (lw_at lw_m1 118 rfl) rfl
theorem q137 : (Jvm.Cond.privateMethod ({ cls := "InsolvencyPool", name := "quotas", desc := "(III)V" } : Jvm.MethodName)) ∈ lw_tbl := lw_at lw_m1 119 rfl
theorem q138 : (Jvm.Cond.instanceMethod ({ cls := "InsolvencyPool", name := "quotas", desc := "(III)V" } : Jvm.MethodName)) ∈ lw_all := lw_g (lw_at lw_m1 120 rfl) rfl
theorem q139 : (Jvm.Cond.code ({ cls := "InsolvencyPool", name := "quotas", desc := "(III)V" } : Jvm.MethodName) prog_1_method_31_code (8 : Nat) (Option.none : Option Jvm.ClassFile.FieldType)) ∈ lw_all := lw_g (lw_at lw_m1 121 rfl) rfl
theorem q140 : (Jvm.Cond.methodLink "InsolvencyPool" (79 : Nat) ({ cls := "InsolvencyPool", name := "isGreater", desc := "(II)Z" } : Jvm.MethodName)) ∈ lw_all := lw_g (lw_at lw_m1 122 rfl) rfl
theorem q141 : (Jvm.Cond.privateMethod ({ cls := "InsolvencyPool", name := "isGreater", desc := "(II)Z" } : Jvm.MethodName)) ∈ lw_tbl := lw_at lw_m1 123 rfl
theorem q142 : (Jvm.Cond.instanceMethod ({ cls := "InsolvencyPool", name := "isGreater", desc := "(II)Z" } : Jvm.MethodName)) ∈ lw_all := lw_g (lw_at lw_m1 124 rfl) rfl
theorem q143 : (Jvm.Cond.code ({ cls := "InsolvencyPool", name := "isGreater", desc := "(II)Z" } : Jvm.MethodName) prog_1_method_32_code (3 : Nat) (Option.some Jvm.ClassFile.FieldType.boolean)) ∈ lw_all := lw_g (lw_at lw_m1 125 rfl) rfl
theorem q145 : (Jvm.Cond.instanceMethod ({ cls := "InsolvencyPool", name := "shareOf", desc := "(II)I" } : Jvm.MethodName)) ∈ lw_all := lw_g (lw_at lw_m1 127 rfl) rfl
theorem q146 : (Jvm.Cond.selects "InsolvencyPool" ({ cls := "InsolvencyPool", name := "shareOf", desc := "(II)I" } : Jvm.MethodName) ({ cls := "InsolvencyPool", name := "shareOf", desc := "(II)I" } : Jvm.MethodName)) ∈ lw_all := lw_g (lw_at lw_m1 128 rfl) rfl
theorem q147 : (Jvm.Cond.code ({ cls := "InsolvencyPool", name := "shareOf", desc := "(II)I" } : Jvm.MethodName) prog_1_method_11_code (3 : Nat) (Option.some Jvm.ClassFile.FieldType.int)) ∈ lw_all := lw_g (lw_at lw_m1 129 rfl) rfl
theorem q149 : (Jvm.Cond.instanceMethod ({ cls := "InsolvencyPool", name := "shareUnder", desc := "(II)I" } : Jvm.MethodName)) ∈ lw_all := lw_g (lw_at lw_m1 131 rfl) rfl
theorem q150 : (Jvm.Cond.selects "InsolvencyPool" ({ cls := "InsolvencyPool", name := "shareUnder", desc := "(II)I" } : Jvm.MethodName) ({ cls := "InsolvencyPool", name := "shareUnder", desc := "(II)I" } : Jvm.MethodName)) ∈ lw_all := lw_g (lw_at lw_m1 132 rfl) rfl
theorem q151 : (Jvm.Cond.code ({ cls := "InsolvencyPool", name := "shareUnder", desc := "(II)I" } : Jvm.MethodName) prog_1_method_12_code (5 : Nat) (Option.some Jvm.ClassFile.FieldType.int)) ∈ lw_all := lw_g (lw_at lw_m1 133 rfl) rfl
theorem q153 : (Jvm.Cond.instanceMethod ({ cls := "InsolvencyPool", name := "leastEstate", desc := "(II)I" } : Jvm.MethodName)) ∈ lw_all := lw_g (lw_at lw_m1 135 rfl) rfl
theorem q154 : (Jvm.Cond.selects "InsolvencyPool" ({ cls := "InsolvencyPool", name := "leastEstate", desc := "(II)I" } : Jvm.MethodName) ({ cls := "InsolvencyPool", name := "leastEstate", desc := "(II)I" } : Jvm.MethodName)) ∈ lw_all := lw_g (lw_at lw_m1 136 rfl) rfl
theorem q155 : (Jvm.Cond.code ({ cls := "InsolvencyPool", name := "leastEstate", desc := "(II)I" } : Jvm.MethodName) prog_1_method_13_code (7 : Nat) (Option.some Jvm.ClassFile.FieldType.int)) ∈ lw_all := lw_g (lw_at lw_m1 137 rfl) rfl
theorem q157 : (Jvm.Cond.instanceMethod ({ cls := "InsolvencyPool", name := "claims", desc := "(I)I" } : Jvm.MethodName)) ∈ lw_all := lw_g (lw_at lw_m1 139 rfl) rfl
theorem q158 : (Jvm.Cond.selects "InsolvencyPool" ({ cls := "InsolvencyPool", name := "claims", desc := "(I)I" } : Jvm.MethodName) ({ cls := "InsolvencyPool", name := "claims", desc := "(I)I" } : Jvm.MethodName)) ∈ lw_all := lw_g (lw_at lw_m1 140 rfl) rfl
theorem q159 : (Jvm.Cond.code ({ cls := "InsolvencyPool", name := "claims", desc := "(I)I" } : Jvm.MethodName) prog_1_method_14_code (2 : Nat) (Option.some Jvm.ClassFile.FieldType.int)) ∈ lw_all := lw_g (lw_at lw_m1 141 rfl) rfl
theorem q161 : (Jvm.Cond.instanceMethod ({ cls := "InsolvencyPool", name := "paid", desc := "(I)I" } : Jvm.MethodName)) ∈ lw_all := lw_g (lw_at lw_m1 143 rfl) rfl
theorem q162 : (Jvm.Cond.selects "InsolvencyPool" ({ cls := "InsolvencyPool", name := "paid", desc := "(I)I" } : Jvm.MethodName) ({ cls := "InsolvencyPool", name := "paid", desc := "(I)I" } : Jvm.MethodName)) ∈ lw_all := lw_g (lw_at lw_m1 144 rfl) rfl
theorem q163 : (Jvm.Cond.code ({ cls := "InsolvencyPool", name := "paid", desc := "(I)I" } : Jvm.MethodName) prog_1_method_15_code (4 : Nat) (Option.some Jvm.ClassFile.FieldType.int)) ∈ lw_all := lw_g (lw_at lw_m1 145 rfl) rfl
theorem q165 : (Jvm.Cond.instanceMethod ({ cls := "InsolvencyPool", name := "left", desc := "()I" } : Jvm.MethodName)) ∈ lw_all := lw_g (lw_at lw_m1 147 rfl) rfl
theorem q166 : (Jvm.Cond.selects "InsolvencyPool" ({ cls := "InsolvencyPool", name := "left", desc := "()I" } : Jvm.MethodName) ({ cls := "InsolvencyPool", name := "left", desc := "()I" } : Jvm.MethodName)) ∈ lw_all := lw_g (lw_at lw_m1 148 rfl) rfl
theorem q167 : (Jvm.Cond.code ({ cls := "InsolvencyPool", name := "left", desc := "()I" } : Jvm.MethodName) prog_1_method_16_code (1 : Nat) (Option.some Jvm.ClassFile.FieldType.int)) ∈ lw_all := lw_g (lw_at lw_m1 149 rfl) rfl
theorem q169 : (Jvm.Cond.instanceMethod ({ cls := "InsolvencyPool", name := "next", desc := "()I" } : Jvm.MethodName)) ∈ lw_all := lw_g (lw_at lw_m1 151 rfl) rfl
theorem q170 : (Jvm.Cond.selects "InsolvencyPool" ({ cls := "InsolvencyPool", name := "next", desc := "()I" } : Jvm.MethodName) ({ cls := "InsolvencyPool", name := "next", desc := "()I" } : Jvm.MethodName)) ∈ lw_all := lw_g (lw_at lw_m1 152 rfl) rfl
theorem q171 : (Jvm.Cond.code ({ cls := "InsolvencyPool", name := "next", desc := "()I" } : Jvm.MethodName) prog_1_method_17_code (2 : Nat) (Option.some Jvm.ClassFile.FieldType.int)) ∈ lw_all := lw_g (lw_at lw_m1 153 rfl) rfl
theorem q173 : (Jvm.Cond.instanceMethod ({ cls := "InsolvencyPool", name := "unpaid", desc := "()I" } : Jvm.MethodName)) ∈ lw_all := lw_g (lw_at lw_m1 155 rfl) rfl
theorem q174 : (Jvm.Cond.selects "InsolvencyPool" ({ cls := "InsolvencyPool", name := "unpaid", desc := "()I" } : Jvm.MethodName) ({ cls := "InsolvencyPool", name := "unpaid", desc := "()I" } : Jvm.MethodName)) ∈ lw_all := lw_g (lw_at lw_m1 156 rfl) rfl
theorem q175 : (Jvm.Cond.code ({ cls := "InsolvencyPool", name := "unpaid", desc := "()I" } : Jvm.MethodName) prog_1_method_18_code (3 : Nat) (Option.some Jvm.ClassFile.FieldType.int)) ∈ lw_all := lw_g (lw_at lw_m1 157 rfl) rfl
theorem q177 : (Jvm.Cond.instanceMethod ({ cls := "InsolvencyPool", name := "worst", desc := "()I" } : Jvm.MethodName)) ∈ lw_all := lw_g (lw_at lw_m1 159 rfl) rfl
theorem q178 : (Jvm.Cond.selects "InsolvencyPool" ({ cls := "InsolvencyPool", name := "worst", desc := "()I" } : Jvm.MethodName) ({ cls := "InsolvencyPool", name := "worst", desc := "()I" } : Jvm.MethodName)) ∈ lw_all := lw_g (lw_at lw_m1 160 rfl) rfl
theorem q179 : (Jvm.Cond.code ({ cls := "InsolvencyPool", name := "worst", desc := "()I" } : Jvm.MethodName) prog_1_method_19_code (4 : Nat) (Option.some Jvm.ClassFile.FieldType.int)) ∈ lw_all := lw_g (lw_at lw_m1 161 rfl) rfl
theorem in_X0 : ∀ w ∈ wsX00, w ∈ lw_all := lw_in wsX00 [38, 40, 42, 44, 46, 48, 50, 52, 54] (by decide +kernel) (by decide +kernel)
end
section
/-! InsolvencyPoolModel -/
set_option maxRecDepth 100000
def RX1 : String := "InsolvencyPoolModel"
def TX1 : u_T := fun k => match k with
  | 0 => ("InsolvencyPoolModel", "count", "I", false)
  | 1 => ("InsolvencyPoolModel", "claim", "[I", false)
  | 2 => ("InsolvencyPoolModel", "rank", "[I", false)
  | 3 => ("InsolvencyPoolModel", "rules", "[I", false)
  | 4 => ("InsolvencyPoolModel", "money", "I", false)
  | _ => ("InsolvencyPoolModel", "got", "[I", false)
def tyX1 : Nat → FieldType := fun k => match k with
  | 0 => .int
  | 1 => .array .int
  | 2 => .array .int
  | 3 => .array .int
  | 4 => .int
  | _ => .array .int
abbrev wsX10 : List Cond := u_ws RX1 TX1 6
theorem nmX1 : ∀ a, a < 6 → ∀ b, b < 6 → a ≠ b → (TX1 a).2.1 ≠ (TX1 b).2.1 := by decide +kernel
theorem tyX1_ok : ∀ k, k < 6 → parseFieldDescriptor (TX1 k).2.2.1 = some (tyX1 k) := by decide +kernel
abbrev cX1_init : ByteArray := prog_3_method_1_code
def yX1_init : MethodName := ⟨RX1, "<init>", "()V"⟩
theorem dX1_init_0 : decode cX1_init 0 = .ok (.aload_n 0, 1) := by decide +kernel
theorem dX1_init_1 : decode cX1_init 1 = .ok (.invokespecial 1, 3) := by decide +kernel
theorem dX1_init_4 : decode cX1_init 4 = .ok (.aload_n 0, 1) := by decide +kernel
theorem dX1_init_5 : decode cX1_init 5 = .ok (.bipush 8, 2) := by decide +kernel
theorem dX1_init_7 : decode cX1_init 7 = .ok (.newarray .int, 2) := by decide +kernel
theorem dX1_init_9 : decode cX1_init 9 = .ok (.putfield 7, 3) := by decide +kernel
theorem dX1_init_12 : decode cX1_init 12 = .ok (.aload_n 0, 1) := by decide +kernel
theorem dX1_init_13 : decode cX1_init 13 = .ok (.bipush 8, 2) := by decide +kernel
theorem dX1_init_15 : decode cX1_init 15 = .ok (.newarray .int, 2) := by decide +kernel
theorem dX1_init_17 : decode cX1_init 17 = .ok (.putfield 13, 3) := by decide +kernel
theorem dX1_init_20 : decode cX1_init 20 = .ok (.aload_n 0, 1) := by decide +kernel
theorem dX1_init_21 : decode cX1_init 21 = .ok (.iconst 4, 1) := by decide +kernel
theorem dX1_init_22 : decode cX1_init 22 = .ok (.newarray .int, 2) := by decide +kernel
theorem dX1_init_24 : decode cX1_init 24 = .ok (.putfield 16, 3) := by decide +kernel
theorem dX1_init_27 : decode cX1_init 27 = .ok (.aload_n 0, 1) := by decide +kernel
theorem dX1_init_28 : decode cX1_init 28 = .ok (.bipush 8, 2) := by decide +kernel
theorem dX1_init_30 : decode cX1_init 30 = .ok (.newarray .int, 2) := by decide +kernel
theorem dX1_init_32 : decode cX1_init 32 = .ok (.putfield 19, 3) := by decide +kernel
theorem dX1_init_35 : decode cX1_init 35 = .ok (.return_, 1) := by decide +kernel
abbrev cX1_add : ByteArray := prog_3_method_5_code
def yX1_add : MethodName := ⟨RX1, "add", "(II)I"⟩
theorem dX1_add_0 : decode cX1_add 0 = .ok (.aload_n 0, 1) := by decide +kernel
theorem dX1_add_1 : decode cX1_add 1 = .ok (.iload_n 1, 1) := by decide +kernel
theorem dX1_add_2 : decode cX1_add 2 = .ok (.invokevirtual 26, 3) := by decide +kernel
theorem dX1_add_5 : decode cX1_add 5 = .ok (.ifCond .eq 5, 3) := by decide +kernel
theorem dX1_add_8 : decode cX1_add 8 = .ok (.iconst (-1), 1) := by decide +kernel
theorem dX1_add_9 : decode cX1_add 9 = .ok (.ireturn, 1) := by decide +kernel
theorem dX1_add_10 : decode cX1_add 10 = .ok (.aload_n 0, 1) := by decide +kernel
theorem dX1_add_11 : decode cX1_add 11 = .ok (.iload_n 2, 1) := by decide +kernel
theorem dX1_add_12 : decode cX1_add 12 = .ok (.invokevirtual 30, 3) := by decide +kernel
theorem dX1_add_15 : decode cX1_add 15 = .ok (.ifCond .eq 6, 3) := by decide +kernel
theorem dX1_add_18 : decode cX1_add 18 = .ok (.bipush (-2), 2) := by decide +kernel
theorem dX1_add_20 : decode cX1_add 20 = .ok (.ireturn, 1) := by decide +kernel
theorem dX1_add_21 : decode cX1_add 21 = .ok (.aload_n 0, 1) := by decide +kernel
theorem dX1_add_22 : decode cX1_add 22 = .ok (.getfield 22, 3) := by decide +kernel
theorem dX1_add_25 : decode cX1_add 25 = .ok (.istore_n 3, 1) := by decide +kernel
theorem dX1_add_26 : decode cX1_add 26 = .ok (.iload_n 3, 1) := by decide +kernel
theorem dX1_add_27 : decode cX1_add 27 = .ok (.bipush 8, 2) := by decide +kernel
theorem dX1_add_29 : decode cX1_add 29 = .ok (.if_icmp .lt 6, 3) := by decide +kernel
theorem dX1_add_32 : decode cX1_add 32 = .ok (.bipush (-3), 2) := by decide +kernel
theorem dX1_add_34 : decode cX1_add 34 = .ok (.ireturn, 1) := by decide +kernel
theorem dX1_add_35 : decode cX1_add 35 = .ok (.aload_n 0, 1) := by decide +kernel
theorem dX1_add_36 : decode cX1_add 36 = .ok (.getfield 7, 3) := by decide +kernel
theorem dX1_add_39 : decode cX1_add 39 = .ok (.iload_n 3, 1) := by decide +kernel
theorem dX1_add_40 : decode cX1_add 40 = .ok (.iload_n 1, 1) := by decide +kernel
theorem dX1_add_41 : decode cX1_add 41 = .ok (.iastore, 1) := by decide +kernel
theorem dX1_add_42 : decode cX1_add 42 = .ok (.aload_n 0, 1) := by decide +kernel
theorem dX1_add_43 : decode cX1_add 43 = .ok (.getfield 13, 3) := by decide +kernel
theorem dX1_add_46 : decode cX1_add 46 = .ok (.iload_n 3, 1) := by decide +kernel
theorem dX1_add_47 : decode cX1_add 47 = .ok (.iload_n 2, 1) := by decide +kernel
theorem dX1_add_48 : decode cX1_add 48 = .ok (.iastore, 1) := by decide +kernel
theorem dX1_add_49 : decode cX1_add 49 = .ok (.aload_n 0, 1) := by decide +kernel
theorem dX1_add_50 : decode cX1_add 50 = .ok (.iload_n 3, 1) := by decide +kernel
theorem dX1_add_51 : decode cX1_add 51 = .ok (.iconst 1, 1) := by decide +kernel
theorem dX1_add_52 : decode cX1_add 52 = .ok (.iadd, 1) := by decide +kernel
theorem dX1_add_53 : decode cX1_add 53 = .ok (.putfield 22, 3) := by decide +kernel
theorem dX1_add_56 : decode cX1_add 56 = .ok (.iload_n 3, 1) := by decide +kernel
theorem dX1_add_57 : decode cX1_add 57 = .ok (.ireturn, 1) := by decide +kernel
abbrev cX1_badClaim : ByteArray := prog_3_method_4_code
def yX1_badClaim : MethodName := ⟨RX1, "badClaim", "(I)Z"⟩
theorem dX1_badClaim_0 : decode cX1_badClaim 0 = .ok (.iload_n 1, 1) := by decide +kernel
theorem dX1_badClaim_1 : decode cX1_badClaim 1 = .ok (.ifCond .lt 10, 3) := by decide +kernel
theorem dX1_badClaim_4 : decode cX1_badClaim 4 = .ok (.iload_n 1, 1) := by decide +kernel
theorem dX1_badClaim_5 : decode cX1_badClaim 5 = .ok (.sipush 150, 3) := by decide +kernel
theorem dX1_badClaim_8 : decode cX1_badClaim 8 = .ok (.if_icmp .le 7, 3) := by decide +kernel
theorem dX1_badClaim_11 : decode cX1_badClaim 11 = .ok (.iconst 1, 1) := by decide +kernel
theorem dX1_badClaim_12 : decode cX1_badClaim 12 = .ok (.goto 4, 3) := by decide +kernel
theorem dX1_badClaim_15 : decode cX1_badClaim 15 = .ok (.iconst 0, 1) := by decide +kernel
theorem dX1_badClaim_16 : decode cX1_badClaim 16 = .ok (.ireturn, 1) := by decide +kernel
abbrev cX1_badRank : ByteArray := prog_3_method_3_code
def yX1_badRank : MethodName := ⟨RX1, "badRank", "(I)Z"⟩
theorem dX1_badRank_0 : decode cX1_badRank 0 = .ok (.iload_n 1, 1) := by decide +kernel
theorem dX1_badRank_1 : decode cX1_badRank 1 = .ok (.ifCond .lt 8, 3) := by decide +kernel
theorem dX1_badRank_4 : decode cX1_badRank 4 = .ok (.iload_n 1, 1) := by decide +kernel
theorem dX1_badRank_5 : decode cX1_badRank 5 = .ok (.iconst 3, 1) := by decide +kernel
theorem dX1_badRank_6 : decode cX1_badRank 6 = .ok (.if_icmp .le 7, 3) := by decide +kernel
theorem dX1_badRank_9 : decode cX1_badRank 9 = .ok (.iconst 1, 1) := by decide +kernel
theorem dX1_badRank_10 : decode cX1_badRank 10 = .ok (.goto 4, 3) := by decide +kernel
theorem dX1_badRank_13 : decode cX1_badRank 13 = .ok (.iconst 0, 1) := by decide +kernel
theorem dX1_badRank_14 : decode cX1_badRank 14 = .ok (.ireturn, 1) := by decide +kernel
abbrev cX1_remove : ByteArray := prog_3_method_6_code
def yX1_remove : MethodName := ⟨RX1, "remove", "(I)I"⟩
theorem dX1_remove_0 : decode cX1_remove 0 = .ok (.aload_n 0, 1) := by decide +kernel
theorem dX1_remove_1 : decode cX1_remove 1 = .ok (.iload_n 1, 1) := by decide +kernel
theorem dX1_remove_2 : decode cX1_remove 2 = .ok (.invokevirtual 33, 3) := by decide +kernel
theorem dX1_remove_5 : decode cX1_remove 5 = .ok (.ifCond .eq 5, 3) := by decide +kernel
theorem dX1_remove_8 : decode cX1_remove 8 = .ok (.iconst (-1), 1) := by decide +kernel
theorem dX1_remove_9 : decode cX1_remove 9 = .ok (.ireturn, 1) := by decide +kernel
theorem dX1_remove_10 : decode cX1_remove 10 = .ok (.iload_n 1, 1) := by decide +kernel
theorem dX1_remove_11 : decode cX1_remove 11 = .ok (.istore_n 2, 1) := by decide +kernel
theorem dX1_remove_12 : decode cX1_remove 12 = .ok (.iload_n 2, 1) := by decide +kernel
theorem dX1_remove_13 : decode cX1_remove 13 = .ok (.aload_n 0, 1) := by decide +kernel
theorem dX1_remove_14 : decode cX1_remove 14 = .ok (.getfield 22, 3) := by decide +kernel
theorem dX1_remove_17 : decode cX1_remove 17 = .ok (.iconst 1, 1) := by decide +kernel
theorem dX1_remove_18 : decode cX1_remove 18 = .ok (.isub, 1) := by decide +kernel
theorem dX1_remove_19 : decode cX1_remove 19 = .ok (.if_icmp .ge 43, 3) := by decide +kernel
theorem dX1_remove_22 : decode cX1_remove 22 = .ok (.iload_n 2, 1) := by decide +kernel
theorem dX1_remove_23 : decode cX1_remove 23 = .ok (.bipush 7, 2) := by decide +kernel
theorem dX1_remove_25 : decode cX1_remove 25 = .ok (.if_icmp .ge 37, 3) := by decide +kernel
theorem dX1_remove_28 : decode cX1_remove 28 = .ok (.aload_n 0, 1) := by decide +kernel
theorem dX1_remove_29 : decode cX1_remove 29 = .ok (.getfield 7, 3) := by decide +kernel
theorem dX1_remove_32 : decode cX1_remove 32 = .ok (.iload_n 2, 1) := by decide +kernel
theorem dX1_remove_33 : decode cX1_remove 33 = .ok (.aload_n 0, 1) := by decide +kernel
theorem dX1_remove_34 : decode cX1_remove 34 = .ok (.getfield 7, 3) := by decide +kernel
theorem dX1_remove_37 : decode cX1_remove 37 = .ok (.iload_n 2, 1) := by decide +kernel
theorem dX1_remove_38 : decode cX1_remove 38 = .ok (.iconst 1, 1) := by decide +kernel
theorem dX1_remove_39 : decode cX1_remove 39 = .ok (.iadd, 1) := by decide +kernel
theorem dX1_remove_40 : decode cX1_remove 40 = .ok (.iaload, 1) := by decide +kernel
theorem dX1_remove_41 : decode cX1_remove 41 = .ok (.iastore, 1) := by decide +kernel
theorem dX1_remove_42 : decode cX1_remove 42 = .ok (.aload_n 0, 1) := by decide +kernel
theorem dX1_remove_43 : decode cX1_remove 43 = .ok (.getfield 13, 3) := by decide +kernel
theorem dX1_remove_46 : decode cX1_remove 46 = .ok (.iload_n 2, 1) := by decide +kernel
theorem dX1_remove_47 : decode cX1_remove 47 = .ok (.aload_n 0, 1) := by decide +kernel
theorem dX1_remove_48 : decode cX1_remove 48 = .ok (.getfield 13, 3) := by decide +kernel
theorem dX1_remove_51 : decode cX1_remove 51 = .ok (.iload_n 2, 1) := by decide +kernel
theorem dX1_remove_52 : decode cX1_remove 52 = .ok (.iconst 1, 1) := by decide +kernel
theorem dX1_remove_53 : decode cX1_remove 53 = .ok (.iadd, 1) := by decide +kernel
theorem dX1_remove_54 : decode cX1_remove 54 = .ok (.iaload, 1) := by decide +kernel
theorem dX1_remove_55 : decode cX1_remove 55 = .ok (.iastore, 1) := by decide +kernel
theorem dX1_remove_56 : decode cX1_remove 56 = .ok (.iinc 2 1, 3) := by decide +kernel
theorem dX1_remove_59 : decode cX1_remove 59 = .ok (.goto (-47), 3) := by decide +kernel
theorem dX1_remove_62 : decode cX1_remove 62 = .ok (.aload_n 0, 1) := by decide +kernel
theorem dX1_remove_63 : decode cX1_remove 63 = .ok (.dup, 1) := by decide +kernel
theorem dX1_remove_64 : decode cX1_remove 64 = .ok (.getfield 22, 3) := by decide +kernel
theorem dX1_remove_67 : decode cX1_remove 67 = .ok (.iconst 1, 1) := by decide +kernel
theorem dX1_remove_68 : decode cX1_remove 68 = .ok (.isub, 1) := by decide +kernel
theorem dX1_remove_69 : decode cX1_remove 69 = .ok (.putfield 22, 3) := by decide +kernel
theorem dX1_remove_72 : decode cX1_remove 72 = .ok (.aload_n 0, 1) := by decide +kernel
theorem dX1_remove_73 : decode cX1_remove 73 = .ok (.getfield 22, 3) := by decide +kernel
theorem dX1_remove_76 : decode cX1_remove 76 = .ok (.ireturn, 1) := by decide +kernel
abbrev cX1_bad : ByteArray := prog_3_method_2_code
def yX1_bad : MethodName := ⟨RX1, "bad", "(I)Z"⟩
theorem dX1_bad_0 : decode cX1_bad 0 = .ok (.iload_n 1, 1) := by decide +kernel
theorem dX1_bad_1 : decode cX1_bad 1 = .ok (.ifCond .lt 17, 3) := by decide +kernel
theorem dX1_bad_4 : decode cX1_bad 4 = .ok (.iload_n 1, 1) := by decide +kernel
theorem dX1_bad_5 : decode cX1_bad 5 = .ok (.aload_n 0, 1) := by decide +kernel
theorem dX1_bad_6 : decode cX1_bad 6 = .ok (.getfield 22, 3) := by decide +kernel
theorem dX1_bad_9 : decode cX1_bad 9 = .ok (.if_icmp .ge 9, 3) := by decide +kernel
theorem dX1_bad_12 : decode cX1_bad 12 = .ok (.iload_n 1, 1) := by decide +kernel
theorem dX1_bad_13 : decode cX1_bad 13 = .ok (.bipush 8, 2) := by decide +kernel
theorem dX1_bad_15 : decode cX1_bad 15 = .ok (.if_icmp .lt 7, 3) := by decide +kernel
theorem dX1_bad_18 : decode cX1_bad 18 = .ok (.iconst 1, 1) := by decide +kernel
theorem dX1_bad_19 : decode cX1_bad 19 = .ok (.goto 4, 3) := by decide +kernel
theorem dX1_bad_22 : decode cX1_bad 22 = .ok (.iconst 0, 1) := by decide +kernel
theorem dX1_bad_23 : decode cX1_bad 23 = .ok (.ireturn, 1) := by decide +kernel
abbrev cX1_change : ByteArray := prog_3_method_7_code
def yX1_change : MethodName := ⟨RX1, "change", "(II)I"⟩
theorem dX1_change_0 : decode cX1_change 0 = .ok (.aload_n 0, 1) := by decide +kernel
theorem dX1_change_1 : decode cX1_change 1 = .ok (.iload_n 1, 1) := by decide +kernel
theorem dX1_change_2 : decode cX1_change 2 = .ok (.invokevirtual 33, 3) := by decide +kernel
theorem dX1_change_5 : decode cX1_change 5 = .ok (.ifCond .eq 5, 3) := by decide +kernel
theorem dX1_change_8 : decode cX1_change 8 = .ok (.iconst (-1), 1) := by decide +kernel
theorem dX1_change_9 : decode cX1_change 9 = .ok (.ireturn, 1) := by decide +kernel
theorem dX1_change_10 : decode cX1_change 10 = .ok (.aload_n 0, 1) := by decide +kernel
theorem dX1_change_11 : decode cX1_change 11 = .ok (.iload_n 2, 1) := by decide +kernel
theorem dX1_change_12 : decode cX1_change 12 = .ok (.invokevirtual 26, 3) := by decide +kernel
theorem dX1_change_15 : decode cX1_change 15 = .ok (.ifCond .eq 6, 3) := by decide +kernel
theorem dX1_change_18 : decode cX1_change 18 = .ok (.bipush (-2), 2) := by decide +kernel
theorem dX1_change_20 : decode cX1_change 20 = .ok (.ireturn, 1) := by decide +kernel
theorem dX1_change_21 : decode cX1_change 21 = .ok (.aload_n 0, 1) := by decide +kernel
theorem dX1_change_22 : decode cX1_change 22 = .ok (.getfield 7, 3) := by decide +kernel
theorem dX1_change_25 : decode cX1_change 25 = .ok (.iload_n 1, 1) := by decide +kernel
theorem dX1_change_26 : decode cX1_change 26 = .ok (.iaload, 1) := by decide +kernel
theorem dX1_change_27 : decode cX1_change 27 = .ok (.istore_n 3, 1) := by decide +kernel
theorem dX1_change_28 : decode cX1_change 28 = .ok (.aload_n 0, 1) := by decide +kernel
theorem dX1_change_29 : decode cX1_change 29 = .ok (.getfield 7, 3) := by decide +kernel
theorem dX1_change_32 : decode cX1_change 32 = .ok (.iload_n 1, 1) := by decide +kernel
theorem dX1_change_33 : decode cX1_change 33 = .ok (.iload_n 2, 1) := by decide +kernel
theorem dX1_change_34 : decode cX1_change 34 = .ok (.iastore, 1) := by decide +kernel
theorem dX1_change_35 : decode cX1_change 35 = .ok (.iload_n 3, 1) := by decide +kernel
theorem dX1_change_36 : decode cX1_change 36 = .ok (.ireturn, 1) := by decide +kernel
abbrev cX1_move : ByteArray := prog_3_method_8_code
def yX1_move : MethodName := ⟨RX1, "move", "(II)I"⟩
theorem dX1_move_0 : decode cX1_move 0 = .ok (.aload_n 0, 1) := by decide +kernel
theorem dX1_move_1 : decode cX1_move 1 = .ok (.iload_n 1, 1) := by decide +kernel
theorem dX1_move_2 : decode cX1_move 2 = .ok (.invokevirtual 33, 3) := by decide +kernel
theorem dX1_move_5 : decode cX1_move 5 = .ok (.ifCond .eq 5, 3) := by decide +kernel
theorem dX1_move_8 : decode cX1_move 8 = .ok (.iconst (-1), 1) := by decide +kernel
theorem dX1_move_9 : decode cX1_move 9 = .ok (.ireturn, 1) := by decide +kernel
theorem dX1_move_10 : decode cX1_move 10 = .ok (.aload_n 0, 1) := by decide +kernel
theorem dX1_move_11 : decode cX1_move 11 = .ok (.iload_n 2, 1) := by decide +kernel
theorem dX1_move_12 : decode cX1_move 12 = .ok (.invokevirtual 30, 3) := by decide +kernel
theorem dX1_move_15 : decode cX1_move 15 = .ok (.ifCond .eq 6, 3) := by decide +kernel
theorem dX1_move_18 : decode cX1_move 18 = .ok (.bipush (-2), 2) := by decide +kernel
theorem dX1_move_20 : decode cX1_move 20 = .ok (.ireturn, 1) := by decide +kernel
theorem dX1_move_21 : decode cX1_move 21 = .ok (.aload_n 0, 1) := by decide +kernel
theorem dX1_move_22 : decode cX1_move 22 = .ok (.getfield 13, 3) := by decide +kernel
theorem dX1_move_25 : decode cX1_move 25 = .ok (.iload_n 1, 1) := by decide +kernel
theorem dX1_move_26 : decode cX1_move 26 = .ok (.iaload, 1) := by decide +kernel
theorem dX1_move_27 : decode cX1_move 27 = .ok (.istore_n 3, 1) := by decide +kernel
theorem dX1_move_28 : decode cX1_move 28 = .ok (.aload_n 0, 1) := by decide +kernel
theorem dX1_move_29 : decode cX1_move 29 = .ok (.getfield 13, 3) := by decide +kernel
theorem dX1_move_32 : decode cX1_move 32 = .ok (.iload_n 1, 1) := by decide +kernel
theorem dX1_move_33 : decode cX1_move 33 = .ok (.iload_n 2, 1) := by decide +kernel
theorem dX1_move_34 : decode cX1_move 34 = .ok (.iastore, 1) := by decide +kernel
theorem dX1_move_35 : decode cX1_move 35 = .ok (.iload_n 3, 1) := by decide +kernel
theorem dX1_move_36 : decode cX1_move 36 = .ok (.ireturn, 1) := by decide +kernel
abbrev cX1_rule : ByteArray := prog_3_method_9_code
def yX1_rule : MethodName := ⟨RX1, "rule", "(II)I"⟩
theorem dX1_rule_0 : decode cX1_rule 0 = .ok (.aload_n 0, 1) := by decide +kernel
theorem dX1_rule_1 : decode cX1_rule 1 = .ok (.iload_n 1, 1) := by decide +kernel
theorem dX1_rule_2 : decode cX1_rule 2 = .ok (.invokevirtual 30, 3) := by decide +kernel
theorem dX1_rule_5 : decode cX1_rule 5 = .ok (.ifCond .eq 5, 3) := by decide +kernel
theorem dX1_rule_8 : decode cX1_rule 8 = .ok (.iconst (-1), 1) := by decide +kernel
theorem dX1_rule_9 : decode cX1_rule 9 = .ok (.ireturn, 1) := by decide +kernel
theorem dX1_rule_10 : decode cX1_rule 10 = .ok (.iload_n 2, 1) := by decide +kernel
theorem dX1_rule_11 : decode cX1_rule 11 = .ok (.ifCond .lt 8, 3) := by decide +kernel
theorem dX1_rule_14 : decode cX1_rule 14 = .ok (.iload_n 2, 1) := by decide +kernel
theorem dX1_rule_15 : decode cX1_rule 15 = .ok (.iconst 3, 1) := by decide +kernel
theorem dX1_rule_16 : decode cX1_rule 16 = .ok (.if_icmp .le 6, 3) := by decide +kernel
theorem dX1_rule_19 : decode cX1_rule 19 = .ok (.bipush (-2), 2) := by decide +kernel
theorem dX1_rule_21 : decode cX1_rule 21 = .ok (.ireturn, 1) := by decide +kernel
theorem dX1_rule_22 : decode cX1_rule 22 = .ok (.aload_n 0, 1) := by decide +kernel
theorem dX1_rule_23 : decode cX1_rule 23 = .ok (.getfield 16, 3) := by decide +kernel
theorem dX1_rule_26 : decode cX1_rule 26 = .ok (.iload_n 1, 1) := by decide +kernel
theorem dX1_rule_27 : decode cX1_rule 27 = .ok (.iaload, 1) := by decide +kernel
theorem dX1_rule_28 : decode cX1_rule 28 = .ok (.istore_n 3, 1) := by decide +kernel
theorem dX1_rule_29 : decode cX1_rule 29 = .ok (.aload_n 0, 1) := by decide +kernel
theorem dX1_rule_30 : decode cX1_rule 30 = .ok (.getfield 16, 3) := by decide +kernel
theorem dX1_rule_33 : decode cX1_rule 33 = .ok (.iload_n 1, 1) := by decide +kernel
theorem dX1_rule_34 : decode cX1_rule 34 = .ok (.iload_n 2, 1) := by decide +kernel
theorem dX1_rule_35 : decode cX1_rule 35 = .ok (.iastore, 1) := by decide +kernel
theorem dX1_rule_36 : decode cX1_rule 36 = .ok (.iload_n 3, 1) := by decide +kernel
theorem dX1_rule_37 : decode cX1_rule 37 = .ok (.ireturn, 1) := by decide +kernel
abbrev cX1_estate : ByteArray := prog_3_method_10_code
def yX1_estate : MethodName := ⟨RX1, "estate", "(I)I"⟩
theorem dX1_estate_0 : decode cX1_estate 0 = .ok (.iload_n 1, 1) := by decide +kernel
theorem dX1_estate_1 : decode cX1_estate 1 = .ok (.aload_n 0, 1) := by decide +kernel
theorem dX1_estate_2 : decode cX1_estate 2 = .ok (.getfield 36, 3) := by decide +kernel
theorem dX1_estate_5 : decode cX1_estate 5 = .ok (.ineg, 1) := by decide +kernel
theorem dX1_estate_6 : decode cX1_estate 6 = .ok (.if_icmp .lt 15, 3) := by decide +kernel
theorem dX1_estate_9 : decode cX1_estate 9 = .ok (.iload_n 1, 1) := by decide +kernel
theorem dX1_estate_10 : decode cX1_estate 10 = .ok (.sipush 1500, 3) := by decide +kernel
theorem dX1_estate_13 : decode cX1_estate 13 = .ok (.aload_n 0, 1) := by decide +kernel
theorem dX1_estate_14 : decode cX1_estate 14 = .ok (.getfield 36, 3) := by decide +kernel
theorem dX1_estate_17 : decode cX1_estate 17 = .ok (.isub, 1) := by decide +kernel
theorem dX1_estate_18 : decode cX1_estate 18 = .ok (.if_icmp .le 5, 3) := by decide +kernel
theorem dX1_estate_21 : decode cX1_estate 21 = .ok (.iconst (-1), 1) := by decide +kernel
theorem dX1_estate_22 : decode cX1_estate 22 = .ok (.ireturn, 1) := by decide +kernel
theorem dX1_estate_23 : decode cX1_estate 23 = .ok (.aload_n 0, 1) := by decide +kernel
theorem dX1_estate_24 : decode cX1_estate 24 = .ok (.dup, 1) := by decide +kernel
theorem dX1_estate_25 : decode cX1_estate 25 = .ok (.getfield 36, 3) := by decide +kernel
theorem dX1_estate_28 : decode cX1_estate 28 = .ok (.iload_n 1, 1) := by decide +kernel
theorem dX1_estate_29 : decode cX1_estate 29 = .ok (.iadd, 1) := by decide +kernel
theorem dX1_estate_30 : decode cX1_estate 30 = .ok (.putfield 36, 3) := by decide +kernel
theorem dX1_estate_33 : decode cX1_estate 33 = .ok (.aload_n 0, 1) := by decide +kernel
theorem dX1_estate_34 : decode cX1_estate 34 = .ok (.getfield 36, 3) := by decide +kernel
theorem dX1_estate_37 : decode cX1_estate 37 = .ok (.ireturn, 1) := by decide +kernel
abbrev cX1_creditors : ByteArray := prog_3_method_11_code
def yX1_creditors : MethodName := ⟨RX1, "creditors", "()I"⟩
theorem dX1_creditors_0 : decode cX1_creditors 0 = .ok (.aload_n 0, 1) := by decide +kernel
theorem dX1_creditors_1 : decode cX1_creditors 1 = .ok (.getfield 22, 3) := by decide +kernel
theorem dX1_creditors_4 : decode cX1_creditors 4 = .ok (.ireturn, 1) := by decide +kernel
abbrev cX1_claimOf : ByteArray := prog_3_method_12_code
def yX1_claimOf : MethodName := ⟨RX1, "claimOf", "(I)I"⟩
theorem dX1_claimOf_0 : decode cX1_claimOf 0 = .ok (.aload_n 0, 1) := by decide +kernel
theorem dX1_claimOf_1 : decode cX1_claimOf 1 = .ok (.iload_n 1, 1) := by decide +kernel
theorem dX1_claimOf_2 : decode cX1_claimOf 2 = .ok (.invokevirtual 33, 3) := by decide +kernel
theorem dX1_claimOf_5 : decode cX1_claimOf 5 = .ok (.ifCond .eq 7, 3) := by decide +kernel
theorem dX1_claimOf_8 : decode cX1_claimOf 8 = .ok (.iconst (-1), 1) := by decide +kernel
theorem dX1_claimOf_9 : decode cX1_claimOf 9 = .ok (.goto 9, 3) := by decide +kernel
theorem dX1_claimOf_12 : decode cX1_claimOf 12 = .ok (.aload_n 0, 1) := by decide +kernel
theorem dX1_claimOf_13 : decode cX1_claimOf 13 = .ok (.getfield 7, 3) := by decide +kernel
theorem dX1_claimOf_16 : decode cX1_claimOf 16 = .ok (.iload_n 1, 1) := by decide +kernel
theorem dX1_claimOf_17 : decode cX1_claimOf 17 = .ok (.iaload, 1) := by decide +kernel
theorem dX1_claimOf_18 : decode cX1_claimOf 18 = .ok (.ireturn, 1) := by decide +kernel
abbrev cX1_share : ByteArray := prog_3_method_17_code
def yX1_share : MethodName := ⟨RX1, "share", "(I)I"⟩
theorem dX1_share_0 : decode cX1_share 0 = .ok (.aload_n 0, 1) := by decide +kernel
theorem dX1_share_1 : decode cX1_share 1 = .ok (.iload_n 1, 1) := by decide +kernel
theorem dX1_share_2 : decode cX1_share 2 = .ok (.invokevirtual 33, 3) := by decide +kernel
theorem dX1_share_5 : decode cX1_share 5 = .ok (.ifCond .eq 5, 3) := by decide +kernel
theorem dX1_share_8 : decode cX1_share 8 = .ok (.iconst (-1), 1) := by decide +kernel
theorem dX1_share_9 : decode cX1_share 9 = .ok (.ireturn, 1) := by decide +kernel
theorem dX1_share_10 : decode cX1_share 10 = .ok (.aload_n 0, 1) := by decide +kernel
theorem dX1_share_11 : decode cX1_share 11 = .ok (.aload_n 0, 1) := by decide +kernel
theorem dX1_share_12 : decode cX1_share 12 = .ok (.getfield 36, 3) := by decide +kernel
theorem dX1_share_15 : decode cX1_share 15 = .ok (.iconst (-1), 1) := by decide +kernel
theorem dX1_share_16 : decode cX1_share 16 = .ok (.iconst 0, 1) := by decide +kernel
theorem dX1_share_17 : decode cX1_share 17 = .ok (.invokevirtual 51, 3) := by decide +kernel
theorem dX1_share_20 : decode cX1_share 20 = .ok (.pop, 1) := by decide +kernel
theorem dX1_share_21 : decode cX1_share 21 = .ok (.aload_n 0, 1) := by decide +kernel
theorem dX1_share_22 : decode cX1_share 22 = .ok (.getfield 19, 3) := by decide +kernel
theorem dX1_share_25 : decode cX1_share 25 = .ok (.iload_n 1, 1) := by decide +kernel
theorem dX1_share_26 : decode cX1_share 26 = .ok (.iaload, 1) := by decide +kernel
theorem dX1_share_27 : decode cX1_share 27 = .ok (.ireturn, 1) := by decide +kernel
abbrev cX1_hand : ByteArray := prog_3_method_16_code
def yX1_hand : MethodName := ⟨RX1, "hand", "(III)I"⟩
theorem dX1_hand_0 : decode cX1_hand 0 = .ok (.iconst 0, 1) := by decide +kernel
theorem dX1_hand_1 : decode cX1_hand 1 = .ok (.istore 4, 2) := by decide +kernel
theorem dX1_hand_3 : decode cX1_hand 3 = .ok (.iload 4, 2) := by decide +kernel
theorem dX1_hand_5 : decode cX1_hand 5 = .ok (.bipush 8, 2) := by decide +kernel
theorem dX1_hand_7 : decode cX1_hand 7 = .ok (.if_icmp .ge 17, 3) := by decide +kernel
theorem dX1_hand_10 : decode cX1_hand 10 = .ok (.aload_n 0, 1) := by decide +kernel
theorem dX1_hand_11 : decode cX1_hand 11 = .ok (.getfield 19, 3) := by decide +kernel
theorem dX1_hand_14 : decode cX1_hand 14 = .ok (.iload 4, 2) := by decide +kernel
theorem dX1_hand_16 : decode cX1_hand 16 = .ok (.iconst 0, 1) := by decide +kernel
theorem dX1_hand_17 : decode cX1_hand 17 = .ok (.iastore, 1) := by decide +kernel
theorem dX1_hand_18 : decode cX1_hand 18 = .ok (.iinc 4 1, 3) := by decide +kernel
theorem dX1_hand_21 : decode cX1_hand 21 = .ok (.goto (-18), 3) := by decide +kernel
theorem dX1_hand_24 : decode cX1_hand 24 = .ok (.iconst 0, 1) := by decide +kernel
theorem dX1_hand_25 : decode cX1_hand 25 = .ok (.istore 4, 2) := by decide +kernel
theorem dX1_hand_27 : decode cX1_hand 27 = .ok (.iconst 0, 1) := by decide +kernel
theorem dX1_hand_28 : decode cX1_hand 28 = .ok (.istore 5, 2) := by decide +kernel
theorem dX1_hand_30 : decode cX1_hand 30 = .ok (.iload 5, 2) := by decide +kernel
theorem dX1_hand_32 : decode cX1_hand 32 = .ok (.iload_n 1, 1) := by decide +kernel
theorem dX1_hand_33 : decode cX1_hand 33 = .ok (.if_icmp .ge 39, 3) := by decide +kernel
theorem dX1_hand_36 : decode cX1_hand 36 = .ok (.aload_n 0, 1) := by decide +kernel
theorem dX1_hand_37 : decode cX1_hand 37 = .ok (.iload_n 2, 1) := by decide +kernel
theorem dX1_hand_38 : decode cX1_hand 38 = .ok (.iload_n 3, 1) := by decide +kernel
theorem dX1_hand_39 : decode cX1_hand 39 = .ok (.invokevirtual 47, 3) := by decide +kernel
theorem dX1_hand_42 : decode cX1_hand 42 = .ok (.istore 6, 2) := by decide +kernel
theorem dX1_hand_44 : decode cX1_hand 44 = .ok (.iload 6, 2) := by decide +kernel
theorem dX1_hand_46 : decode cX1_hand 46 = .ok (.ifCond .ge 9, 3) := by decide +kernel
theorem dX1_hand_49 : decode cX1_hand 49 = .ok (.iinc 4 1, 3) := by decide +kernel
theorem dX1_hand_52 : decode cX1_hand 52 = .ok (.goto 14, 3) := by decide +kernel
theorem dX1_hand_55 : decode cX1_hand 55 = .ok (.aload_n 0, 1) := by decide +kernel
theorem dX1_hand_56 : decode cX1_hand 56 = .ok (.getfield 19, 3) := by decide +kernel
theorem dX1_hand_59 : decode cX1_hand 59 = .ok (.iload 6, 2) := by decide +kernel
theorem dX1_hand_61 : decode cX1_hand 61 = .ok (.dup2, 1) := by decide +kernel
theorem dX1_hand_62 : decode cX1_hand 62 = .ok (.iaload, 1) := by decide +kernel
theorem dX1_hand_63 : decode cX1_hand 63 = .ok (.iconst 1, 1) := by decide +kernel
theorem dX1_hand_64 : decode cX1_hand 64 = .ok (.iadd, 1) := by decide +kernel
theorem dX1_hand_65 : decode cX1_hand 65 = .ok (.iastore, 1) := by decide +kernel
theorem dX1_hand_66 : decode cX1_hand 66 = .ok (.iinc 5 1, 3) := by decide +kernel
theorem dX1_hand_69 : decode cX1_hand 69 = .ok (.goto (-39), 3) := by decide +kernel
theorem dX1_hand_72 : decode cX1_hand 72 = .ok (.iload 4, 2) := by decide +kernel
theorem dX1_hand_74 : decode cX1_hand 74 = .ok (.ireturn, 1) := by decide +kernel
abbrev cX1_chosen : ByteArray := prog_3_method_15_code
def yX1_chosen : MethodName := ⟨RX1, "chosen", "(II)I"⟩
theorem dX1_chosen_0 : decode cX1_chosen 0 = .ok (.aload_n 0, 1) := by decide +kernel
theorem dX1_chosen_1 : decode cX1_chosen 1 = .ok (.invokevirtual 39, 3) := by decide +kernel
theorem dX1_chosen_4 : decode cX1_chosen 4 = .ok (.istore_n 3, 1) := by decide +kernel
theorem dX1_chosen_5 : decode cX1_chosen 5 = .ok (.iload_n 3, 1) := by decide +kernel
theorem dX1_chosen_6 : decode cX1_chosen 6 = .ok (.iconst 3, 1) := by decide +kernel
theorem dX1_chosen_7 : decode cX1_chosen 7 = .ok (.if_icmp .le 5, 3) := by decide +kernel
theorem dX1_chosen_10 : decode cX1_chosen 10 = .ok (.iconst (-1), 1) := by decide +kernel
theorem dX1_chosen_11 : decode cX1_chosen 11 = .ok (.ireturn, 1) := by decide +kernel
theorem dX1_chosen_12 : decode cX1_chosen 12 = .ok (.iload_n 3, 1) := by decide +kernel
theorem dX1_chosen_13 : decode cX1_chosen 13 = .ok (.iload_n 1, 1) := by decide +kernel
theorem dX1_chosen_14 : decode cX1_chosen 14 = .ok (.if_icmp .ne 7, 3) := by decide +kernel
theorem dX1_chosen_17 : decode cX1_chosen 17 = .ok (.iload_n 2, 1) := by decide +kernel
theorem dX1_chosen_18 : decode cX1_chosen 18 = .ok (.goto 9, 3) := by decide +kernel
theorem dX1_chosen_21 : decode cX1_chosen 21 = .ok (.aload_n 0, 1) := by decide +kernel
theorem dX1_chosen_22 : decode cX1_chosen 22 = .ok (.getfield 16, 3) := by decide +kernel
theorem dX1_chosen_25 : decode cX1_chosen 25 = .ok (.iload_n 3, 1) := by decide +kernel
theorem dX1_chosen_26 : decode cX1_chosen 26 = .ok (.iaload, 1) := by decide +kernel
theorem dX1_chosen_27 : decode cX1_chosen 27 = .ok (.istore 4, 2) := by decide +kernel
theorem dX1_chosen_29 : decode cX1_chosen 29 = .ok (.iconst 0, 1) := by decide +kernel
theorem dX1_chosen_30 : decode cX1_chosen 30 = .ok (.istore 5, 2) := by decide +kernel
theorem dX1_chosen_32 : decode cX1_chosen 32 = .ok (.iconst 0, 1) := by decide +kernel
theorem dX1_chosen_33 : decode cX1_chosen 33 = .ok (.istore 6, 2) := by decide +kernel
theorem dX1_chosen_35 : decode cX1_chosen 35 = .ok (.iconst 0, 1) := by decide +kernel
theorem dX1_chosen_36 : decode cX1_chosen 36 = .ok (.istore 7, 2) := by decide +kernel
theorem dX1_chosen_38 : decode cX1_chosen 38 = .ok (.iload 7, 2) := by decide +kernel
theorem dX1_chosen_40 : decode cX1_chosen 40 = .ok (.aload_n 0, 1) := by decide +kernel
theorem dX1_chosen_41 : decode cX1_chosen 41 = .ok (.getfield 22, 3) := by decide +kernel
theorem dX1_chosen_44 : decode cX1_chosen 44 = .ok (.if_icmp .ge 51, 3) := by decide +kernel
theorem dX1_chosen_47 : decode cX1_chosen 47 = .ok (.iload 7, 2) := by decide +kernel
theorem dX1_chosen_49 : decode cX1_chosen 49 = .ok (.bipush 8, 2) := by decide +kernel
theorem dX1_chosen_51 : decode cX1_chosen 51 = .ok (.if_icmp .ge 44, 3) := by decide +kernel
theorem dX1_chosen_54 : decode cX1_chosen 54 = .ok (.aload_n 0, 1) := by decide +kernel
theorem dX1_chosen_55 : decode cX1_chosen 55 = .ok (.getfield 13, 3) := by decide +kernel
theorem dX1_chosen_58 : decode cX1_chosen 58 = .ok (.iload 7, 2) := by decide +kernel
theorem dX1_chosen_60 : decode cX1_chosen 60 = .ok (.iaload, 1) := by decide +kernel
theorem dX1_chosen_61 : decode cX1_chosen 61 = .ok (.iload_n 3, 1) := by decide +kernel
theorem dX1_chosen_62 : decode cX1_chosen 62 = .ok (.if_icmp .ne 27, 3) := by decide +kernel
theorem dX1_chosen_65 : decode cX1_chosen 65 = .ok (.iload 5, 2) := by decide +kernel
theorem dX1_chosen_67 : decode cX1_chosen 67 = .ok (.aload_n 0, 1) := by decide +kernel
theorem dX1_chosen_68 : decode cX1_chosen 68 = .ok (.getfield 7, 3) := by decide +kernel
theorem dX1_chosen_71 : decode cX1_chosen 71 = .ok (.iload 7, 2) := by decide +kernel
theorem dX1_chosen_73 : decode cX1_chosen 73 = .ok (.iaload, 1) := by decide +kernel
theorem dX1_chosen_74 : decode cX1_chosen 74 = .ok (.iadd, 1) := by decide +kernel
theorem dX1_chosen_75 : decode cX1_chosen 75 = .ok (.istore 5, 2) := by decide +kernel
theorem dX1_chosen_77 : decode cX1_chosen 77 = .ok (.iload 6, 2) := by decide +kernel
theorem dX1_chosen_79 : decode cX1_chosen 79 = .ok (.aload_n 0, 1) := by decide +kernel
theorem dX1_chosen_80 : decode cX1_chosen 80 = .ok (.getfield 19, 3) := by decide +kernel
theorem dX1_chosen_83 : decode cX1_chosen 83 = .ok (.iload 7, 2) := by decide +kernel
theorem dX1_chosen_85 : decode cX1_chosen 85 = .ok (.iaload, 1) := by decide +kernel
theorem dX1_chosen_86 : decode cX1_chosen 86 = .ok (.iadd, 1) := by decide +kernel
theorem dX1_chosen_87 : decode cX1_chosen 87 = .ok (.istore 6, 2) := by decide +kernel
theorem dX1_chosen_89 : decode cX1_chosen 89 = .ok (.iinc 7 1, 3) := by decide +kernel
theorem dX1_chosen_92 : decode cX1_chosen 92 = .ok (.goto (-54), 3) := by decide +kernel
theorem dX1_chosen_95 : decode cX1_chosen 95 = .ok (.iload 4, 2) := by decide +kernel
theorem dX1_chosen_97 : decode cX1_chosen 97 = .ok (.iconst 3, 1) := by decide +kernel
theorem dX1_chosen_98 : decode cX1_chosen 98 = .ok (.if_icmp .ne 16, 3) := by decide +kernel
theorem dX1_chosen_101 : decode cX1_chosen 101 = .ok (.iconst 2, 1) := by decide +kernel
theorem dX1_chosen_102 : decode cX1_chosen 102 = .ok (.iload 6, 2) := by decide +kernel
theorem dX1_chosen_104 : decode cX1_chosen 104 = .ok (.imul, 1) := by decide +kernel
theorem dX1_chosen_105 : decode cX1_chosen 105 = .ok (.iload 5, 2) := by decide +kernel
theorem dX1_chosen_107 : decode cX1_chosen 107 = .ok (.if_icmp .ge 7, 3) := by decide +kernel
theorem dX1_chosen_110 : decode cX1_chosen 110 = .ok (.iconst 1, 1) := by decide +kernel
theorem dX1_chosen_111 : decode cX1_chosen 111 = .ok (.goto 4, 3) := by decide +kernel
theorem dX1_chosen_114 : decode cX1_chosen 114 = .ok (.iconst 0, 1) := by decide +kernel
theorem dX1_chosen_115 : decode cX1_chosen 115 = .ok (.istore 7, 2) := by decide +kernel
theorem dX1_chosen_117 : decode cX1_chosen 117 = .ok (.iconst (-1), 1) := by decide +kernel
theorem dX1_chosen_118 : decode cX1_chosen 118 = .ok (.istore 8, 2) := by decide +kernel
theorem dX1_chosen_120 : decode cX1_chosen 120 = .ok (.iconst 0, 1) := by decide +kernel
theorem dX1_chosen_121 : decode cX1_chosen 121 = .ok (.istore 9, 2) := by decide +kernel
theorem dX1_chosen_123 : decode cX1_chosen 123 = .ok (.iload 9, 2) := by decide +kernel
theorem dX1_chosen_125 : decode cX1_chosen 125 = .ok (.aload_n 0, 1) := by decide +kernel
theorem dX1_chosen_126 : decode cX1_chosen 126 = .ok (.getfield 22, 3) := by decide +kernel
theorem dX1_chosen_129 : decode cX1_chosen 129 = .ok (.if_icmp .ge 119, 3) := by decide +kernel
theorem dX1_chosen_132 : decode cX1_chosen 132 = .ok (.iload 9, 2) := by decide +kernel
theorem dX1_chosen_134 : decode cX1_chosen 134 = .ok (.bipush 8, 2) := by decide +kernel
theorem dX1_chosen_136 : decode cX1_chosen 136 = .ok (.if_icmp .ge 112, 3) := by decide +kernel
theorem dX1_chosen_139 : decode cX1_chosen 139 = .ok (.aload_n 0, 1) := by decide +kernel
theorem dX1_chosen_140 : decode cX1_chosen 140 = .ok (.getfield 13, 3) := by decide +kernel
theorem dX1_chosen_143 : decode cX1_chosen 143 = .ok (.iload 9, 2) := by decide +kernel
theorem dX1_chosen_145 : decode cX1_chosen 145 = .ok (.iaload, 1) := by decide +kernel
theorem dX1_chosen_146 : decode cX1_chosen 146 = .ok (.iload_n 3, 1) := by decide +kernel
theorem dX1_chosen_147 : decode cX1_chosen 147 = .ok (.if_icmp .ne 24, 3) := by decide +kernel
theorem dX1_chosen_150 : decode cX1_chosen 150 = .ok (.aload_n 0, 1) := by decide +kernel
theorem dX1_chosen_151 : decode cX1_chosen 151 = .ok (.getfield 19, 3) := by decide +kernel
theorem dX1_chosen_154 : decode cX1_chosen 154 = .ok (.iload 9, 2) := by decide +kernel
theorem dX1_chosen_156 : decode cX1_chosen 156 = .ok (.iaload, 1) := by decide +kernel
theorem dX1_chosen_157 : decode cX1_chosen 157 = .ok (.aload_n 0, 1) := by decide +kernel
theorem dX1_chosen_158 : decode cX1_chosen 158 = .ok (.getfield 7, 3) := by decide +kernel
theorem dX1_chosen_161 : decode cX1_chosen 161 = .ok (.iload 9, 2) := by decide +kernel
theorem dX1_chosen_163 : decode cX1_chosen 163 = .ok (.iaload, 1) := by decide +kernel
theorem dX1_chosen_164 : decode cX1_chosen 164 = .ok (.if_icmp .ge 7, 3) := by decide +kernel
theorem dX1_chosen_167 : decode cX1_chosen 167 = .ok (.iconst 1, 1) := by decide +kernel
theorem dX1_chosen_168 : decode cX1_chosen 168 = .ok (.goto 4, 3) := by decide +kernel
theorem dX1_chosen_171 : decode cX1_chosen 171 = .ok (.iconst 0, 1) := by decide +kernel
theorem dX1_chosen_172 : decode cX1_chosen 172 = .ok (.istore 10, 2) := by decide +kernel
theorem dX1_chosen_174 : decode cX1_chosen 174 = .ok (.iload 7, 2) := by decide +kernel
theorem dX1_chosen_176 : decode cX1_chosen 176 = .ok (.ifCond .eq 25, 3) := by decide +kernel
theorem dX1_chosen_179 : decode cX1_chosen 179 = .ok (.iconst 2, 1) := by decide +kernel
theorem dX1_chosen_180 : decode cX1_chosen 180 = .ok (.aload_n 0, 1) := by decide +kernel
theorem dX1_chosen_181 : decode cX1_chosen 181 = .ok (.getfield 19, 3) := by decide +kernel
theorem dX1_chosen_184 : decode cX1_chosen 184 = .ok (.iload 9, 2) := by decide +kernel
theorem dX1_chosen_186 : decode cX1_chosen 186 = .ok (.iaload, 1) := by decide +kernel
theorem dX1_chosen_187 : decode cX1_chosen 187 = .ok (.imul, 1) := by decide +kernel
theorem dX1_chosen_188 : decode cX1_chosen 188 = .ok (.aload_n 0, 1) := by decide +kernel
theorem dX1_chosen_189 : decode cX1_chosen 189 = .ok (.getfield 7, 3) := by decide +kernel
theorem dX1_chosen_192 : decode cX1_chosen 192 = .ok (.iload 9, 2) := by decide +kernel
theorem dX1_chosen_194 : decode cX1_chosen 194 = .ok (.iaload, 1) := by decide +kernel
theorem dX1_chosen_195 : decode cX1_chosen 195 = .ok (.if_icmp .lt 6, 3) := by decide +kernel
theorem dX1_chosen_198 : decode cX1_chosen 198 = .ok (.iconst 0, 1) := by decide +kernel
theorem dX1_chosen_199 : decode cX1_chosen 199 = .ok (.istore 10, 2) := by decide +kernel
theorem dX1_chosen_201 : decode cX1_chosen 201 = .ok (.iload 10, 2) := by decide +kernel
theorem dX1_chosen_203 : decode cX1_chosen 203 = .ok (.ifCond .eq 15, 3) := by decide +kernel
theorem dX1_chosen_206 : decode cX1_chosen 206 = .ok (.iload 8, 2) := by decide +kernel
theorem dX1_chosen_208 : decode cX1_chosen 208 = .ok (.ifCond .ge 10, 3) := by decide +kernel
theorem dX1_chosen_211 : decode cX1_chosen 211 = .ok (.iload 9, 2) := by decide +kernel
theorem dX1_chosen_213 : decode cX1_chosen 213 = .ok (.istore 8, 2) := by decide +kernel
theorem dX1_chosen_215 : decode cX1_chosen 215 = .ok (.goto 27, 3) := by decide +kernel
theorem dX1_chosen_218 : decode cX1_chosen 218 = .ok (.iload 10, 2) := by decide +kernel
theorem dX1_chosen_220 : decode cX1_chosen 220 = .ok (.ifCond .eq 22, 3) := by decide +kernel
theorem dX1_chosen_223 : decode cX1_chosen 223 = .ok (.aload_n 0, 1) := by decide +kernel
theorem dX1_chosen_224 : decode cX1_chosen 224 = .ok (.iload 9, 2) := by decide +kernel
theorem dX1_chosen_226 : decode cX1_chosen 226 = .ok (.iload 8, 2) := by decide +kernel
theorem dX1_chosen_228 : decode cX1_chosen 228 = .ok (.iload 4, 2) := by decide +kernel
theorem dX1_chosen_230 : decode cX1_chosen 230 = .ok (.iload 7, 2) := by decide +kernel
theorem dX1_chosen_232 : decode cX1_chosen 232 = .ok (.invokevirtual 43, 3) := by decide +kernel
theorem dX1_chosen_235 : decode cX1_chosen 235 = .ok (.ifCond .eq 7, 3) := by decide +kernel
theorem dX1_chosen_238 : decode cX1_chosen 238 = .ok (.iload 9, 2) := by decide +kernel
theorem dX1_chosen_240 : decode cX1_chosen 240 = .ok (.istore 8, 2) := by decide +kernel
theorem dX1_chosen_242 : decode cX1_chosen 242 = .ok (.iinc 9 1, 3) := by decide +kernel
theorem dX1_chosen_245 : decode cX1_chosen 245 = .ok (.goto (-122), 3) := by decide +kernel
theorem dX1_chosen_248 : decode cX1_chosen 248 = .ok (.iload 8, 2) := by decide +kernel
theorem dX1_chosen_250 : decode cX1_chosen 250 = .ok (.ireturn, 1) := by decide +kernel
abbrev cX1_openRank : ByteArray := prog_3_method_14_code
def yX1_openRank : MethodName := ⟨RX1, "openRank", "()I"⟩
theorem dX1_openRank_0 : decode cX1_openRank 0 = .ok (.iconst 4, 1) := by decide +kernel
theorem dX1_openRank_1 : decode cX1_openRank 1 = .ok (.istore_n 1, 1) := by decide +kernel
theorem dX1_openRank_2 : decode cX1_openRank 2 = .ok (.iconst 0, 1) := by decide +kernel
theorem dX1_openRank_3 : decode cX1_openRank 3 = .ok (.istore_n 2, 1) := by decide +kernel
theorem dX1_openRank_4 : decode cX1_openRank 4 = .ok (.iload_n 2, 1) := by decide +kernel
theorem dX1_openRank_5 : decode cX1_openRank 5 = .ok (.aload_n 0, 1) := by decide +kernel
theorem dX1_openRank_6 : decode cX1_openRank 6 = .ok (.getfield 22, 3) := by decide +kernel
theorem dX1_openRank_9 : decode cX1_openRank 9 = .ok (.if_icmp .ge 47, 3) := by decide +kernel
theorem dX1_openRank_12 : decode cX1_openRank 12 = .ok (.iload_n 2, 1) := by decide +kernel
theorem dX1_openRank_13 : decode cX1_openRank 13 = .ok (.bipush 8, 2) := by decide +kernel
theorem dX1_openRank_15 : decode cX1_openRank 15 = .ok (.if_icmp .ge 41, 3) := by decide +kernel
theorem dX1_openRank_18 : decode cX1_openRank 18 = .ok (.aload_n 0, 1) := by decide +kernel
theorem dX1_openRank_19 : decode cX1_openRank 19 = .ok (.getfield 19, 3) := by decide +kernel
theorem dX1_openRank_22 : decode cX1_openRank 22 = .ok (.iload_n 2, 1) := by decide +kernel
theorem dX1_openRank_23 : decode cX1_openRank 23 = .ok (.iaload, 1) := by decide +kernel
theorem dX1_openRank_24 : decode cX1_openRank 24 = .ok (.aload_n 0, 1) := by decide +kernel
theorem dX1_openRank_25 : decode cX1_openRank 25 = .ok (.getfield 7, 3) := by decide +kernel
theorem dX1_openRank_28 : decode cX1_openRank 28 = .ok (.iload_n 2, 1) := by decide +kernel
theorem dX1_openRank_29 : decode cX1_openRank 29 = .ok (.iaload, 1) := by decide +kernel
theorem dX1_openRank_30 : decode cX1_openRank 30 = .ok (.if_icmp .ge 20, 3) := by decide +kernel
theorem dX1_openRank_33 : decode cX1_openRank 33 = .ok (.aload_n 0, 1) := by decide +kernel
theorem dX1_openRank_34 : decode cX1_openRank 34 = .ok (.getfield 13, 3) := by decide +kernel
theorem dX1_openRank_37 : decode cX1_openRank 37 = .ok (.iload_n 2, 1) := by decide +kernel
theorem dX1_openRank_38 : decode cX1_openRank 38 = .ok (.iaload, 1) := by decide +kernel
theorem dX1_openRank_39 : decode cX1_openRank 39 = .ok (.iload_n 1, 1) := by decide +kernel
theorem dX1_openRank_40 : decode cX1_openRank 40 = .ok (.if_icmp .ge 10, 3) := by decide +kernel
theorem dX1_openRank_43 : decode cX1_openRank 43 = .ok (.aload_n 0, 1) := by decide +kernel
theorem dX1_openRank_44 : decode cX1_openRank 44 = .ok (.getfield 13, 3) := by decide +kernel
theorem dX1_openRank_47 : decode cX1_openRank 47 = .ok (.iload_n 2, 1) := by decide +kernel
theorem dX1_openRank_48 : decode cX1_openRank 48 = .ok (.iaload, 1) := by decide +kernel
theorem dX1_openRank_49 : decode cX1_openRank 49 = .ok (.istore_n 1, 1) := by decide +kernel
theorem dX1_openRank_50 : decode cX1_openRank 50 = .ok (.iinc 2 1, 3) := by decide +kernel
theorem dX1_openRank_53 : decode cX1_openRank 53 = .ok (.goto (-49), 3) := by decide +kernel
theorem dX1_openRank_56 : decode cX1_openRank 56 = .ok (.iload_n 1, 1) := by decide +kernel
theorem dX1_openRank_57 : decode cX1_openRank 57 = .ok (.ireturn, 1) := by decide +kernel
abbrev cX1_before : ByteArray := prog_3_method_13_code
def yX1_before : MethodName := ⟨RX1, "before", "(IIIZ)Z"⟩
theorem dX1_before_0 : decode cX1_before 0 = .ok (.iload_n 3, 1) := by decide +kernel
theorem dX1_before_1 : decode cX1_before 1 = .ok (.ifCond .eq 8, 3) := by decide +kernel
theorem dX1_before_4 : decode cX1_before 4 = .ok (.iload 4, 2) := by decide +kernel
theorem dX1_before_6 : decode cX1_before 6 = .ok (.ifCond .eq 24, 3) := by decide +kernel
theorem dX1_before_9 : decode cX1_before 9 = .ok (.aload_n 0, 1) := by decide +kernel
theorem dX1_before_10 : decode cX1_before 10 = .ok (.getfield 19, 3) := by decide +kernel
theorem dX1_before_13 : decode cX1_before 13 = .ok (.iload_n 1, 1) := by decide +kernel
theorem dX1_before_14 : decode cX1_before 14 = .ok (.iaload, 1) := by decide +kernel
theorem dX1_before_15 : decode cX1_before 15 = .ok (.aload_n 0, 1) := by decide +kernel
theorem dX1_before_16 : decode cX1_before 16 = .ok (.getfield 19, 3) := by decide +kernel
theorem dX1_before_19 : decode cX1_before 19 = .ok (.iload_n 2, 1) := by decide +kernel
theorem dX1_before_20 : decode cX1_before 20 = .ok (.iaload, 1) := by decide +kernel
theorem dX1_before_21 : decode cX1_before 21 = .ok (.if_icmp .ge 7, 3) := by decide +kernel
theorem dX1_before_24 : decode cX1_before 24 = .ok (.iconst 1, 1) := by decide +kernel
theorem dX1_before_25 : decode cX1_before 25 = .ok (.goto 4, 3) := by decide +kernel
theorem dX1_before_28 : decode cX1_before 28 = .ok (.iconst 0, 1) := by decide +kernel
theorem dX1_before_29 : decode cX1_before 29 = .ok (.ireturn, 1) := by decide +kernel
theorem dX1_before_30 : decode cX1_before 30 = .ok (.iload_n 3, 1) := by decide +kernel
theorem dX1_before_31 : decode cX1_before 31 = .ok (.iconst 2, 1) := by decide +kernel
theorem dX1_before_32 : decode cX1_before 32 = .ok (.if_icmp .ne 42, 3) := by decide +kernel
theorem dX1_before_35 : decode cX1_before 35 = .ok (.aload_n 0, 1) := by decide +kernel
theorem dX1_before_36 : decode cX1_before 36 = .ok (.getfield 7, 3) := by decide +kernel
theorem dX1_before_39 : decode cX1_before 39 = .ok (.iload_n 1, 1) := by decide +kernel
theorem dX1_before_40 : decode cX1_before 40 = .ok (.iaload, 1) := by decide +kernel
theorem dX1_before_41 : decode cX1_before 41 = .ok (.aload_n 0, 1) := by decide +kernel
theorem dX1_before_42 : decode cX1_before 42 = .ok (.getfield 19, 3) := by decide +kernel
theorem dX1_before_45 : decode cX1_before 45 = .ok (.iload_n 2, 1) := by decide +kernel
theorem dX1_before_46 : decode cX1_before 46 = .ok (.iaload, 1) := by decide +kernel
theorem dX1_before_47 : decode cX1_before 47 = .ok (.iconst 1, 1) := by decide +kernel
theorem dX1_before_48 : decode cX1_before 48 = .ok (.iadd, 1) := by decide +kernel
theorem dX1_before_49 : decode cX1_before 49 = .ok (.imul, 1) := by decide +kernel
theorem dX1_before_50 : decode cX1_before 50 = .ok (.aload_n 0, 1) := by decide +kernel
theorem dX1_before_51 : decode cX1_before 51 = .ok (.getfield 7, 3) := by decide +kernel
theorem dX1_before_54 : decode cX1_before 54 = .ok (.iload_n 2, 1) := by decide +kernel
theorem dX1_before_55 : decode cX1_before 55 = .ok (.iaload, 1) := by decide +kernel
theorem dX1_before_56 : decode cX1_before 56 = .ok (.aload_n 0, 1) := by decide +kernel
theorem dX1_before_57 : decode cX1_before 57 = .ok (.getfield 19, 3) := by decide +kernel
theorem dX1_before_60 : decode cX1_before 60 = .ok (.iload_n 1, 1) := by decide +kernel
theorem dX1_before_61 : decode cX1_before 61 = .ok (.iaload, 1) := by decide +kernel
theorem dX1_before_62 : decode cX1_before 62 = .ok (.iconst 1, 1) := by decide +kernel
theorem dX1_before_63 : decode cX1_before 63 = .ok (.iadd, 1) := by decide +kernel
theorem dX1_before_64 : decode cX1_before 64 = .ok (.imul, 1) := by decide +kernel
theorem dX1_before_65 : decode cX1_before 65 = .ok (.if_icmp .le 7, 3) := by decide +kernel
theorem dX1_before_68 : decode cX1_before 68 = .ok (.iconst 1, 1) := by decide +kernel
theorem dX1_before_69 : decode cX1_before 69 = .ok (.goto 4, 3) := by decide +kernel
theorem dX1_before_72 : decode cX1_before 72 = .ok (.iconst 0, 1) := by decide +kernel
theorem dX1_before_73 : decode cX1_before 73 = .ok (.ireturn, 1) := by decide +kernel
theorem dX1_before_74 : decode cX1_before 74 = .ok (.aload_n 0, 1) := by decide +kernel
theorem dX1_before_75 : decode cX1_before 75 = .ok (.getfield 7, 3) := by decide +kernel
theorem dX1_before_78 : decode cX1_before 78 = .ok (.iload_n 1, 1) := by decide +kernel
theorem dX1_before_79 : decode cX1_before 79 = .ok (.iaload, 1) := by decide +kernel
theorem dX1_before_80 : decode cX1_before 80 = .ok (.aload_n 0, 1) := by decide +kernel
theorem dX1_before_81 : decode cX1_before 81 = .ok (.getfield 19, 3) := by decide +kernel
theorem dX1_before_84 : decode cX1_before 84 = .ok (.iload_n 1, 1) := by decide +kernel
theorem dX1_before_85 : decode cX1_before 85 = .ok (.iaload, 1) := by decide +kernel
theorem dX1_before_86 : decode cX1_before 86 = .ok (.isub, 1) := by decide +kernel
theorem dX1_before_87 : decode cX1_before 87 = .ok (.aload_n 0, 1) := by decide +kernel
theorem dX1_before_88 : decode cX1_before 88 = .ok (.getfield 7, 3) := by decide +kernel
theorem dX1_before_91 : decode cX1_before 91 = .ok (.iload_n 2, 1) := by decide +kernel
theorem dX1_before_92 : decode cX1_before 92 = .ok (.iaload, 1) := by decide +kernel
theorem dX1_before_93 : decode cX1_before 93 = .ok (.aload_n 0, 1) := by decide +kernel
theorem dX1_before_94 : decode cX1_before 94 = .ok (.getfield 19, 3) := by decide +kernel
theorem dX1_before_97 : decode cX1_before 97 = .ok (.iload_n 2, 1) := by decide +kernel
theorem dX1_before_98 : decode cX1_before 98 = .ok (.iaload, 1) := by decide +kernel
theorem dX1_before_99 : decode cX1_before 99 = .ok (.isub, 1) := by decide +kernel
theorem dX1_before_100 : decode cX1_before 100 = .ok (.if_icmp .le 7, 3) := by decide +kernel
theorem dX1_before_103 : decode cX1_before 103 = .ok (.iconst 1, 1) := by decide +kernel
theorem dX1_before_104 : decode cX1_before 104 = .ok (.goto 4, 3) := by decide +kernel
theorem dX1_before_107 : decode cX1_before 107 = .ok (.iconst 0, 1) := by decide +kernel
theorem dX1_before_108 : decode cX1_before 108 = .ok (.ireturn, 1) := by decide +kernel
abbrev cX1_shareOf : ByteArray := prog_3_method_18_code
def yX1_shareOf : MethodName := ⟨RX1, "shareOf", "(II)I"⟩
theorem dX1_shareOf_0 : decode cX1_shareOf 0 = .ok (.aload_n 0, 1) := by decide +kernel
theorem dX1_shareOf_1 : decode cX1_shareOf 1 = .ok (.iload_n 1, 1) := by decide +kernel
theorem dX1_shareOf_2 : decode cX1_shareOf 2 = .ok (.invokevirtual 33, 3) := by decide +kernel
theorem dX1_shareOf_5 : decode cX1_shareOf 5 = .ok (.ifCond .eq 5, 3) := by decide +kernel
theorem dX1_shareOf_8 : decode cX1_shareOf 8 = .ok (.iconst (-1), 1) := by decide +kernel
theorem dX1_shareOf_9 : decode cX1_shareOf 9 = .ok (.ireturn, 1) := by decide +kernel
theorem dX1_shareOf_10 : decode cX1_shareOf 10 = .ok (.iload_n 2, 1) := by decide +kernel
theorem dX1_shareOf_11 : decode cX1_shareOf 11 = .ok (.ifCond .lt 10, 3) := by decide +kernel
theorem dX1_shareOf_14 : decode cX1_shareOf 14 = .ok (.iload_n 2, 1) := by decide +kernel
theorem dX1_shareOf_15 : decode cX1_shareOf 15 = .ok (.sipush 1500, 3) := by decide +kernel
theorem dX1_shareOf_18 : decode cX1_shareOf 18 = .ok (.if_icmp .le 6, 3) := by decide +kernel
theorem dX1_shareOf_21 : decode cX1_shareOf 21 = .ok (.bipush (-2), 2) := by decide +kernel
theorem dX1_shareOf_23 : decode cX1_shareOf 23 = .ok (.ireturn, 1) := by decide +kernel
theorem dX1_shareOf_24 : decode cX1_shareOf 24 = .ok (.aload_n 0, 1) := by decide +kernel
theorem dX1_shareOf_25 : decode cX1_shareOf 25 = .ok (.iload_n 2, 1) := by decide +kernel
theorem dX1_shareOf_26 : decode cX1_shareOf 26 = .ok (.iconst (-1), 1) := by decide +kernel
theorem dX1_shareOf_27 : decode cX1_shareOf 27 = .ok (.iconst 0, 1) := by decide +kernel
theorem dX1_shareOf_28 : decode cX1_shareOf 28 = .ok (.invokevirtual 51, 3) := by decide +kernel
theorem dX1_shareOf_31 : decode cX1_shareOf 31 = .ok (.pop, 1) := by decide +kernel
theorem dX1_shareOf_32 : decode cX1_shareOf 32 = .ok (.aload_n 0, 1) := by decide +kernel
theorem dX1_shareOf_33 : decode cX1_shareOf 33 = .ok (.getfield 19, 3) := by decide +kernel
theorem dX1_shareOf_36 : decode cX1_shareOf 36 = .ok (.iload_n 1, 1) := by decide +kernel
theorem dX1_shareOf_37 : decode cX1_shareOf 37 = .ok (.iaload, 1) := by decide +kernel
theorem dX1_shareOf_38 : decode cX1_shareOf 38 = .ok (.ireturn, 1) := by decide +kernel
abbrev cX1_shareUnder : ByteArray := prog_3_method_19_code
def yX1_shareUnder : MethodName := ⟨RX1, "shareUnder", "(II)I"⟩
theorem dX1_shareUnder_0 : decode cX1_shareUnder 0 = .ok (.aload_n 0, 1) := by decide +kernel
theorem dX1_shareUnder_1 : decode cX1_shareUnder 1 = .ok (.iload_n 1, 1) := by decide +kernel
theorem dX1_shareUnder_2 : decode cX1_shareUnder 2 = .ok (.invokevirtual 33, 3) := by decide +kernel
theorem dX1_shareUnder_5 : decode cX1_shareUnder 5 = .ok (.ifCond .eq 5, 3) := by decide +kernel
theorem dX1_shareUnder_8 : decode cX1_shareUnder 8 = .ok (.iconst (-1), 1) := by decide +kernel
theorem dX1_shareUnder_9 : decode cX1_shareUnder 9 = .ok (.ireturn, 1) := by decide +kernel
theorem dX1_shareUnder_10 : decode cX1_shareUnder 10 = .ok (.iload_n 2, 1) := by decide +kernel
theorem dX1_shareUnder_11 : decode cX1_shareUnder 11 = .ok (.ifCond .lt 8, 3) := by decide +kernel
theorem dX1_shareUnder_14 : decode cX1_shareUnder 14 = .ok (.iload_n 2, 1) := by decide +kernel
theorem dX1_shareUnder_15 : decode cX1_shareUnder 15 = .ok (.iconst 3, 1) := by decide +kernel
theorem dX1_shareUnder_16 : decode cX1_shareUnder 16 = .ok (.if_icmp .le 6, 3) := by decide +kernel
theorem dX1_shareUnder_19 : decode cX1_shareUnder 19 = .ok (.bipush (-2), 2) := by decide +kernel
theorem dX1_shareUnder_21 : decode cX1_shareUnder 21 = .ok (.ireturn, 1) := by decide +kernel
theorem dX1_shareUnder_22 : decode cX1_shareUnder 22 = .ok (.aload_n 0, 1) := by decide +kernel
theorem dX1_shareUnder_23 : decode cX1_shareUnder 23 = .ok (.aload_n 0, 1) := by decide +kernel
theorem dX1_shareUnder_24 : decode cX1_shareUnder 24 = .ok (.getfield 36, 3) := by decide +kernel
theorem dX1_shareUnder_27 : decode cX1_shareUnder 27 = .ok (.aload_n 0, 1) := by decide +kernel
theorem dX1_shareUnder_28 : decode cX1_shareUnder 28 = .ok (.getfield 13, 3) := by decide +kernel
theorem dX1_shareUnder_31 : decode cX1_shareUnder 31 = .ok (.iload_n 1, 1) := by decide +kernel
theorem dX1_shareUnder_32 : decode cX1_shareUnder 32 = .ok (.iaload, 1) := by decide +kernel
theorem dX1_shareUnder_33 : decode cX1_shareUnder 33 = .ok (.iload_n 2, 1) := by decide +kernel
theorem dX1_shareUnder_34 : decode cX1_shareUnder 34 = .ok (.invokevirtual 51, 3) := by decide +kernel
theorem dX1_shareUnder_37 : decode cX1_shareUnder 37 = .ok (.pop, 1) := by decide +kernel
theorem dX1_shareUnder_38 : decode cX1_shareUnder 38 = .ok (.aload_n 0, 1) := by decide +kernel
theorem dX1_shareUnder_39 : decode cX1_shareUnder 39 = .ok (.getfield 19, 3) := by decide +kernel
theorem dX1_shareUnder_42 : decode cX1_shareUnder 42 = .ok (.iload_n 1, 1) := by decide +kernel
theorem dX1_shareUnder_43 : decode cX1_shareUnder 43 = .ok (.iaload, 1) := by decide +kernel
theorem dX1_shareUnder_44 : decode cX1_shareUnder 44 = .ok (.ireturn, 1) := by decide +kernel
abbrev cX1_leastEstate : ByteArray := prog_3_method_20_code
def yX1_leastEstate : MethodName := ⟨RX1, "leastEstate", "(II)I"⟩
theorem dX1_leastEstate_0 : decode cX1_leastEstate 0 = .ok (.aload_n 0, 1) := by decide +kernel
theorem dX1_leastEstate_1 : decode cX1_leastEstate 1 = .ok (.iload_n 1, 1) := by decide +kernel
theorem dX1_leastEstate_2 : decode cX1_leastEstate 2 = .ok (.invokevirtual 33, 3) := by decide +kernel
theorem dX1_leastEstate_5 : decode cX1_leastEstate 5 = .ok (.ifCond .eq 5, 3) := by decide +kernel
theorem dX1_leastEstate_8 : decode cX1_leastEstate 8 = .ok (.iconst (-1), 1) := by decide +kernel
theorem dX1_leastEstate_9 : decode cX1_leastEstate 9 = .ok (.ireturn, 1) := by decide +kernel
theorem dX1_leastEstate_10 : decode cX1_leastEstate 10 = .ok (.aload_n 0, 1) := by decide +kernel
theorem dX1_leastEstate_11 : decode cX1_leastEstate 11 = .ok (.iload_n 2, 1) := by decide +kernel
theorem dX1_leastEstate_12 : decode cX1_leastEstate 12 = .ok (.invokevirtual 26, 3) := by decide +kernel
theorem dX1_leastEstate_15 : decode cX1_leastEstate 15 = .ok (.ifCond .eq 6, 3) := by decide +kernel
theorem dX1_leastEstate_18 : decode cX1_leastEstate 18 = .ok (.bipush (-2), 2) := by decide +kernel
theorem dX1_leastEstate_20 : decode cX1_leastEstate 20 = .ok (.ireturn, 1) := by decide +kernel
theorem dX1_leastEstate_21 : decode cX1_leastEstate 21 = .ok (.aload_n 0, 1) := by decide +kernel
theorem dX1_leastEstate_22 : decode cX1_leastEstate 22 = .ok (.iconst 0, 1) := by decide +kernel
theorem dX1_leastEstate_23 : decode cX1_leastEstate 23 = .ok (.iconst (-1), 1) := by decide +kernel
theorem dX1_leastEstate_24 : decode cX1_leastEstate 24 = .ok (.iconst 0, 1) := by decide +kernel
theorem dX1_leastEstate_25 : decode cX1_leastEstate 25 = .ok (.invokevirtual 51, 3) := by decide +kernel
theorem dX1_leastEstate_28 : decode cX1_leastEstate 28 = .ok (.pop, 1) := by decide +kernel
theorem dX1_leastEstate_29 : decode cX1_leastEstate 29 = .ok (.iconst 0, 1) := by decide +kernel
theorem dX1_leastEstate_30 : decode cX1_leastEstate 30 = .ok (.istore_n 3, 1) := by decide +kernel
theorem dX1_leastEstate_31 : decode cX1_leastEstate 31 = .ok (.iload_n 3, 1) := by decide +kernel
theorem dX1_leastEstate_32 : decode cX1_leastEstate 32 = .ok (.sipush 1500, 3) := by decide +kernel
theorem dX1_leastEstate_35 : decode cX1_leastEstate 35 = .ok (.if_icmp .gt 48, 3) := by decide +kernel
theorem dX1_leastEstate_38 : decode cX1_leastEstate 38 = .ok (.aload_n 0, 1) := by decide +kernel
theorem dX1_leastEstate_39 : decode cX1_leastEstate 39 = .ok (.getfield 19, 3) := by decide +kernel
theorem dX1_leastEstate_42 : decode cX1_leastEstate 42 = .ok (.iload_n 1, 1) := by decide +kernel
theorem dX1_leastEstate_43 : decode cX1_leastEstate 43 = .ok (.iaload, 1) := by decide +kernel
theorem dX1_leastEstate_44 : decode cX1_leastEstate 44 = .ok (.iload_n 2, 1) := by decide +kernel
theorem dX1_leastEstate_45 : decode cX1_leastEstate 45 = .ok (.if_icmp .lt 5, 3) := by decide +kernel
theorem dX1_leastEstate_48 : decode cX1_leastEstate 48 = .ok (.iload_n 3, 1) := by decide +kernel
theorem dX1_leastEstate_49 : decode cX1_leastEstate 49 = .ok (.ireturn, 1) := by decide +kernel
theorem dX1_leastEstate_50 : decode cX1_leastEstate 50 = .ok (.aload_n 0, 1) := by decide +kernel
theorem dX1_leastEstate_51 : decode cX1_leastEstate 51 = .ok (.iconst (-1), 1) := by decide +kernel
theorem dX1_leastEstate_52 : decode cX1_leastEstate 52 = .ok (.iconst 0, 1) := by decide +kernel
theorem dX1_leastEstate_53 : decode cX1_leastEstate 53 = .ok (.invokevirtual 47, 3) := by decide +kernel
theorem dX1_leastEstate_56 : decode cX1_leastEstate 56 = .ok (.istore 4, 2) := by decide +kernel
theorem dX1_leastEstate_58 : decode cX1_leastEstate 58 = .ok (.iload 4, 2) := by decide +kernel
theorem dX1_leastEstate_60 : decode cX1_leastEstate 60 = .ok (.ifCond .ge 6, 3) := by decide +kernel
theorem dX1_leastEstate_63 : decode cX1_leastEstate 63 = .ok (.bipush (-3), 2) := by decide +kernel
theorem dX1_leastEstate_65 : decode cX1_leastEstate 65 = .ok (.ireturn, 1) := by decide +kernel
theorem dX1_leastEstate_66 : decode cX1_leastEstate 66 = .ok (.aload_n 0, 1) := by decide +kernel
theorem dX1_leastEstate_67 : decode cX1_leastEstate 67 = .ok (.getfield 19, 3) := by decide +kernel
theorem dX1_leastEstate_70 : decode cX1_leastEstate 70 = .ok (.iload 4, 2) := by decide +kernel
theorem dX1_leastEstate_72 : decode cX1_leastEstate 72 = .ok (.dup2, 1) := by decide +kernel
theorem dX1_leastEstate_73 : decode cX1_leastEstate 73 = .ok (.iaload, 1) := by decide +kernel
theorem dX1_leastEstate_74 : decode cX1_leastEstate 74 = .ok (.iconst 1, 1) := by decide +kernel
theorem dX1_leastEstate_75 : decode cX1_leastEstate 75 = .ok (.iadd, 1) := by decide +kernel
theorem dX1_leastEstate_76 : decode cX1_leastEstate 76 = .ok (.iastore, 1) := by decide +kernel
theorem dX1_leastEstate_77 : decode cX1_leastEstate 77 = .ok (.iinc 3 1, 3) := by decide +kernel
theorem dX1_leastEstate_80 : decode cX1_leastEstate 80 = .ok (.goto (-49), 3) := by decide +kernel
theorem dX1_leastEstate_83 : decode cX1_leastEstate 83 = .ok (.bipush (-3), 2) := by decide +kernel
theorem dX1_leastEstate_85 : decode cX1_leastEstate 85 = .ok (.ireturn, 1) := by decide +kernel
abbrev cX1_claims : ByteArray := prog_3_method_21_code
def yX1_claims : MethodName := ⟨RX1, "claims", "(I)I"⟩
theorem dX1_claims_0 : decode cX1_claims 0 = .ok (.aload_n 0, 1) := by decide +kernel
theorem dX1_claims_1 : decode cX1_claims 1 = .ok (.iload_n 1, 1) := by decide +kernel
theorem dX1_claims_2 : decode cX1_claims 2 = .ok (.invokevirtual 30, 3) := by decide +kernel
theorem dX1_claims_5 : decode cX1_claims 5 = .ok (.ifCond .eq 5, 3) := by decide +kernel
theorem dX1_claims_8 : decode cX1_claims 8 = .ok (.iconst (-1), 1) := by decide +kernel
theorem dX1_claims_9 : decode cX1_claims 9 = .ok (.ireturn, 1) := by decide +kernel
theorem dX1_claims_10 : decode cX1_claims 10 = .ok (.iconst 0, 1) := by decide +kernel
theorem dX1_claims_11 : decode cX1_claims 11 = .ok (.istore_n 2, 1) := by decide +kernel
theorem dX1_claims_12 : decode cX1_claims 12 = .ok (.iconst 0, 1) := by decide +kernel
theorem dX1_claims_13 : decode cX1_claims 13 = .ok (.istore_n 3, 1) := by decide +kernel
theorem dX1_claims_14 : decode cX1_claims 14 = .ok (.iload_n 3, 1) := by decide +kernel
theorem dX1_claims_15 : decode cX1_claims 15 = .ok (.aload_n 0, 1) := by decide +kernel
theorem dX1_claims_16 : decode cX1_claims 16 = .ok (.getfield 22, 3) := by decide +kernel
theorem dX1_claims_19 : decode cX1_claims 19 = .ok (.if_icmp .ge 28, 3) := by decide +kernel
theorem dX1_claims_22 : decode cX1_claims 22 = .ok (.aload_n 0, 1) := by decide +kernel
theorem dX1_claims_23 : decode cX1_claims 23 = .ok (.getfield 13, 3) := by decide +kernel
theorem dX1_claims_26 : decode cX1_claims 26 = .ok (.iload_n 3, 1) := by decide +kernel
theorem dX1_claims_27 : decode cX1_claims 27 = .ok (.iaload, 1) := by decide +kernel
theorem dX1_claims_28 : decode cX1_claims 28 = .ok (.iload_n 1, 1) := by decide +kernel
theorem dX1_claims_29 : decode cX1_claims 29 = .ok (.if_icmp .ne 12, 3) := by decide +kernel
theorem dX1_claims_32 : decode cX1_claims 32 = .ok (.iload_n 2, 1) := by decide +kernel
theorem dX1_claims_33 : decode cX1_claims 33 = .ok (.aload_n 0, 1) := by decide +kernel
theorem dX1_claims_34 : decode cX1_claims 34 = .ok (.getfield 7, 3) := by decide +kernel
theorem dX1_claims_37 : decode cX1_claims 37 = .ok (.iload_n 3, 1) := by decide +kernel
theorem dX1_claims_38 : decode cX1_claims 38 = .ok (.iaload, 1) := by decide +kernel
theorem dX1_claims_39 : decode cX1_claims 39 = .ok (.iadd, 1) := by decide +kernel
theorem dX1_claims_40 : decode cX1_claims 40 = .ok (.istore_n 2, 1) := by decide +kernel
theorem dX1_claims_41 : decode cX1_claims 41 = .ok (.iinc 3 1, 3) := by decide +kernel
theorem dX1_claims_44 : decode cX1_claims 44 = .ok (.goto (-30), 3) := by decide +kernel
theorem dX1_claims_47 : decode cX1_claims 47 = .ok (.iload_n 2, 1) := by decide +kernel
theorem dX1_claims_48 : decode cX1_claims 48 = .ok (.ireturn, 1) := by decide +kernel
abbrev cX1_paid : ByteArray := prog_3_method_22_code
def yX1_paid : MethodName := ⟨RX1, "paid", "(I)I"⟩
theorem dX1_paid_0 : decode cX1_paid 0 = .ok (.aload_n 0, 1) := by decide +kernel
theorem dX1_paid_1 : decode cX1_paid 1 = .ok (.iload_n 1, 1) := by decide +kernel
theorem dX1_paid_2 : decode cX1_paid 2 = .ok (.invokevirtual 30, 3) := by decide +kernel
theorem dX1_paid_5 : decode cX1_paid 5 = .ok (.ifCond .eq 5, 3) := by decide +kernel
theorem dX1_paid_8 : decode cX1_paid 8 = .ok (.iconst (-1), 1) := by decide +kernel
theorem dX1_paid_9 : decode cX1_paid 9 = .ok (.ireturn, 1) := by decide +kernel
theorem dX1_paid_10 : decode cX1_paid 10 = .ok (.aload_n 0, 1) := by decide +kernel
theorem dX1_paid_11 : decode cX1_paid 11 = .ok (.aload_n 0, 1) := by decide +kernel
theorem dX1_paid_12 : decode cX1_paid 12 = .ok (.getfield 36, 3) := by decide +kernel
theorem dX1_paid_15 : decode cX1_paid 15 = .ok (.iconst (-1), 1) := by decide +kernel
theorem dX1_paid_16 : decode cX1_paid 16 = .ok (.iconst 0, 1) := by decide +kernel
theorem dX1_paid_17 : decode cX1_paid 17 = .ok (.invokevirtual 51, 3) := by decide +kernel
theorem dX1_paid_20 : decode cX1_paid 20 = .ok (.pop, 1) := by decide +kernel
theorem dX1_paid_21 : decode cX1_paid 21 = .ok (.iconst 0, 1) := by decide +kernel
theorem dX1_paid_22 : decode cX1_paid 22 = .ok (.istore_n 2, 1) := by decide +kernel
theorem dX1_paid_23 : decode cX1_paid 23 = .ok (.iconst 0, 1) := by decide +kernel
theorem dX1_paid_24 : decode cX1_paid 24 = .ok (.istore_n 3, 1) := by decide +kernel
theorem dX1_paid_25 : decode cX1_paid 25 = .ok (.iload_n 3, 1) := by decide +kernel
theorem dX1_paid_26 : decode cX1_paid 26 = .ok (.aload_n 0, 1) := by decide +kernel
theorem dX1_paid_27 : decode cX1_paid 27 = .ok (.getfield 22, 3) := by decide +kernel
theorem dX1_paid_30 : decode cX1_paid 30 = .ok (.if_icmp .ge 28, 3) := by decide +kernel
theorem dX1_paid_33 : decode cX1_paid 33 = .ok (.aload_n 0, 1) := by decide +kernel
theorem dX1_paid_34 : decode cX1_paid 34 = .ok (.getfield 13, 3) := by decide +kernel
theorem dX1_paid_37 : decode cX1_paid 37 = .ok (.iload_n 3, 1) := by decide +kernel
theorem dX1_paid_38 : decode cX1_paid 38 = .ok (.iaload, 1) := by decide +kernel
theorem dX1_paid_39 : decode cX1_paid 39 = .ok (.iload_n 1, 1) := by decide +kernel
theorem dX1_paid_40 : decode cX1_paid 40 = .ok (.if_icmp .ne 12, 3) := by decide +kernel
theorem dX1_paid_43 : decode cX1_paid 43 = .ok (.iload_n 2, 1) := by decide +kernel
theorem dX1_paid_44 : decode cX1_paid 44 = .ok (.aload_n 0, 1) := by decide +kernel
theorem dX1_paid_45 : decode cX1_paid 45 = .ok (.getfield 19, 3) := by decide +kernel
theorem dX1_paid_48 : decode cX1_paid 48 = .ok (.iload_n 3, 1) := by decide +kernel
theorem dX1_paid_49 : decode cX1_paid 49 = .ok (.iaload, 1) := by decide +kernel
theorem dX1_paid_50 : decode cX1_paid 50 = .ok (.iadd, 1) := by decide +kernel
theorem dX1_paid_51 : decode cX1_paid 51 = .ok (.istore_n 2, 1) := by decide +kernel
theorem dX1_paid_52 : decode cX1_paid 52 = .ok (.iinc 3 1, 3) := by decide +kernel
theorem dX1_paid_55 : decode cX1_paid 55 = .ok (.goto (-30), 3) := by decide +kernel
theorem dX1_paid_58 : decode cX1_paid 58 = .ok (.iload_n 2, 1) := by decide +kernel
theorem dX1_paid_59 : decode cX1_paid 59 = .ok (.ireturn, 1) := by decide +kernel
abbrev cX1_left : ByteArray := prog_3_method_23_code
def yX1_left : MethodName := ⟨RX1, "left", "()I"⟩
theorem dX1_left_0 : decode cX1_left 0 = .ok (.aload_n 0, 1) := by decide +kernel
theorem dX1_left_1 : decode cX1_left 1 = .ok (.aload_n 0, 1) := by decide +kernel
theorem dX1_left_2 : decode cX1_left 2 = .ok (.getfield 36, 3) := by decide +kernel
theorem dX1_left_5 : decode cX1_left 5 = .ok (.iconst (-1), 1) := by decide +kernel
theorem dX1_left_6 : decode cX1_left 6 = .ok (.iconst 0, 1) := by decide +kernel
theorem dX1_left_7 : decode cX1_left 7 = .ok (.invokevirtual 51, 3) := by decide +kernel
theorem dX1_left_10 : decode cX1_left 10 = .ok (.ireturn, 1) := by decide +kernel
abbrev cX1_next : ByteArray := prog_3_method_24_code
def yX1_next : MethodName := ⟨RX1, "next", "()I"⟩
theorem dX1_next_0 : decode cX1_next 0 = .ok (.aload_n 0, 1) := by decide +kernel
theorem dX1_next_1 : decode cX1_next 1 = .ok (.aload_n 0, 1) := by decide +kernel
theorem dX1_next_2 : decode cX1_next 2 = .ok (.getfield 36, 3) := by decide +kernel
theorem dX1_next_5 : decode cX1_next 5 = .ok (.iconst (-1), 1) := by decide +kernel
theorem dX1_next_6 : decode cX1_next 6 = .ok (.iconst 0, 1) := by decide +kernel
theorem dX1_next_7 : decode cX1_next 7 = .ok (.invokevirtual 51, 3) := by decide +kernel
theorem dX1_next_10 : decode cX1_next 10 = .ok (.pop, 1) := by decide +kernel
theorem dX1_next_11 : decode cX1_next 11 = .ok (.aload_n 0, 1) := by decide +kernel
theorem dX1_next_12 : decode cX1_next 12 = .ok (.iconst (-1), 1) := by decide +kernel
theorem dX1_next_13 : decode cX1_next 13 = .ok (.iconst 0, 1) := by decide +kernel
theorem dX1_next_14 : decode cX1_next 14 = .ok (.invokevirtual 47, 3) := by decide +kernel
theorem dX1_next_17 : decode cX1_next 17 = .ok (.ireturn, 1) := by decide +kernel
abbrev cX1_unpaid : ByteArray := prog_3_method_25_code
def yX1_unpaid : MethodName := ⟨RX1, "unpaid", "()I"⟩
theorem dX1_unpaid_0 : decode cX1_unpaid 0 = .ok (.aload_n 0, 1) := by decide +kernel
theorem dX1_unpaid_1 : decode cX1_unpaid 1 = .ok (.aload_n 0, 1) := by decide +kernel
theorem dX1_unpaid_2 : decode cX1_unpaid 2 = .ok (.getfield 36, 3) := by decide +kernel
theorem dX1_unpaid_5 : decode cX1_unpaid 5 = .ok (.iconst (-1), 1) := by decide +kernel
theorem dX1_unpaid_6 : decode cX1_unpaid 6 = .ok (.iconst 0, 1) := by decide +kernel
theorem dX1_unpaid_7 : decode cX1_unpaid 7 = .ok (.invokevirtual 51, 3) := by decide +kernel
theorem dX1_unpaid_10 : decode cX1_unpaid 10 = .ok (.pop, 1) := by decide +kernel
theorem dX1_unpaid_11 : decode cX1_unpaid 11 = .ok (.iconst 0, 1) := by decide +kernel
theorem dX1_unpaid_12 : decode cX1_unpaid 12 = .ok (.istore_n 1, 1) := by decide +kernel
theorem dX1_unpaid_13 : decode cX1_unpaid 13 = .ok (.iconst 0, 1) := by decide +kernel
theorem dX1_unpaid_14 : decode cX1_unpaid 14 = .ok (.istore_n 2, 1) := by decide +kernel
theorem dX1_unpaid_15 : decode cX1_unpaid 15 = .ok (.iload_n 2, 1) := by decide +kernel
theorem dX1_unpaid_16 : decode cX1_unpaid 16 = .ok (.aload_n 0, 1) := by decide +kernel
theorem dX1_unpaid_17 : decode cX1_unpaid 17 = .ok (.getfield 22, 3) := by decide +kernel
theorem dX1_unpaid_20 : decode cX1_unpaid 20 = .ok (.if_icmp .ge 27, 3) := by decide +kernel
theorem dX1_unpaid_23 : decode cX1_unpaid 23 = .ok (.aload_n 0, 1) := by decide +kernel
theorem dX1_unpaid_24 : decode cX1_unpaid 24 = .ok (.getfield 19, 3) := by decide +kernel
theorem dX1_unpaid_27 : decode cX1_unpaid 27 = .ok (.iload_n 2, 1) := by decide +kernel
theorem dX1_unpaid_28 : decode cX1_unpaid 28 = .ok (.iaload, 1) := by decide +kernel
theorem dX1_unpaid_29 : decode cX1_unpaid 29 = .ok (.aload_n 0, 1) := by decide +kernel
theorem dX1_unpaid_30 : decode cX1_unpaid 30 = .ok (.getfield 7, 3) := by decide +kernel
theorem dX1_unpaid_33 : decode cX1_unpaid 33 = .ok (.iload_n 2, 1) := by decide +kernel
theorem dX1_unpaid_34 : decode cX1_unpaid 34 = .ok (.iaload, 1) := by decide +kernel
theorem dX1_unpaid_35 : decode cX1_unpaid 35 = .ok (.if_icmp .ge 6, 3) := by decide +kernel
theorem dX1_unpaid_38 : decode cX1_unpaid 38 = .ok (.iinc 1 1, 3) := by decide +kernel
theorem dX1_unpaid_41 : decode cX1_unpaid 41 = .ok (.iinc 2 1, 3) := by decide +kernel
theorem dX1_unpaid_44 : decode cX1_unpaid 44 = .ok (.goto (-29), 3) := by decide +kernel
theorem dX1_unpaid_47 : decode cX1_unpaid 47 = .ok (.iload_n 1, 1) := by decide +kernel
theorem dX1_unpaid_48 : decode cX1_unpaid 48 = .ok (.ireturn, 1) := by decide +kernel
abbrev cX1_worst : ByteArray := prog_3_method_26_code
def yX1_worst : MethodName := ⟨RX1, "worst", "()I"⟩
theorem dX1_worst_0 : decode cX1_worst 0 = .ok (.aload_n 0, 1) := by decide +kernel
theorem dX1_worst_1 : decode cX1_worst 1 = .ok (.aload_n 0, 1) := by decide +kernel
theorem dX1_worst_2 : decode cX1_worst 2 = .ok (.getfield 36, 3) := by decide +kernel
theorem dX1_worst_5 : decode cX1_worst 5 = .ok (.iconst (-1), 1) := by decide +kernel
theorem dX1_worst_6 : decode cX1_worst 6 = .ok (.iconst 0, 1) := by decide +kernel
theorem dX1_worst_7 : decode cX1_worst 7 = .ok (.invokevirtual 51, 3) := by decide +kernel
theorem dX1_worst_10 : decode cX1_worst 10 = .ok (.pop, 1) := by decide +kernel
theorem dX1_worst_11 : decode cX1_worst 11 = .ok (.iconst 0, 1) := by decide +kernel
theorem dX1_worst_12 : decode cX1_worst 12 = .ok (.istore_n 1, 1) := by decide +kernel
theorem dX1_worst_13 : decode cX1_worst 13 = .ok (.iconst 0, 1) := by decide +kernel
theorem dX1_worst_14 : decode cX1_worst 14 = .ok (.istore_n 2, 1) := by decide +kernel
theorem dX1_worst_15 : decode cX1_worst 15 = .ok (.iload_n 2, 1) := by decide +kernel
theorem dX1_worst_16 : decode cX1_worst 16 = .ok (.aload_n 0, 1) := by decide +kernel
theorem dX1_worst_17 : decode cX1_worst 17 = .ok (.getfield 22, 3) := by decide +kernel
theorem dX1_worst_20 : decode cX1_worst 20 = .ok (.if_icmp .ge 40, 3) := by decide +kernel
theorem dX1_worst_23 : decode cX1_worst 23 = .ok (.aload_n 0, 1) := by decide +kernel
theorem dX1_worst_24 : decode cX1_worst 24 = .ok (.getfield 7, 3) := by decide +kernel
theorem dX1_worst_27 : decode cX1_worst 27 = .ok (.iload_n 2, 1) := by decide +kernel
theorem dX1_worst_28 : decode cX1_worst 28 = .ok (.iaload, 1) := by decide +kernel
theorem dX1_worst_29 : decode cX1_worst 29 = .ok (.aload_n 0, 1) := by decide +kernel
theorem dX1_worst_30 : decode cX1_worst 30 = .ok (.getfield 19, 3) := by decide +kernel
theorem dX1_worst_33 : decode cX1_worst 33 = .ok (.iload_n 2, 1) := by decide +kernel
theorem dX1_worst_34 : decode cX1_worst 34 = .ok (.iaload, 1) := by decide +kernel
theorem dX1_worst_35 : decode cX1_worst 35 = .ok (.isub, 1) := by decide +kernel
theorem dX1_worst_36 : decode cX1_worst 36 = .ok (.iload_n 1, 1) := by decide +kernel
theorem dX1_worst_37 : decode cX1_worst 37 = .ok (.if_icmp .le 17, 3) := by decide +kernel
theorem dX1_worst_40 : decode cX1_worst 40 = .ok (.aload_n 0, 1) := by decide +kernel
theorem dX1_worst_41 : decode cX1_worst 41 = .ok (.getfield 7, 3) := by decide +kernel
theorem dX1_worst_44 : decode cX1_worst 44 = .ok (.iload_n 2, 1) := by decide +kernel
theorem dX1_worst_45 : decode cX1_worst 45 = .ok (.iaload, 1) := by decide +kernel
theorem dX1_worst_46 : decode cX1_worst 46 = .ok (.aload_n 0, 1) := by decide +kernel
theorem dX1_worst_47 : decode cX1_worst 47 = .ok (.getfield 19, 3) := by decide +kernel
theorem dX1_worst_50 : decode cX1_worst 50 = .ok (.iload_n 2, 1) := by decide +kernel
theorem dX1_worst_51 : decode cX1_worst 51 = .ok (.iaload, 1) := by decide +kernel
theorem dX1_worst_52 : decode cX1_worst 52 = .ok (.isub, 1) := by decide +kernel
theorem dX1_worst_53 : decode cX1_worst 53 = .ok (.istore_n 1, 1) := by decide +kernel
theorem dX1_worst_54 : decode cX1_worst 54 = .ok (.iinc 2 1, 3) := by decide +kernel
theorem dX1_worst_57 : decode cX1_worst 57 = .ok (.goto (-42), 3) := by decide +kernel
theorem dX1_worst_60 : decode cX1_worst 60 = .ok (.iload_n 1, 1) := by decide +kernel
theorem dX1_worst_61 : decode cX1_worst 61 = .ok (.ireturn, 1) := by decide +kernel
theorem q20 : (Jvm.Cond.initialized "InsolvencyPoolModel") ∈ lw_all := lw_g (lw_at lw_m1 2 rfl) rfl
theorem q181 : (Jvm.Cond.instantiable "InsolvencyPoolModel" (6 : Nat)) ∈ lw_all := lw_g (lw_at lw_m1 163 rfl) rfl
theorem q183 : (Jvm.Cond.instanceMethod ({ cls := "InsolvencyPoolModel", name := "<init>", desc := "()V" } : Jvm.MethodName)) ∈ lw_all := lw_g (lw_at lw_m1 165 rfl) rfl
theorem q184 : (Jvm.Cond.code ({ cls := "InsolvencyPoolModel", name := "<init>", desc := "()V" } : Jvm.MethodName) prog_3_method_1_code (1 : Nat) (Option.none : Option Jvm.ClassFile.FieldType)) ∈ lw_all := lw_g (lw_at lw_m1 166 rfl) rfl
theorem q185 : (Jvm.Cond.methodLink "InsolvencyPoolModel" (1 : Nat) ({ cls := "java/lang/Object", name := "<init>", desc := "()V" } : Jvm.MethodName)) ∈ lw_all := lw_g (lw_at lw_m1 167 rfl) rfl
theorem q186 : (Jvm.Cond.fieldLink "InsolvencyPoolModel" (22 : Nat) "InsolvencyPoolModel" "count" "I") ∈ lw_all := lw_g (lw_at lw_m1 168 rfl) rfl
theorem q187 : (Jvm.Cond.fieldLink "InsolvencyPoolModel" (7 : Nat) "InsolvencyPoolModel" "claim" "[I") ∈ lw_all := lw_g (lw_at lw_m1 169 rfl) rfl
theorem q188 : (Jvm.Cond.fieldLink "InsolvencyPoolModel" (13 : Nat) "InsolvencyPoolModel" "rank" "[I") ∈ lw_all := lw_g (lw_at lw_m1 170 rfl) rfl
theorem q189 : (Jvm.Cond.fieldLink "InsolvencyPoolModel" (16 : Nat) "InsolvencyPoolModel" "rules" "[I") ∈ lw_all := lw_g (lw_at lw_m1 171 rfl) rfl
theorem q190 : (Jvm.Cond.fieldLink "InsolvencyPoolModel" (36 : Nat) "InsolvencyPoolModel" "money" "I") ∈ lw_all := lw_g (lw_at lw_m1 172 rfl) rfl
theorem q191 : (Jvm.Cond.fieldLink "InsolvencyPoolModel" (19 : Nat) "InsolvencyPoolModel" "got" "[I") ∈ lw_all := lw_g (lw_at lw_m1 173 rfl) rfl
theorem q192 : (Jvm.Cond.lays "InsolvencyPoolModel" "InsolvencyPoolModel" "count" "I") ∈ lw_all := lw_g (lw_at lw_m1 174 rfl) rfl
theorem q193 : (Jvm.Cond.soleField "InsolvencyPoolModel" "count") ∈ lw_all := lw_g (lw_at lw_m1 175 rfl) rfl
theorem q194 : (Jvm.Cond.lays "InsolvencyPoolModel" "InsolvencyPoolModel" "claim" "[I") ∈ lw_all := lw_g (lw_at lw_m1 176 rfl) rfl
theorem q195 : (Jvm.Cond.soleField "InsolvencyPoolModel" "claim") ∈ lw_all := lw_g (lw_at lw_m1 177 rfl) rfl
theorem q196 : (Jvm.Cond.lays "InsolvencyPoolModel" "InsolvencyPoolModel" "rank" "[I") ∈ lw_all := lw_g (lw_at lw_m1 178 rfl) rfl
theorem q197 : (Jvm.Cond.soleField "InsolvencyPoolModel" "rank") ∈ lw_all := lw_g (lw_at lw_m1 179 rfl) rfl
theorem q198 : (Jvm.Cond.lays "InsolvencyPoolModel" "InsolvencyPoolModel" "rules" "[I") ∈ lw_all := lw_g (lw_at lw_m1 180 rfl) rfl
theorem q199 : (Jvm.Cond.soleField "InsolvencyPoolModel" "rules") ∈ lw_all := lw_g (lw_at lw_m1 181 rfl) rfl
theorem q200 : (Jvm.Cond.lays "InsolvencyPoolModel" "InsolvencyPoolModel" "money" "I") ∈ lw_all := lw_g (lw_at lw_m1 182 rfl) rfl
theorem q201 : (Jvm.Cond.soleField "InsolvencyPoolModel" "money") ∈ lw_all := lw_g (lw_at lw_m1 183 rfl) rfl
theorem q202 : (Jvm.Cond.lays "InsolvencyPoolModel" "InsolvencyPoolModel" "got" "[I") ∈ lw_all := lw_g (lw_at lw_m1 184 rfl) rfl
theorem q203 : (Jvm.Cond.soleField "InsolvencyPoolModel" "got") ∈ lw_all := lw_g (lw_at lw_m1 185 rfl) rfl
theorem q204 : (Jvm.Cond.superclass "InsolvencyPoolModel" "java/lang/Object") ∈ lw_all := lw_g (lw_at lw_m1 186 rfl) rfl
theorem q206 : (Jvm.Cond.instanceMethod ({ cls := "InsolvencyPoolModel", name := "add", desc := "(II)I" } : Jvm.MethodName)) ∈ lw_all := lw_g (lw_at lw_m1 188 rfl) rfl
theorem q207 : (Jvm.Cond.selects "InsolvencyPoolModel" ({ cls := "InsolvencyPoolModel", name := "add", desc := "(II)I" } : Jvm.MethodName) ({ cls := "InsolvencyPoolModel", name := "add", desc := "(II)I" } : Jvm.MethodName)) ∈ lw_all := lw_g (lw_at lw_m1 189 rfl) rfl
theorem q208 : (Jvm.Cond.code ({ cls := "InsolvencyPoolModel", name := "add", desc := "(II)I" } : Jvm.MethodName) prog_3_method_5_code (4 : Nat) (Option.some Jvm.ClassFile.FieldType.int)) ∈ lw_all := lw_g (lw_at lw_m1 190 rfl) rfl
theorem q209 : (Jvm.Cond.methodLink "InsolvencyPoolModel" (26 : Nat) ({ cls := "InsolvencyPoolModel", name := "badClaim", desc := "(I)Z" } : Jvm.MethodName)) ∈ lw_all := lw_g (lw_at lw_m1 191 rfl) rfl
theorem q210 : (Jvm.Cond.privateMethod ({ cls := "InsolvencyPoolModel", name := "badClaim", desc := "(I)Z" } : Jvm.MethodName)) ∈ lw_tbl := lw_at lw_m1 192 rfl
theorem q211 : (Jvm.Cond.instanceMethod ({ cls := "InsolvencyPoolModel", name := "badClaim", desc := "(I)Z" } : Jvm.MethodName)) ∈ lw_all := lw_g (lw_at lw_m1 193 rfl) rfl
theorem q212 : (Jvm.Cond.code ({ cls := "InsolvencyPoolModel", name := "badClaim", desc := "(I)Z" } : Jvm.MethodName) prog_3_method_4_code (2 : Nat) (Option.some Jvm.ClassFile.FieldType.boolean)) ∈ lw_all := lw_g (lw_at lw_m1 194 rfl) rfl
theorem q213 : (Jvm.Cond.methodLink "InsolvencyPoolModel" (30 : Nat) ({ cls := "InsolvencyPoolModel", name := "badRank", desc := "(I)Z" } : Jvm.MethodName)) ∈ lw_all := lw_g (lw_at lw_m1 195 rfl) rfl
theorem q214 : (Jvm.Cond.privateMethod ({ cls := "InsolvencyPoolModel", name := "badRank", desc := "(I)Z" } : Jvm.MethodName)) ∈ lw_tbl := lw_at lw_m1 196 rfl
theorem q215 : (Jvm.Cond.instanceMethod ({ cls := "InsolvencyPoolModel", name := "badRank", desc := "(I)Z" } : Jvm.MethodName)) ∈ lw_all := lw_g (lw_at lw_m1 197 rfl) rfl
theorem q216 : (Jvm.Cond.code ({ cls := "InsolvencyPoolModel", name := "badRank", desc := "(I)Z" } : Jvm.MethodName) prog_3_method_3_code (2 : Nat) (Option.some Jvm.ClassFile.FieldType.boolean)) ∈ lw_all := lw_g (lw_at lw_m1 198 rfl) rfl
theorem q218 : (Jvm.Cond.instanceMethod ({ cls := "InsolvencyPoolModel", name := "remove", desc := "(I)I" } : Jvm.MethodName)) ∈ lw_all := lw_g (lw_at lw_m1 200 rfl) rfl
theorem q219 : (Jvm.Cond.selects "InsolvencyPoolModel" ({ cls := "InsolvencyPoolModel", name := "remove", desc := "(I)I" } : Jvm.MethodName) ({ cls := "InsolvencyPoolModel", name := "remove", desc := "(I)I" } : Jvm.MethodName)) ∈ lw_all := lw_g (lw_at lw_m1 201 rfl) rfl
theorem q220 : (Jvm.Cond.code ({ cls := "InsolvencyPoolModel", name := "remove", desc := "(I)I" } : Jvm.MethodName) prog_3_method_6_code (3 : Nat) (Option.some Jvm.ClassFile.FieldType.int)) ∈ lw_all := lw_g (lw_at lw_m1 202 rfl) rfl
theorem q221 : (Jvm.Cond.methodLink "InsolvencyPoolModel" (33 : Nat) ({ cls := "InsolvencyPoolModel", name := "bad", desc := "(I)Z" } : Jvm.MethodName)) ∈ lw_all := lw_g (lw_at lw_m1 203 rfl) rfl
theorem q222 : (Jvm.Cond.privateMethod ({ cls := "InsolvencyPoolModel", name := "bad", desc := "(I)Z" } : Jvm.MethodName)) ∈ lw_tbl := lw_at lw_m1 204 rfl
theorem q223 : (Jvm.Cond.instanceMethod ({ cls := "InsolvencyPoolModel", name := "bad", desc := "(I)Z" } : Jvm.MethodName)) ∈ lw_all := lw_g (lw_at lw_m1 205 rfl) rfl
theorem q224 : (Jvm.Cond.code ({ cls := "InsolvencyPoolModel", name := "bad", desc := "(I)Z" } : Jvm.MethodName) prog_3_method_2_code (2 : Nat) (Option.some Jvm.ClassFile.FieldType.boolean)) ∈ lw_all := lw_g (lw_at lw_m1 206 rfl) rfl
theorem q226 : (Jvm.Cond.instanceMethod ({ cls := "InsolvencyPoolModel", name := "change", desc := "(II)I" } : Jvm.MethodName)) ∈ lw_all := lw_g (lw_at lw_m1 208 rfl) rfl
theorem q227 : (Jvm.Cond.selects "InsolvencyPoolModel" ({ cls := "InsolvencyPoolModel", name := "change", desc := "(II)I" } : Jvm.MethodName) ({ cls := "InsolvencyPoolModel", name := "change", desc := "(II)I" } : Jvm.MethodName)) ∈ lw_all := lw_g (lw_at lw_m1 209 rfl) rfl
theorem q228 : (Jvm.Cond.code ({ cls := "InsolvencyPoolModel", name := "change", desc := "(II)I" } : Jvm.MethodName) prog_3_method_7_code (4 : Nat) (Option.some Jvm.ClassFile.FieldType.int)) ∈ lw_all := lw_g (lw_at lw_m1 210 rfl) rfl
theorem q230 : (Jvm.Cond.instanceMethod ({ cls := "InsolvencyPoolModel", name := "move", desc := "(II)I" } : Jvm.MethodName)) ∈ lw_all := lw_g (lw_at lw_m1 212 rfl) rfl
theorem q231 : (Jvm.Cond.selects "InsolvencyPoolModel" ({ cls := "InsolvencyPoolModel", name := "move", desc := "(II)I" } : Jvm.MethodName) ({ cls := "InsolvencyPoolModel", name := "move", desc := "(II)I" } : Jvm.MethodName)) ∈ lw_all := lw_g (lw_at lw_m1 213 rfl) rfl
theorem q232 : (Jvm.Cond.code ({ cls := "InsolvencyPoolModel", name := "move", desc := "(II)I" } : Jvm.MethodName) prog_3_method_8_code (4 : Nat) (Option.some Jvm.ClassFile.FieldType.int)) ∈ lw_all := lw_g (lw_at lw_m1 214 rfl) rfl
theorem q234 : (Jvm.Cond.instanceMethod ({ cls := "InsolvencyPoolModel", name := "rule", desc := "(II)I" } : Jvm.MethodName)) ∈ lw_all := lw_g (lw_at lw_m1 216 rfl) rfl
theorem q235 : (Jvm.Cond.selects "InsolvencyPoolModel" ({ cls := "InsolvencyPoolModel", name := "rule", desc := "(II)I" } : Jvm.MethodName) ({ cls := "InsolvencyPoolModel", name := "rule", desc := "(II)I" } : Jvm.MethodName)) ∈ lw_all := lw_g (lw_at lw_m1 217 rfl) rfl
theorem q236 : (Jvm.Cond.code ({ cls := "InsolvencyPoolModel", name := "rule", desc := "(II)I" } : Jvm.MethodName) prog_3_method_9_code (4 : Nat) (Option.some Jvm.ClassFile.FieldType.int)) ∈ lw_all := lw_g (lw_at lw_m1 218 rfl) rfl
theorem q238 : (Jvm.Cond.instanceMethod ({ cls := "InsolvencyPoolModel", name := "estate", desc := "(I)I" } : Jvm.MethodName)) ∈ lw_all := lw_g (lw_at lw_m1 220 rfl) rfl
theorem q239 : (Jvm.Cond.selects "InsolvencyPoolModel" ({ cls := "InsolvencyPoolModel", name := "estate", desc := "(I)I" } : Jvm.MethodName) ({ cls := "InsolvencyPoolModel", name := "estate", desc := "(I)I" } : Jvm.MethodName)) ∈ lw_all := lw_g (lw_at lw_m1 221 rfl) rfl
theorem q240 : (Jvm.Cond.code ({ cls := "InsolvencyPoolModel", name := "estate", desc := "(I)I" } : Jvm.MethodName) prog_3_method_10_code (2 : Nat) (Option.some Jvm.ClassFile.FieldType.int)) ∈ lw_all := lw_g (lw_at lw_m1 222 rfl) rfl
theorem q242 : (Jvm.Cond.instanceMethod ({ cls := "InsolvencyPoolModel", name := "creditors", desc := "()I" } : Jvm.MethodName)) ∈ lw_all := lw_g (lw_at lw_m1 224 rfl) rfl
theorem q243 : (Jvm.Cond.selects "InsolvencyPoolModel" ({ cls := "InsolvencyPoolModel", name := "creditors", desc := "()I" } : Jvm.MethodName) ({ cls := "InsolvencyPoolModel", name := "creditors", desc := "()I" } : Jvm.MethodName)) ∈ lw_all := lw_g (lw_at lw_m1 225 rfl) rfl
theorem q244 : (Jvm.Cond.code ({ cls := "InsolvencyPoolModel", name := "creditors", desc := "()I" } : Jvm.MethodName) prog_3_method_11_code (1 : Nat) (Option.some Jvm.ClassFile.FieldType.int)) ∈ lw_all := lw_g (lw_at lw_m1 226 rfl) rfl
theorem q246 : (Jvm.Cond.instanceMethod ({ cls := "InsolvencyPoolModel", name := "claimOf", desc := "(I)I" } : Jvm.MethodName)) ∈ lw_all := lw_g (lw_at lw_m1 228 rfl) rfl
theorem q247 : (Jvm.Cond.selects "InsolvencyPoolModel" ({ cls := "InsolvencyPoolModel", name := "claimOf", desc := "(I)I" } : Jvm.MethodName) ({ cls := "InsolvencyPoolModel", name := "claimOf", desc := "(I)I" } : Jvm.MethodName)) ∈ lw_all := lw_g (lw_at lw_m1 229 rfl) rfl
theorem q248 : (Jvm.Cond.code ({ cls := "InsolvencyPoolModel", name := "claimOf", desc := "(I)I" } : Jvm.MethodName) prog_3_method_12_code (2 : Nat) (Option.some Jvm.ClassFile.FieldType.int)) ∈ lw_all := lw_g (lw_at lw_m1 230 rfl) rfl
theorem q250 : (Jvm.Cond.instanceMethod ({ cls := "InsolvencyPoolModel", name := "share", desc := "(I)I" } : Jvm.MethodName)) ∈ lw_all := lw_g (lw_at lw_m1 232 rfl) rfl
theorem q251 : (Jvm.Cond.selects "InsolvencyPoolModel" ({ cls := "InsolvencyPoolModel", name := "share", desc := "(I)I" } : Jvm.MethodName) ({ cls := "InsolvencyPoolModel", name := "share", desc := "(I)I" } : Jvm.MethodName)) ∈ lw_all := lw_g (lw_at lw_m1 233 rfl) rfl
theorem q252 : (Jvm.Cond.code ({ cls := "InsolvencyPoolModel", name := "share", desc := "(I)I" } : Jvm.MethodName) prog_3_method_17_code (2 : Nat) (Option.some Jvm.ClassFile.FieldType.int)) ∈ lw_all := lw_g (lw_at lw_m1 234 rfl) rfl
theorem q253 : (Jvm.Cond.methodLink "InsolvencyPoolModel" (51 : Nat) ({ cls := "InsolvencyPoolModel", name := "hand", desc := "(III)I" } : Jvm.MethodName)) ∈ lw_all := lw_g (lw_at lw_m1 235 rfl) rfl
theorem q254 : (Jvm.Cond.privateMethod ({ cls := "InsolvencyPoolModel", name := "hand", desc := "(III)I" } : Jvm.MethodName)) ∈ lw_tbl := lw_at lw_m1 236 rfl
theorem q255 : (Jvm.Cond.instanceMethod ({ cls := "InsolvencyPoolModel", name := "hand", desc := "(III)I" } : Jvm.MethodName)) ∈ lw_all := lw_g (lw_at lw_m1 237 rfl) rfl
theorem q256 : (Jvm.Cond.code ({ cls := "InsolvencyPoolModel", name := "hand", desc := "(III)I" } : Jvm.MethodName) prog_3_method_16_code (7 : Nat) (Option.some Jvm.ClassFile.FieldType.int)) ∈ lw_all := lw_g (lw_at lw_m1 238 rfl) rfl
theorem q257 : (Jvm.Cond.methodLink "InsolvencyPoolModel" (47 : Nat) ({ cls := "InsolvencyPoolModel", name := "chosen", desc := "(II)I" } : Jvm.MethodName)) ∈ lw_all := lw_g (lw_at lw_m1 239 rfl) rfl
theorem q258 : (Jvm.Cond.privateMethod ({ cls := "InsolvencyPoolModel", name := "chosen", desc := "(II)I" } : Jvm.MethodName)) ∈ lw_tbl := lw_at lw_m2 0 rfl
theorem q259 : (Jvm.Cond.instanceMethod ({ cls := "InsolvencyPoolModel", name := "chosen", desc := "(II)I" } : Jvm.MethodName)) ∈ lw_all := lw_g (lw_at lw_m2 1 rfl) rfl
theorem q260 : (Jvm.Cond.code ({ cls := "InsolvencyPoolModel", name := "chosen", desc := "(II)I" } : Jvm.MethodName) prog_3_method_15_code (11 : Nat) (Option.some Jvm.ClassFile.FieldType.int)) ∈ lw_all := lw_g (lw_at lw_m2 2 rfl) rfl
theorem q261 : (Jvm.Cond.methodLink "InsolvencyPoolModel" (39 : Nat) ({ cls := "InsolvencyPoolModel", name := "openRank", desc := "()I" } : Jvm.MethodName)) ∈ lw_all := lw_g (lw_at lw_m2 3 rfl) rfl
theorem q262 : (Jvm.Cond.privateMethod ({ cls := "InsolvencyPoolModel", name := "openRank", desc := "()I" } : Jvm.MethodName)) ∈ lw_tbl := lw_at lw_m2 4 rfl
theorem q263 : (Jvm.Cond.instanceMethod ({ cls := "InsolvencyPoolModel", name := "openRank", desc := "()I" } : Jvm.MethodName)) ∈ lw_all := lw_g (lw_at lw_m2 5 rfl) rfl
theorem q264 : (Jvm.Cond.code ({ cls := "InsolvencyPoolModel", name := "openRank", desc := "()I" } : Jvm.MethodName) prog_3_method_14_code (3 : Nat) (Option.some Jvm.ClassFile.FieldType.int)) ∈ lw_all := lw_g (lw_at lw_m2 6 rfl) rfl
theorem q265 : (Jvm.Cond.methodLink "InsolvencyPoolModel" (43 : Nat) ({ cls := "InsolvencyPoolModel", name := "before", desc := "(IIIZ)Z" } : Jvm.MethodName)) ∈ lw_all := lw_g (lw_at lw_m2 7 rfl) rfl
theorem q266 : (Jvm.Cond.privateMethod ({ cls := "InsolvencyPoolModel", name := "before", desc := "(IIIZ)Z" } : Jvm.MethodName)) ∈ lw_tbl := lw_at lw_m2 8 rfl
theorem q267 : (Jvm.Cond.instanceMethod ({ cls := "InsolvencyPoolModel", name := "before", desc := "(IIIZ)Z" } : Jvm.MethodName)) ∈ lw_all := lw_g (lw_at lw_m2 9 rfl) rfl
theorem q268 : (Jvm.Cond.code ({ cls := "InsolvencyPoolModel", name := "before", desc := "(IIIZ)Z" } : Jvm.MethodName) prog_3_method_13_code (5 : Nat) (Option.some Jvm.ClassFile.FieldType.boolean)) ∈ lw_all := lw_g (lw_at lw_m2 10 rfl) rfl
theorem q270 : (Jvm.Cond.instanceMethod ({ cls := "InsolvencyPoolModel", name := "shareOf", desc := "(II)I" } : Jvm.MethodName)) ∈ lw_all := lw_g (lw_at lw_m2 12 rfl) rfl
theorem q271 : (Jvm.Cond.selects "InsolvencyPoolModel" ({ cls := "InsolvencyPoolModel", name := "shareOf", desc := "(II)I" } : Jvm.MethodName) ({ cls := "InsolvencyPoolModel", name := "shareOf", desc := "(II)I" } : Jvm.MethodName)) ∈ lw_all := lw_g (lw_at lw_m2 13 rfl) rfl
theorem q272 : (Jvm.Cond.code ({ cls := "InsolvencyPoolModel", name := "shareOf", desc := "(II)I" } : Jvm.MethodName) prog_3_method_18_code (3 : Nat) (Option.some Jvm.ClassFile.FieldType.int)) ∈ lw_all := lw_g (lw_at lw_m2 14 rfl) rfl
theorem q274 : (Jvm.Cond.instanceMethod ({ cls := "InsolvencyPoolModel", name := "shareUnder", desc := "(II)I" } : Jvm.MethodName)) ∈ lw_all := lw_g (lw_at lw_m2 16 rfl) rfl
theorem q275 : (Jvm.Cond.selects "InsolvencyPoolModel" ({ cls := "InsolvencyPoolModel", name := "shareUnder", desc := "(II)I" } : Jvm.MethodName) ({ cls := "InsolvencyPoolModel", name := "shareUnder", desc := "(II)I" } : Jvm.MethodName)) ∈ lw_all := lw_g (lw_at lw_m2 17 rfl) rfl
theorem q276 : (Jvm.Cond.code ({ cls := "InsolvencyPoolModel", name := "shareUnder", desc := "(II)I" } : Jvm.MethodName) prog_3_method_19_code (3 : Nat) (Option.some Jvm.ClassFile.FieldType.int)) ∈ lw_all := lw_g (lw_at lw_m2 18 rfl) rfl
theorem q278 : (Jvm.Cond.instanceMethod ({ cls := "InsolvencyPoolModel", name := "leastEstate", desc := "(II)I" } : Jvm.MethodName)) ∈ lw_all := lw_g (lw_at lw_m2 20 rfl) rfl
theorem q279 : (Jvm.Cond.selects "InsolvencyPoolModel" ({ cls := "InsolvencyPoolModel", name := "leastEstate", desc := "(II)I" } : Jvm.MethodName) ({ cls := "InsolvencyPoolModel", name := "leastEstate", desc := "(II)I" } : Jvm.MethodName)) ∈ lw_all := lw_g (lw_at lw_m2 21 rfl) rfl
theorem q280 : (Jvm.Cond.code ({ cls := "InsolvencyPoolModel", name := "leastEstate", desc := "(II)I" } : Jvm.MethodName) prog_3_method_20_code (5 : Nat) (Option.some Jvm.ClassFile.FieldType.int)) ∈ lw_all := lw_g (lw_at lw_m2 22 rfl) rfl
theorem q282 : (Jvm.Cond.instanceMethod ({ cls := "InsolvencyPoolModel", name := "claims", desc := "(I)I" } : Jvm.MethodName)) ∈ lw_all := lw_g (lw_at lw_m2 24 rfl) rfl
theorem q283 : (Jvm.Cond.selects "InsolvencyPoolModel" ({ cls := "InsolvencyPoolModel", name := "claims", desc := "(I)I" } : Jvm.MethodName) ({ cls := "InsolvencyPoolModel", name := "claims", desc := "(I)I" } : Jvm.MethodName)) ∈ lw_all := lw_g (lw_at lw_m2 25 rfl) rfl
theorem q284 : (Jvm.Cond.code ({ cls := "InsolvencyPoolModel", name := "claims", desc := "(I)I" } : Jvm.MethodName) prog_3_method_21_code (4 : Nat) (Option.some Jvm.ClassFile.FieldType.int)) ∈ lw_all := lw_g (lw_at lw_m2 26 rfl) rfl
theorem q286 : (Jvm.Cond.instanceMethod ({ cls := "InsolvencyPoolModel", name := "paid", desc := "(I)I" } : Jvm.MethodName)) ∈ lw_all := lw_g (lw_at lw_m2 28 rfl) rfl
theorem q287 : (Jvm.Cond.selects "InsolvencyPoolModel" ({ cls := "InsolvencyPoolModel", name := "paid", desc := "(I)I" } : Jvm.MethodName) ({ cls := "InsolvencyPoolModel", name := "paid", desc := "(I)I" } : Jvm.MethodName)) ∈ lw_all := lw_g (lw_at lw_m2 29 rfl) rfl
theorem q288 : (Jvm.Cond.code ({ cls := "InsolvencyPoolModel", name := "paid", desc := "(I)I" } : Jvm.MethodName) prog_3_method_22_code (4 : Nat) (Option.some Jvm.ClassFile.FieldType.int)) ∈ lw_all := lw_g (lw_at lw_m2 30 rfl) rfl
theorem q290 : (Jvm.Cond.instanceMethod ({ cls := "InsolvencyPoolModel", name := "left", desc := "()I" } : Jvm.MethodName)) ∈ lw_all := lw_g (lw_at lw_m2 32 rfl) rfl
theorem q291 : (Jvm.Cond.selects "InsolvencyPoolModel" ({ cls := "InsolvencyPoolModel", name := "left", desc := "()I" } : Jvm.MethodName) ({ cls := "InsolvencyPoolModel", name := "left", desc := "()I" } : Jvm.MethodName)) ∈ lw_all := lw_g (lw_at lw_m2 33 rfl) rfl
theorem q292 : (Jvm.Cond.code ({ cls := "InsolvencyPoolModel", name := "left", desc := "()I" } : Jvm.MethodName) prog_3_method_23_code (1 : Nat) (Option.some Jvm.ClassFile.FieldType.int)) ∈ lw_all := lw_g (lw_at lw_m2 34 rfl) rfl
theorem q294 : (Jvm.Cond.instanceMethod ({ cls := "InsolvencyPoolModel", name := "next", desc := "()I" } : Jvm.MethodName)) ∈ lw_all := lw_g (lw_at lw_m2 36 rfl) rfl
theorem q295 : (Jvm.Cond.selects "InsolvencyPoolModel" ({ cls := "InsolvencyPoolModel", name := "next", desc := "()I" } : Jvm.MethodName) ({ cls := "InsolvencyPoolModel", name := "next", desc := "()I" } : Jvm.MethodName)) ∈ lw_all := lw_g (lw_at lw_m2 37 rfl) rfl
theorem q296 : (Jvm.Cond.code ({ cls := "InsolvencyPoolModel", name := "next", desc := "()I" } : Jvm.MethodName) prog_3_method_24_code (1 : Nat) (Option.some Jvm.ClassFile.FieldType.int)) ∈ lw_all := lw_g (lw_at lw_m2 38 rfl) rfl
theorem q298 : (Jvm.Cond.instanceMethod ({ cls := "InsolvencyPoolModel", name := "unpaid", desc := "()I" } : Jvm.MethodName)) ∈ lw_all := lw_g (lw_at lw_m2 40 rfl) rfl
theorem q299 : (Jvm.Cond.selects "InsolvencyPoolModel" ({ cls := "InsolvencyPoolModel", name := "unpaid", desc := "()I" } : Jvm.MethodName) ({ cls := "InsolvencyPoolModel", name := "unpaid", desc := "()I" } : Jvm.MethodName)) ∈ lw_all := lw_g (lw_at lw_m2 41 rfl) rfl
theorem q300 : (Jvm.Cond.code ({ cls := "InsolvencyPoolModel", name := "unpaid", desc := "()I" } : Jvm.MethodName) prog_3_method_25_code (3 : Nat) (Option.some Jvm.ClassFile.FieldType.int)) ∈ lw_all := lw_g (lw_at lw_m2 42 rfl) rfl
theorem q302 : (Jvm.Cond.instanceMethod ({ cls := "InsolvencyPoolModel", name := "worst", desc := "()I" } : Jvm.MethodName)) ∈ lw_all := lw_g (lw_at lw_m2 44 rfl) rfl
theorem q303 : (Jvm.Cond.selects "InsolvencyPoolModel" ({ cls := "InsolvencyPoolModel", name := "worst", desc := "()I" } : Jvm.MethodName) ({ cls := "InsolvencyPoolModel", name := "worst", desc := "()I" } : Jvm.MethodName)) ∈ lw_all := lw_g (lw_at lw_m2 45 rfl) rfl
theorem q304 : (Jvm.Cond.code ({ cls := "InsolvencyPoolModel", name := "worst", desc := "()I" } : Jvm.MethodName) prog_3_method_26_code (3 : Nat) (Option.some Jvm.ClassFile.FieldType.int)) ∈ lw_all := lw_g (lw_at lw_m2 46 rfl) rfl
theorem in_X1 : ∀ w ∈ wsX10, w ∈ lw_all := lw_in wsX10 [192, 194, 196, 198, 200, 202] (by decide +kernel) (by decide +kernel)
/-! java/lang/Object -/
set_option maxRecDepth 100000
def RJ0 : String := "java/lang/Object"
abbrev cJ0_init : ByteArray := object_method_1_code
def yJ0_init : MethodName := ⟨RJ0, "<init>", "()V"⟩
theorem dJ0_init_0 : decode cJ0_init 0 = .ok (.return_, 1) := by decide +kernel
theorem q27 : (Jvm.Cond.instanceMethod ({ cls := "java/lang/Object", name := "<init>", desc := "()V" } : Jvm.MethodName)) ∈ lw_all := lw_g (lw_at lw_m1 9 rfl) rfl
theorem q28 : (Jvm.Cond.code ({ cls := "java/lang/Object", name := "<init>", desc := "()V" } : Jvm.MethodName) object_method_1_code (1 : Nat) (Option.none : Option Jvm.ClassFile.FieldType)) ∈ lw_all := lw_g (lw_at lw_m1 10 rfl) rfl
theorem q57 : (Jvm.Cond.arrayClass Jvm.ClassFile.FieldType.int) ∈ lw_all := lw_g (lw_at lw_m1 39 rfl) rfl
set_option maxRecDepth 100000
theorem q18 : (Jvm.Cond.initialized "InsolvencyPoolLaw") ∈ lw_all := lw_g (lw_at lw_m1 0 rfl) rfl
set_option maxRecDepth 100000
theorem q21 : (Jvm.Cond.classLink "InsolvencyPoolLaw" (7 : Nat) "InsolvencyPool") ∈ lw_all := lw_g (lw_at lw_m1 3 rfl) rfl
theorem q23 : (Jvm.Cond.methodLink "InsolvencyPoolLaw" (9 : Nat) ({ cls := "InsolvencyPool", name := "<init>", desc := "()V" } : Jvm.MethodName)) ∈ lw_all := lw_g (lw_at lw_m1 5 rfl) rfl
theorem q58 : (Jvm.Cond.methodLink "InsolvencyPoolLaw" (13 : Nat) ({ cls := "InsolvencyPool", name := "add", desc := "(II)I" } : Jvm.MethodName)) ∈ lw_all := lw_g (lw_at lw_m1 40 rfl) rfl
theorem q65 : (Jvm.Cond.methodLink "InsolvencyPoolLaw" (18 : Nat) ({ cls := "InsolvencyPool", name := "remove", desc := "(I)I" } : Jvm.MethodName)) ∈ lw_all := lw_g (lw_at lw_m1 47 rfl) rfl
theorem q73 : (Jvm.Cond.methodLink "InsolvencyPoolLaw" (23 : Nat) ({ cls := "InsolvencyPool", name := "change", desc := "(II)I" } : Jvm.MethodName)) ∈ lw_all := lw_g (lw_at lw_m1 55 rfl) rfl
theorem q77 : (Jvm.Cond.methodLink "InsolvencyPoolLaw" (27 : Nat) ({ cls := "InsolvencyPool", name := "move", desc := "(II)I" } : Jvm.MethodName)) ∈ lw_all := lw_g (lw_at lw_m1 59 rfl) rfl
theorem q81 : (Jvm.Cond.methodLink "InsolvencyPoolLaw" (31 : Nat) ({ cls := "InsolvencyPool", name := "rule", desc := "(II)I" } : Jvm.MethodName)) ∈ lw_all := lw_g (lw_at lw_m1 63 rfl) rfl
theorem q88 : (Jvm.Cond.methodLink "InsolvencyPoolLaw" (35 : Nat) ({ cls := "InsolvencyPool", name := "estate", desc := "(I)I" } : Jvm.MethodName)) ∈ lw_all := lw_g (lw_at lw_m1 70 rfl) rfl
theorem q92 : (Jvm.Cond.methodLink "InsolvencyPoolLaw" (39 : Nat) ({ cls := "InsolvencyPool", name := "creditors", desc := "()I" } : Jvm.MethodName)) ∈ lw_all := lw_g (lw_at lw_m1 74 rfl) rfl
theorem q96 : (Jvm.Cond.methodLink "InsolvencyPoolLaw" (44 : Nat) ({ cls := "InsolvencyPool", name := "claimOf", desc := "(I)I" } : Jvm.MethodName)) ∈ lw_all := lw_g (lw_at lw_m1 78 rfl) rfl
theorem q100 : (Jvm.Cond.methodLink "InsolvencyPoolLaw" (48 : Nat) ({ cls := "InsolvencyPool", name := "share", desc := "(I)I" } : Jvm.MethodName)) ∈ lw_all := lw_g (lw_at lw_m1 82 rfl) rfl
theorem q144 : (Jvm.Cond.methodLink "InsolvencyPoolLaw" (52 : Nat) ({ cls := "InsolvencyPool", name := "shareOf", desc := "(II)I" } : Jvm.MethodName)) ∈ lw_all := lw_g (lw_at lw_m1 126 rfl) rfl
theorem q148 : (Jvm.Cond.methodLink "InsolvencyPoolLaw" (56 : Nat) ({ cls := "InsolvencyPool", name := "shareUnder", desc := "(II)I" } : Jvm.MethodName)) ∈ lw_all := lw_g (lw_at lw_m1 130 rfl) rfl
theorem q152 : (Jvm.Cond.methodLink "InsolvencyPoolLaw" (60 : Nat) ({ cls := "InsolvencyPool", name := "leastEstate", desc := "(II)I" } : Jvm.MethodName)) ∈ lw_all := lw_g (lw_at lw_m1 134 rfl) rfl
theorem q156 : (Jvm.Cond.methodLink "InsolvencyPoolLaw" (64 : Nat) ({ cls := "InsolvencyPool", name := "claims", desc := "(I)I" } : Jvm.MethodName)) ∈ lw_all := lw_g (lw_at lw_m1 138 rfl) rfl
theorem q160 : (Jvm.Cond.methodLink "InsolvencyPoolLaw" (68 : Nat) ({ cls := "InsolvencyPool", name := "paid", desc := "(I)I" } : Jvm.MethodName)) ∈ lw_all := lw_g (lw_at lw_m1 142 rfl) rfl
theorem q164 : (Jvm.Cond.methodLink "InsolvencyPoolLaw" (72 : Nat) ({ cls := "InsolvencyPool", name := "left", desc := "()I" } : Jvm.MethodName)) ∈ lw_all := lw_g (lw_at lw_m1 146 rfl) rfl
theorem q168 : (Jvm.Cond.methodLink "InsolvencyPoolLaw" (76 : Nat) ({ cls := "InsolvencyPool", name := "next", desc := "()I" } : Jvm.MethodName)) ∈ lw_all := lw_g (lw_at lw_m1 150 rfl) rfl
theorem q172 : (Jvm.Cond.methodLink "InsolvencyPoolLaw" (80 : Nat) ({ cls := "InsolvencyPool", name := "unpaid", desc := "()I" } : Jvm.MethodName)) ∈ lw_all := lw_g (lw_at lw_m1 154 rfl) rfl
theorem q176 : (Jvm.Cond.methodLink "InsolvencyPoolLaw" (84 : Nat) ({ cls := "InsolvencyPool", name := "worst", desc := "()I" } : Jvm.MethodName)) ∈ lw_all := lw_g (lw_at lw_m1 158 rfl) rfl
theorem q180 : (Jvm.Cond.classLink "InsolvencyPoolLaw" (10 : Nat) "InsolvencyPoolModel") ∈ lw_all := lw_g (lw_at lw_m1 162 rfl) rfl
theorem q182 : (Jvm.Cond.methodLink "InsolvencyPoolLaw" (12 : Nat) ({ cls := "InsolvencyPoolModel", name := "<init>", desc := "()V" } : Jvm.MethodName)) ∈ lw_all := lw_g (lw_at lw_m1 164 rfl) rfl
theorem q205 : (Jvm.Cond.methodLink "InsolvencyPoolLaw" (17 : Nat) ({ cls := "InsolvencyPoolModel", name := "add", desc := "(II)I" } : Jvm.MethodName)) ∈ lw_all := lw_g (lw_at lw_m1 187 rfl) rfl
theorem q217 : (Jvm.Cond.methodLink "InsolvencyPoolLaw" (22 : Nat) ({ cls := "InsolvencyPoolModel", name := "remove", desc := "(I)I" } : Jvm.MethodName)) ∈ lw_all := lw_g (lw_at lw_m1 199 rfl) rfl
theorem q225 : (Jvm.Cond.methodLink "InsolvencyPoolLaw" (26 : Nat) ({ cls := "InsolvencyPoolModel", name := "change", desc := "(II)I" } : Jvm.MethodName)) ∈ lw_all := lw_g (lw_at lw_m1 207 rfl) rfl
theorem q229 : (Jvm.Cond.methodLink "InsolvencyPoolLaw" (30 : Nat) ({ cls := "InsolvencyPoolModel", name := "move", desc := "(II)I" } : Jvm.MethodName)) ∈ lw_all := lw_g (lw_at lw_m1 211 rfl) rfl
theorem q233 : (Jvm.Cond.methodLink "InsolvencyPoolLaw" (34 : Nat) ({ cls := "InsolvencyPoolModel", name := "rule", desc := "(II)I" } : Jvm.MethodName)) ∈ lw_all := lw_g (lw_at lw_m1 215 rfl) rfl
theorem q237 : (Jvm.Cond.methodLink "InsolvencyPoolLaw" (38 : Nat) ({ cls := "InsolvencyPoolModel", name := "estate", desc := "(I)I" } : Jvm.MethodName)) ∈ lw_all := lw_g (lw_at lw_m1 219 rfl) rfl
theorem q241 : (Jvm.Cond.methodLink "InsolvencyPoolLaw" (43 : Nat) ({ cls := "InsolvencyPoolModel", name := "creditors", desc := "()I" } : Jvm.MethodName)) ∈ lw_all := lw_g (lw_at lw_m1 223 rfl) rfl
theorem q245 : (Jvm.Cond.methodLink "InsolvencyPoolLaw" (47 : Nat) ({ cls := "InsolvencyPoolModel", name := "claimOf", desc := "(I)I" } : Jvm.MethodName)) ∈ lw_all := lw_g (lw_at lw_m1 227 rfl) rfl
theorem q249 : (Jvm.Cond.methodLink "InsolvencyPoolLaw" (51 : Nat) ({ cls := "InsolvencyPoolModel", name := "share", desc := "(I)I" } : Jvm.MethodName)) ∈ lw_all := lw_g (lw_at lw_m1 231 rfl) rfl
theorem q269 : (Jvm.Cond.methodLink "InsolvencyPoolLaw" (55 : Nat) ({ cls := "InsolvencyPoolModel", name := "shareOf", desc := "(II)I" } : Jvm.MethodName)) ∈ lw_all := lw_g (lw_at lw_m2 11 rfl) rfl
theorem q273 : (Jvm.Cond.methodLink "InsolvencyPoolLaw" (59 : Nat) ({ cls := "InsolvencyPoolModel", name := "shareUnder", desc := "(II)I" } : Jvm.MethodName)) ∈ lw_all := lw_g (lw_at lw_m2 15 rfl) rfl
theorem q277 : (Jvm.Cond.methodLink "InsolvencyPoolLaw" (63 : Nat) ({ cls := "InsolvencyPoolModel", name := "leastEstate", desc := "(II)I" } : Jvm.MethodName)) ∈ lw_all := lw_g (lw_at lw_m2 19 rfl) rfl
theorem q281 : (Jvm.Cond.methodLink "InsolvencyPoolLaw" (67 : Nat) ({ cls := "InsolvencyPoolModel", name := "claims", desc := "(I)I" } : Jvm.MethodName)) ∈ lw_all := lw_g (lw_at lw_m2 23 rfl) rfl
theorem q285 : (Jvm.Cond.methodLink "InsolvencyPoolLaw" (71 : Nat) ({ cls := "InsolvencyPoolModel", name := "paid", desc := "(I)I" } : Jvm.MethodName)) ∈ lw_all := lw_g (lw_at lw_m2 27 rfl) rfl
theorem q289 : (Jvm.Cond.methodLink "InsolvencyPoolLaw" (75 : Nat) ({ cls := "InsolvencyPoolModel", name := "left", desc := "()I" } : Jvm.MethodName)) ∈ lw_all := lw_g (lw_at lw_m2 31 rfl) rfl
theorem q293 : (Jvm.Cond.methodLink "InsolvencyPoolLaw" (79 : Nat) ({ cls := "InsolvencyPoolModel", name := "next", desc := "()I" } : Jvm.MethodName)) ∈ lw_all := lw_g (lw_at lw_m2 35 rfl) rfl
theorem q297 : (Jvm.Cond.methodLink "InsolvencyPoolLaw" (83 : Nat) ({ cls := "InsolvencyPoolModel", name := "unpaid", desc := "()I" } : Jvm.MethodName)) ∈ lw_all := lw_g (lw_at lw_m2 39 rfl) rfl
theorem q301 : (Jvm.Cond.methodLink "InsolvencyPoolLaw" (87 : Nat) ({ cls := "InsolvencyPoolModel", name := "worst", desc := "()I" } : Jvm.MethodName)) ∈ lw_all := lw_g (lw_at lw_m2 43 rfl) rfl
end
section
/-! ===== how many places have a property ===== -/
def fb_ct (p : Nat → Bool) : Nat → Nat
  | 0 => 0
  | n + 1 => fb_ct p n + (if p n then 1 else 0)
theorem fb_ct_succ (p : Nat → Bool) (n : Nat) : fb_ct p (n + 1) = fb_ct p n + (if p n then 1 else 0) := rfl
theorem fb_ct_le (p : Nat → Bool) : ∀ n, fb_ct p n ≤ n
  | 0 => Nat.le_refl _
  | n + 1 => by
    have h := fb_ct_le p n
    rw [fb_ct_succ]
    split <;> omega
theorem fb_ct_step (p : Nat → Bool) (m : Nat) : ∀ n, fb_ct p m ≤ fb_ct p (m + n)
  | 0 => Nat.le_refl _
  | n + 1 => by
    have h := fb_ct_step p m n
    show fb_ct p m ≤ fb_ct p (m + n + 1)
    rw [fb_ct_succ]
    omega
theorem fb_ct_mono (p : Nat → Bool) {m n : Nat} (h : m ≤ n) : fb_ct p m ≤ fb_ct p n := by
  have := fb_ct_step p m (n - m)
  rwa [Nat.add_sub_cancel' h] at this
theorem fb_ct_cong {p q : Nat → Bool} : ∀ {n : Nat}, (∀ k, k < n → p k = q k) → fb_ct p n = fb_ct q n
  | 0, _ => rfl
  | n + 1, h => by
    rw [fb_ct_succ, fb_ct_succ, fb_ct_cong (fun k hk => h k (by omega)), h n (by omega)]
/-- one place changed -/
theorem fb_ct_out (p : Nat → Bool) (b : Bool) {i n : Nat} (h : n ≤ i) : fb_ct (fun k => if k = i then b else p k) n = fb_ct p n :=
  fb_ct_cong fun k hk => if_neg (by omega)
theorem fb_ct_upd (p : Nat → Bool) (b : Bool) {i : Nat} : ∀ {n : Nat}, i < n → fb_ct (fun k => if k = i then b else p k) n + (if p i then 1 else 0) = fb_ct p n + (if b then 1 else 0)
  | 0, h => absurd h (Nat.not_lt_zero i)
  | n + 1, h => by
    rw [fb_ct_succ, fb_ct_succ]
    rcases Nat.lt_or_ge i n with q | q
    · have := fb_ct_upd p b q
      have e : (if n = i then b else p n) = p n := if_neg (by omega)
      rw [e]
      omega
    · have e : i = n := by omega
      subst e
      rw [fb_ct_out p b (Nat.le_refl _)]
      simp only [if_true]
      omega
theorem fb_ct_sub {p q : Nat → Bool} : ∀ {n : Nat}, (∀ k, k < n → p k = true → q k = true) → fb_ct p n ≤ fb_ct q n
  | 0, _ => Nat.le_refl _
  | n + 1, h => by
    have h1 := fb_ct_sub (n := n) (p := p) (q := q) (fun k hk => h k (by omega))
    have h2 := h n (by omega)
    rw [fb_ct_succ, fb_ct_succ]
    cases hp : p n <;> cases hq : q n <;> simp_all <;> omega
theorem fb_ct_or {p q : Nat → Bool} : ∀ {n : Nat}, (∀ k, k < n → ¬ (p k = true ∧ q k = true)) → fb_ct (fun k => p k || q k) n = fb_ct p n + fb_ct q n
  | 0, _ => rfl
  | n + 1, h => by
    have h1 := fb_ct_or (n := n) (p := p) (q := q) (fun k hk => h k (by omega))
    have h2 := h n (by omega)
    rw [fb_ct_succ, fb_ct_succ, fb_ct_succ, h1]
    cases hp : p n <;> cases hq : q n <;> simp_all <;> omega
theorem fb_ct_not (p : Nat → Bool) : ∀ n, fb_ct p n + fb_ct (fun k => !p k) n = n
  | 0 => rfl
  | n + 1 => by
    have h := fb_ct_not p n
    rw [fb_ct_succ, fb_ct_succ]
    cases p n <;> simp <;> omega
theorem fb_ct_split (p : Nat → Bool) (m : Nat) : ∀ n, fb_ct p (m + n) = fb_ct p m + fb_ct (fun k => p (m + k)) n
  | 0 => rfl
  | n + 1 => by
    have h := fb_ct_split p m n
    show fb_ct p (m + n + 1) = _
    rw [fb_ct_succ, fb_ct_succ, h, Nat.add_assoc]
theorem fb_ct_zero {p : Nat → Bool} : ∀ {n : Nat}, fb_ct p n = 0 ↔ ∀ k, k < n → p k = false
  | 0 => ⟨fun _ k hk => absurd hk (Nat.not_lt_zero k), fun _ => rfl⟩
  | n + 1 => by
    have h := fb_ct_zero (p := p) (n := n)
    rw [fb_ct_succ]
    constructor
    · intro e k hk
      have e1 : fb_ct p n = 0 := by omega
      rcases Nat.lt_or_ge k n with q | q
      · exact h.mp e1 k q
      · have ek : k = n := by omega
        subst ek
        cases hp : p k
        · rfl
        · simp [hp] at e
    · intro a
      rw [h.mpr (fun k hk => a k (by omega)), a n (by omega)]
      rfl
theorem fb_ct_pos {p : Nat → Bool} {n : Nat} : 0 < fb_ct p n ↔ ∃ k, k < n ∧ p k = true := by
  constructor
  · intro h
    refine Classical.byContradiction fun hx => ?_
    have := fb_ct_zero.mpr (fun k hk => by
      cases hp : p k
      · rfl
      · exact absurd ⟨k, hk, hp⟩ hx : ∀ k, k < n → p k = false)
    omega
  · rintro ⟨k, hk, hp⟩
    rcases Nat.eq_zero_or_pos (fb_ct p n) with e | e
    · have := fb_ct_zero.mp e k hk
      rw [this] at hp
      cases hp
    · exact e
theorem fb_ct_all {p : Nat → Bool} {n : Nat} : fb_ct p n = n ↔ ∀ k, k < n → p k = true := by
  have h := fb_ct_not p n
  constructor
  · intro e k hk
    have z : fb_ct (fun k => !p k) n = 0 := by omega
    have := fb_ct_zero.mp z k hk
    cases hp : p k
    · simp [hp] at this
    · rfl
  · intro a
    have z : fb_ct (fun k => !p k) n = 0 := fb_ct_zero.mpr (fun k hk => by simp [a k hk])
    omega
/-! ===== sums over a range: one place changed, parts, bounds ===== -/
def fb_sm (f : Nat → Nat) : Nat → Nat
  | 0 => 0
  | n + 1 => fb_sm f n + f n
theorem fb_sm_succ (f : Nat → Nat) (n : Nat) : fb_sm f (n + 1) = fb_sm f n + f n := rfl
theorem fb_sm_cong {f g : Nat → Nat} : ∀ {n : Nat}, (∀ k, k < n → f k = g k) → fb_sm f n = fb_sm g n
  | 0, _ => rfl
  | n + 1, h => by rw [fb_sm_succ, fb_sm_succ, fb_sm_cong (fun k hk => h k (by omega)), h n (by omega)]
theorem fb_sm_out (f : Nat → Nat) (v : Nat) {i n : Nat} (h : n ≤ i) : fb_sm (fun k => if k = i then v else f k) n = fb_sm f n :=
  fb_sm_cong fun k hk => if_neg (by omega)
theorem fb_sm_upd (f : Nat → Nat) (v : Nat) {i : Nat} : ∀ {n : Nat}, i < n → fb_sm (fun k => if k = i then v else f k) n + f i = fb_sm f n + v
  | 0, h => absurd h (Nat.not_lt_zero i)
  | n + 1, h => by
    rw [fb_sm_succ, fb_sm_succ]
    rcases Nat.lt_or_ge i n with q | q
    · have := fb_sm_upd f v q
      have e : (if n = i then v else f n) = f n := if_neg (by omega)
      rw [e]
      omega
    · have e : i = n := by omega
      subst e
      rw [fb_sm_out f v (Nat.le_refl _)]
      simp only [if_true]
      omega
theorem fb_sm_add (f g : Nat → Nat) : ∀ n, fb_sm (fun k => f k + g k) n = fb_sm f n + fb_sm g n
  | 0 => rfl
  | n + 1 => by
    have h := fb_sm_add f g n
    rw [fb_sm_succ, fb_sm_succ, fb_sm_succ, h]
    omega
theorem fb_sm_le {f g : Nat → Nat} : ∀ {n : Nat}, (∀ k, k < n → f k ≤ g k) → fb_sm f n ≤ fb_sm g n
  | 0, _ => Nat.le_refl _
  | n + 1, h => by
    have h1 := fb_sm_le (n := n) (f := f) (g := g) (fun k hk => h k (by omega))
    have h2 := h n (by omega)
    rw [fb_sm_succ, fb_sm_succ]
    omega
theorem fb_sm_const (c : Nat) : ∀ n, fb_sm (fun _ => c) n = n * c
  | 0 => by rw [Nat.zero_mul]; rfl
  | n + 1 => by rw [fb_sm_succ, fb_sm_const c n, Nat.succ_mul]
theorem fb_sm_bound {f : Nat → Nat} {c n : Nat} (h : ∀ k, k < n → f k ≤ c) : fb_sm f n ≤ n * c := by
  rw [← fb_sm_const c n]
  exact fb_sm_le h
theorem fb_sm_mono (f : Nat → Nat) (m : Nat) : ∀ n, fb_sm f m ≤ fb_sm f (m + n)
  | 0 => Nat.le_refl _
  | n + 1 => by
    have h := fb_sm_mono f m n
    show fb_sm f m ≤ fb_sm f (m + n + 1)
    rw [fb_sm_succ]
    omega
theorem fb_sm_part (f : Nat → Nat) {i n : Nat} (h : i < n) : fb_sm f i + f i ≤ fb_sm f n := by
  have := fb_sm_mono f (i + 1) (n - (i + 1))
  rw [fb_sm_succ, show i + 1 + (n - (i + 1)) = n by omega] at this
  exact this
theorem fb_sm_split (f : Nat → Nat) (m : Nat) : ∀ n, fb_sm f (m + n) = fb_sm f m + fb_sm (fun k => f (m + k)) n
  | 0 => rfl
  | n + 1 => by
    have h := fb_sm_split f m n
    show fb_sm f (m + n + 1) = _
    rw [fb_sm_succ, fb_sm_succ, h, Nat.add_assoc]
theorem fb_sm_zero {f : Nat → Nat} {n : Nat} (h : fb_sm f n = 0) : ∀ k, k < n → f k = 0 := fun k hk => by
  have := fb_sm_part f hk
  omega
/-! ===== signed ints as whole numbers, within bounds ===== -/
theorem fb_rng (x : Int32) : -2147483648 ≤ x.toInt ∧ x.toInt < 2147483648 := by
  have h1 := Int32.le_toInt x
  have h2 := Int32.toInt_lt x
  omega
theorem fb_bmod {z : Int} (h1 : -2147483648 ≤ z) (h2 : z < 2147483648) : z.bmod (2 ^ 32) = z := by
  rw [Int.bmod_eq_of_le (by omega) (by omega)]
theorem fb_addI {x y : Int32} (h1 : -2147483648 ≤ x.toInt + y.toInt) (h2 : x.toInt + y.toInt < 2147483648) : (x + y).toInt = x.toInt + y.toInt := by
  rw [Int32.toInt_add, fb_bmod h1 h2]
theorem fb_subI {x y : Int32} (h1 : -2147483648 ≤ x.toInt - y.toInt) (h2 : x.toInt - y.toInt < 2147483648) : (x - y).toInt = x.toInt - y.toInt := by
  rw [Int32.toInt_sub, fb_bmod h1 h2]
theorem fb_mulI {x y : Int32} (h1 : -2147483648 ≤ x.toInt * y.toInt) (h2 : x.toInt * y.toInt < 2147483648) : (x * y).toInt = x.toInt * y.toInt := by
  rw [Int32.toInt_mul, fb_bmod h1 h2]
theorem fb_negI {x : Int32} (h : x.toInt ≠ -2147483648) : (-x).toInt = -x.toInt := by
  have := fb_rng x
  rw [Int32.toInt_neg, fb_bmod (by omega) (by omega)]
theorem fb_ofI {z : Int} (h1 : -2147483648 ≤ z) (h2 : z < 2147483648) : (Int32.ofInt z).toInt = z := by
  rw [Int32.toInt_ofInt, fb_bmod h1 h2]
theorem fb_asI (x : Int32) : Int32.ofInt x.toInt = x := Int32.ofInt_toInt x
/-! ===== the first index with a property; a count ===== -/
/-- the first k < n with p k, n if there is none -/
def fa_first (p : Nat → Bool) : Nat → Nat
  | 0 => 0
  | n + 1 => if fa_first p n < n then fa_first p n else if p n then n else n + 1
theorem fa_first_le (p : Nat → Bool) : ∀ n, fa_first p n ≤ n
  | 0 => Nat.le_refl 0
  | n + 1 => by
    have ih := fa_first_le p n
    unfold fa_first
    split
    · omega
    · split
      · omega
      · omega
theorem fa_first_no (p : Nat → Bool) : ∀ n k, k < fa_first p n → p k = false
  | 0, k, h => absurd h (Nat.not_lt_zero k)
  | n + 1, k, h => by
    have ih := fa_first_no p n
    have hl := fa_first_le p n
    unfold fa_first at h
    split at h
    · exact ih k h
    · rename_i h1
      split at h
      · exact ih k (by omega)
      · rename_i h2
        by_cases e : k = n
        · subst e
          exact Bool.eq_false_iff.mpr h2
        · exact ih k (by omega)
theorem fa_first_yes (p : Nat → Bool) : ∀ n, fa_first p n < n → p (fa_first p n) = true
  | 0, h => absurd h (Nat.not_lt_zero _)
  | n + 1, h => by
    have ih := fa_first_yes p n
    have hl := fa_first_le p n
    unfold fa_first at h ⊢
    split at h
    · rename_i h1
      rw [if_pos h1]
      exact ih h1
    · rename_i h1
      rw [if_neg h1]
      split at h
      · rename_i h2
        rw [if_pos h2]
        exact h2
      · omega
end
section
/-! ===== pure: greedy handing out of units: the order of units, the invariant, that it fixes the vector ===== -/
def ip_up (f : Nat → Nat) (k v : Nat) : Nat → Nat := fun j => if j = k then v else f j
theorem ip_up_s {f : Nat → Nat} {k v : Nat} : ip_up f k v k = v := if_pos rfl
theorem ip_up_n {f : Nat → Nat} {k v j : Nat} (h : j ≠ k) : ip_up f k v j = f j := if_neg h
theorem ip_sm_eq {f g : Nat → Nat} : ∀ {n : Nat}, (∀ k, k < n → f k ≤ g k) → fb_sm g n ≤ fb_sm f n → ∀ k, k < n → f k = g k
  | 0, _, _, k, hk => absurd hk (Nat.not_lt_zero k)
  | n + 1, h, hs, k, hk => by
    have h1 := fb_sm_le (n := n) (f := f) (g := g) (fun k hk => h k (by omega))
    have h2 := h n (by omega)
    rw [fb_sm_succ, fb_sm_succ] at hs
    by_cases e : k = n
    · rw [e]; omega
    · exact ip_sm_eq (n := n) (fun k hk => h k (by omega)) (by omega) k (by omega)
theorem ip_ct_sm (q : Nat → Bool) : ∀ n, fb_ct q n = fb_sm (fun c => if q c then 1 else 0) n
  | 0 => rfl
  | n + 1 => by rw [fb_ct_succ, fb_sm_succ, ip_ct_sm q n]
/-- the sum of G over the creditors of rank r -/
def ip_rs (R : Nat → Nat) (r : Nat) (G : Nat → Nat) (n : Nat) : Nat := fb_sm (fun c => if R c = r then G c else 0) n
theorem ip_rs_succ (R : Nat → Nat) (r : Nat) (G : Nat → Nat) (n : Nat) : ip_rs R r G (n + 1) = ip_rs R r G n + if R n = r then G n else 0 := rfl
theorem ip_rs_cong {R G G' : Nat → Nat} {r n : Nat} (h : ∀ c, c < n → R c = r → G c = G' c) : ip_rs R r G n = ip_rs R r G' n := by
  refine fb_sm_cong fun k hk => ?_
  by_cases e : R k = r
  · rw [if_pos e, if_pos e]; exact h k hk e
  · rw [if_neg e, if_neg e]
theorem ip_rs_le {R G G' : Nat → Nat} {r n : Nat} (h : ∀ c, c < n → R c = r → G c ≤ G' c) : ip_rs R r G n ≤ ip_rs R r G' n := by
  refine fb_sm_le fun k hk => ?_
  by_cases e : R k = r
  · rw [if_pos e, if_pos e]; exact h k hk e
  · rw [if_neg e, if_neg e]; exact Nat.le_refl _
theorem ip_rs_eq {R G G' : Nat → Nat} {r n : Nat} (h : ∀ c, c < n → R c = r → G c ≤ G' c) (hs : ip_rs R r G' n ≤ ip_rs R r G n) : ∀ c, c < n → R c = r → G c = G' c := by
  intro c hc rc
  have := ip_sm_eq (f := fun c => if R c = r then G c else 0) (g := fun c => if R c = r then G' c else 0) (n := n) (fun k hk => by
    by_cases e : R k = r
    · rw [if_pos e, if_pos e]; exact h k hk e
    · rw [if_neg e, if_neg e]; exact Nat.le_refl _) hs c hc
  simp only [if_pos rc] at this
  exact this
theorem ip_rs_zero {R : Nat → Nat} {r n : Nat} {G : Nat → Nat} (h : ∀ c, c < n → R c = r → G c = 0) : ip_rs R r G n = 0 := by
  have e : ip_rs R r G n = ip_rs R r (fun _ => 0) n := ip_rs_cong h
  rw [e]
  have : ∀ n, ip_rs R r (fun _ => 0) n = 0 := by
    intro n
    induction n with
    | zero => rfl
    | succ n ih => rw [ip_rs_succ, ih]; split <;> rfl
  exact this n
theorem ip_rs_up {R G : Nat → Nat} {r n b : Nat} (hb : b < n) (rb : R b = r) : ip_rs R r (ip_up G b (G b + 1)) n = ip_rs R r G n + 1 := by
  have h := fb_sm_upd (fun c => if R c = r then G c else 0) (G b + 1) (i := b) (n := n) hb
  have e : ip_rs R r (ip_up G b (G b + 1)) n = fb_sm (fun k => if k = b then G b + 1 else if R k = r then G k else 0) n := by
    refine fb_sm_cong fun k hk => ?_
    by_cases e : k = b
    · rw [e, if_pos rb, if_pos rfl, ip_up_s]
    · rw [if_neg e, ip_up_n e]
  rw [e]
  unfold ip_rs
  simp only [if_pos rb] at h
  omega
theorem ip_rs_pos {R G G' : Nat → Nat} {r n : Nat} (h : ip_rs R r G n < ip_rs R r G' n) : ∃ c, c < n ∧ R c = r ∧ G c < G' c := by
  refine Classical.byContradiction fun hx => ?_
  have := ip_rs_le (R := R) (G := G') (G' := G) (r := r) (n := n) (fun c hc rc => by
    rcases Nat.lt_or_ge (G c) (G' c) with q | q
    · exact absurd ⟨c, hc, rc, q⟩ hx
    · exact q)
  omega
/-- unit j of c comes before unit j' of d -/
def ip_pr (num : Nat → Nat → Nat) (den : Nat → Nat) (c j d j' : Nat) : Prop := num c j * den d < num d j' * den c ∨ (num c j * den d = num d j' * den c ∧ c < d)
/-- units are handed out in that order, from base on, up to lim -/
def ip_I (R : Nat → Nat) (r : Nat) (num : Nat → Nat → Nat) (den base lim : Nat → Nat) (n : Nat) (G : Nat → Nat) : Prop :=
  (∀ c, c < n → R c = r → base c ≤ G c ∧ G c ≤ lim c) ∧ ∀ c d, c < n → d < n → R c = r → R d = r → base c < G c → G d < lim d → ip_pr num den c (G c - 1) d (G d)
def ip_nice (R : Nat → Nat) (r : Nat) (num : Nat → Nat → Nat) (den lim : Nat → Nat) (n : Nat) : Prop :=
  ∀ c, c < n → R c = r → (0 < lim c → 0 < den c) ∧ ∀ i j, i < j → num c i < num c j
theorem ip_mono {num : Nat → Nat → Nat} {c a b : Nat} (h : ∀ i j, i < j → num c i < num c j) (hab : a ≤ b) : num c a ≤ num c b := by
  rcases Nat.lt_or_ge a b with q | q
  · exact Nat.le_of_lt (h _ _ q)
  · have e : a = b := by omega
    exact Nat.le_of_eq (by rw [e])
theorem ip_I_no {R : Nat → Nat} {r : Nat} {num : Nat → Nat → Nat} {den base lim : Nat → Nat} {n : Nat} {G G' : Nat → Nat} (hN : ip_nice R r num den lim n) (h : ip_I R r num den base lim n G) (h' : ip_I R r num den base lim n G') {c d : Nat} (hc : c < n) (hd : d < n) (rc : R c = r) (rd : R d = r) (h1 : G' c < G c) (h2 : G d < G' d) : False := by
  have p1 := h.2 c d hc hd rc rd (by have := (h'.1 c hc rc).1; omega) (by have := (h'.1 d hd rd).2; omega)
  have p2 := h'.2 d c hd hc rd rc (by have := (h.1 d hd rd).1; omega) (by have := (h.1 c hc rc).2; omega)
  have m1 : num c (G' c) ≤ num c (G c - 1) := ip_mono (hN c hc rc).2 (by omega)
  have m2 : num d (G d) ≤ num d (G' d - 1) := ip_mono (hN d hd rd).2 (by omega)
  have k1 := Nat.mul_le_mul_right (den d) m1
  have k2 := Nat.mul_le_mul_right (den c) m2
  unfold ip_pr at p1 p2
  generalize num c (G' c) * den d = x1 at *
  generalize num c (G c - 1) * den d = x2 at *
  generalize num d (G d) * den c = x3 at *
  generalize num d (G' d - 1) * den c = x4 at *
  omega
theorem ip_I_uniq {R : Nat → Nat} {r : Nat} {num : Nat → Nat → Nat} {den base lim : Nat → Nat} {n : Nat} {G G' : Nat → Nat} (hN : ip_nice R r num den lim n) (h : ip_I R r num den base lim n G) (h' : ip_I R r num den base lim n G') (hs : ip_rs R r G n = ip_rs R r G' n) : ∀ c, c < n → R c = r → G c = G' c := by
  refine ip_rs_eq (fun c hc rc => ?_) (by omega)
  refine Classical.byContradiction fun hx => ?_
  have h1 : G' c < G c := by omega
  have h2 : ∃ d, d < n ∧ R d = r ∧ G d < G' d := by
    refine Classical.byContradiction fun hy => ?_
    have := ip_rs_eq (R := R) (r := r) (n := n) (G := G') (G' := G) (fun d hd rd => by
      rcases Nat.lt_or_ge (G d) (G' d) with q | q
      · exact absurd ⟨d, hd, rd, q⟩ hy
      · exact q) (by omega) c hc rc
    omega
  obtain ⟨d, hd, rd, h2⟩ := h2
  exact ip_I_no hN h h' hc hd rc rd h1 h2
theorem ip_I_step {R : Nat → Nat} {r : Nat} {num : Nat → Nat → Nat} {den base lim : Nat → Nat} {n b : Nat} {G : Nat → Nat} (hN : ip_nice R r num den lim n) (h : ip_I R r num den base lim n G) (hb : b < n) (rb : R b = r) (hlt : G b < lim b)
    (hbest : ∀ d, d < n → R d = r → G d < lim d → d ≠ b → ip_pr num den b (G b) d (G d)) : ip_I R r num den base lim n (ip_up G b (G b + 1)) := by
  refine ⟨fun c hc rc => ?_, fun c d hc hd rc rd h1 h2 => ?_⟩
  · by_cases e : c = b
    · rw [e, ip_up_s]; have := h.1 b hb rb; omega
    · rw [ip_up_n e]; exact h.1 c hc rc
  · by_cases e : c = b
    · rw [e] at h1 ⊢
      rw [ip_up_s] at h1 ⊢
      rw [Nat.add_sub_cancel]
      by_cases e2 : d = b
      · rw [e2, ip_up_s]
        left
        exact Nat.mul_lt_mul_of_pos_right ((hN b hb rb).2 _ _ (Nat.lt_succ_self _)) ((hN b hb rb).1 (by omega))
      · rw [ip_up_n e2] at h2 ⊢
        exact hbest d hd rd h2 e2
    · rw [ip_up_n e] at h1 ⊢
      by_cases e2 : d = b
      · rw [e2] at h2 ⊢
        rw [ip_up_s] at h2 ⊢
        have p := h.2 c b hc hb rc rb h1 hlt
        have m := (hN b hb rb).2 (G b) (G b + 1) (by omega)
        have dc : 0 < den c := (hN c hc rc).1 (by have := (h.1 c hc rc).2; omega)
        have k := Nat.mul_lt_mul_of_pos_right m dc
        left
        unfold ip_pr at p
        generalize num c (G c - 1) * den b = x1 at *
        generalize num b (G b) * den c = x2 at *
        generalize num b (G b + 1) * den c = x3 at *
        omega
      · rw [ip_up_n e2] at h2 ⊢
        exact h.2 c d hc hd rc rd h1 h2
theorem ip_I_cong {R : Nat → Nat} {r : Nat} {num : Nat → Nat → Nat} {den base base' lim : Nat → Nat} {n : Nat} {G G' : Nat → Nat} (h : ip_I R r num den base lim n G) (hb : ∀ c, c < n → R c = r → base c = base' c) (hg : ∀ c, c < n → R c = r → G c = G' c) : ip_I R r num den base' lim n G' := by
  refine ⟨fun c hc rc => ?_, fun c d hc hd rc rd h1 h2 => ?_⟩
  · rw [← hb c hc rc, ← hg c hc rc]; exact h.1 c hc rc
  · rw [← hb c hc rc, ← hg c hc rc] at h1
    rw [← hg d hd rd] at h2
    rw [← hg c hc rc, ← hg d hd rd]
    exact h.2 c d hc hd rc rd h1 h2
/-- nothing handed out yet -/
theorem ip_I_base {R : Nat → Nat} {r : Nat} {num : Nat → Nat → Nat} {den base lim : Nat → Nat} {n : Nat} (h : ∀ c, c < n → R c = r → base c ≤ lim c) : ip_I R r num den base lim n base :=
  ⟨fun c hc rc => ⟨Nat.le_refl _, h c hc rc⟩, fun c d _ _ _ _ h1 _ => absurd h1 (Nat.lt_irrefl _)⟩
/-! ===== the search for the best one ===== -/
def ip_bst (inn : Nat → Bool) (bet : Nat → Nat → Bool) : Nat → Option Nat
  | 0 => none
  | i + 1 => if inn i then (match ip_bst inn bet i with | none => some i | some b => if bet i b then some i else some b) else ip_bst inn bet i
theorem ip_bst_out {inn : Nat → Bool} {bet : Nat → Nat → Bool} {i : Nat} (h : inn i = false) : ip_bst inn bet (i + 1) = ip_bst inn bet i := by
  simp [ip_bst, h]
theorem ip_bst_new {inn : Nat → Bool} {bet : Nat → Nat → Bool} {i : Nat} (h : inn i = true) (hb : ip_bst inn bet i = none) : ip_bst inn bet (i + 1) = some i := by
  simp [ip_bst, h, hb]
theorem ip_bst_yes {inn : Nat → Bool} {bet : Nat → Nat → Bool} {i b : Nat} (h : inn i = true) (hb : ip_bst inn bet i = some b) (ht : bet i b = true) : ip_bst inn bet (i + 1) = some i := by
  simp [ip_bst, h, hb, ht]
theorem ip_bst_no {inn : Nat → Bool} {bet : Nat → Nat → Bool} {i b : Nat} (h : inn i = true) (hb : ip_bst inn bet i = some b) (ht : bet i b = false) : ip_bst inn bet (i + 1) = some b := by
  simp [ip_bst, h, hb, ht]
theorem ip_bst_lt {inn : Nat → Bool} {bet : Nat → Nat → Bool} : ∀ {n b : Nat}, ip_bst inn bet n = some b → b < n ∧ inn b = true
  | 0, b, h => by simp [ip_bst] at h
  | n + 1, b, h => by
    cases hi : inn n with
    | false => rw [ip_bst_out hi] at h; have := ip_bst_lt h; exact ⟨by omega, this.2⟩
    | true =>
      cases hb : ip_bst inn bet n with
      | none => rw [ip_bst_new hi hb] at h; cases h; exact ⟨by omega, hi⟩
      | some b0 =>
        have hl := ip_bst_lt hb
        cases ht : bet n b0 with
        | true => rw [ip_bst_yes hi hb ht] at h; cases h; exact ⟨by omega, hi⟩
        | false => rw [ip_bst_no hi hb ht] at h; cases h; exact ⟨by omega, hl.2⟩
theorem ip_tr {Kc Kb Kd Dc Db Dd : Nat} (hd : 0 < Dd) (h1 : Kc * Db < Kb * Dc) (h2 : Kb * Dd ≤ Kd * Db) : Kc * Dd < Kd * Dc := by
  have a : Kc * Db * Dd < Kb * Dc * Dd := Nat.mul_lt_mul_of_pos_right h1 hd
  have b : Kb * Dd * Dc ≤ Kd * Db * Dc := Nat.mul_le_mul_right _ h2
  have e1 : Kc * Dd * Db = Kc * Db * Dd := by ac_rfl
  have e2 : Kb * Dd * Dc = Kb * Dc * Dd := by ac_rfl
  have e3 : Kd * Dc * Db = Kd * Db * Dc := by ac_rfl
  have k : Kc * Dd * Db < Kd * Dc * Db := by omega
  exact Nat.lt_of_mul_lt_mul_right k
theorem ip_bst_spec (inn : Nat → Bool) (bet : Nat → Nat → Bool) (K D : Nat → Nat) : ∀ (n : Nat), (∀ c, c < n → inn c = true → 0 < D c) → (∀ i b, i < n → b < n → inn i = true → inn b = true → (bet i b = true ↔ K i * D b < K b * D i)) →
    (ip_bst inn bet n = none → ∀ c, c < n → inn c = false) ∧ (∀ b, ip_bst inn bet n = some b → ∀ d, d < n → inn d = true → d ≠ b → (K b * D d < K d * D b ∨ (K b * D d = K d * D b ∧ b < d)))
  | 0, _, _ => ⟨fun _ c hc => absurd hc (Nat.not_lt_zero c), fun b hb => by simp [ip_bst] at hb⟩
  | n + 1, hD, hB => by
    have ih := ip_bst_spec inn bet K D n (fun c hc => hD c (by omega)) (fun i b hi hb => hB i b (by omega) (by omega))
    cases hi : inn n with
    | false =>
      rw [ip_bst_out hi]
      refine ⟨fun h c hc => ?_, fun b h d hd hdi hne => ?_⟩
      · by_cases ec : c = n
        · rw [ec]; exact hi
        · exact ih.1 h c (by omega)
      · by_cases ed : d = n
        · rw [ed, hi] at hdi; cases hdi
        · exact ih.2 b h d (by omega) hdi hne
    | true =>
      cases hb : ip_bst inn bet n with
      | none =>
        rw [ip_bst_new hi hb]
        refine ⟨fun h => (by cases h), fun b h d hd hdi hne => ?_⟩
        cases h
        have := ih.1 hb d (by omega)
        rw [this] at hdi; cases hdi
      | some b0 =>
        have h2 := ip_bst_lt hb
        have h3 := ih.2 b0 hb
        cases ht : bet n b0 with
        | true =>
          rw [ip_bst_yes hi hb ht]
          refine ⟨fun h => (by cases h), fun b h d hd hdi hne => ?_⟩
          cases h
          have k1 := (hB n b0 (by omega) (by omega) hi h2.2).mp ht
          left
          by_cases ed : d = b0
          · rw [ed]; exact k1
          · have k2 := h3 d (by omega) hdi ed
            exact ip_tr (hD d hd hdi) k1 (by omega)
        | false =>
          rw [ip_bst_no hi hb ht]
          refine ⟨fun h => (by cases h), fun b h d hd hdi hne => ?_⟩
          cases h
          by_cases ed : d = n
          · have k1 : ¬ (K n * D b0 < K b0 * D n) := fun q => by
              have := (hB n b0 (by omega) (by omega) hi h2.2).mpr q
              rw [ht] at this; cases this
            rw [ed]
            have := h2.1
            generalize K n * D b0 = x1 at *
            generalize K b0 * D n = x2 at *
            omega
          · exact h3 d (by omega) hdi hne
end
section
/-! ===== pure: the closed forms (equal awards, equal losses, quotas) are handed out in the order of units ===== -/
/-- of those with q the first 'rest' get one more -/
theorem ip_first_sum (q : Nat → Bool) (rest : Nat) : ∀ n, fb_sm (fun c => if q c = true ∧ fb_ct q c < rest then 1 else 0) n = min rest (fb_ct q n)
  | 0 => by simp [fb_sm, fb_ct]
  | n + 1 => by
    rw [fb_sm_succ, fb_ct_succ, ip_first_sum q rest n]
    cases hq : q n <;> simp <;> (try split) <;> omega
def ip_mn (L : Nat → Nat) (v c : Nat) : Nat := if L c < v then L c else v
def ip_ab (L : Nat → Nat) (v : Nat) : Nat → Bool := fun c => decide (v < L c)
/-- what award gives c -/
def ip_aw (L : Nat → Nat) (low rest c : Nat) : Nat := ip_mn L low c + if ip_ab L low c = true ∧ fb_ct (ip_ab L low) c < rest then 1 else 0
/-- low is the level at which award stops -/
def ip_awl (L : Nat → Nat) (n units low : Nat) : Prop := low ≤ 150 ∧ fb_sm (ip_mn L low) n ≤ units ∧ (low = 150 ∨ units < fb_sm (ip_mn L (low + 1)) n)
theorem ip_mn_succ (L : Nat → Nat) (v n : Nat) : fb_sm (ip_mn L (v + 1)) n = fb_sm (ip_mn L v) n + fb_ct (ip_ab L v) n := by
  rw [ip_ct_sm, ← fb_sm_add]
  refine fb_sm_cong fun k _ => ?_
  simp only [ip_mn, ip_ab, decide_eq_true_eq]
  split <;> split <;> split <;> omega
theorem ip_aw_rest {L : Nat → Nat} {n units low : Nat} (h : ip_awl L n units low) (hL : ∀ c, c < n → L c ≤ 150) (hu : units ≤ fb_sm L n) : units - fb_sm (ip_mn L low) n ≤ fb_ct (ip_ab L low) n := by
  obtain ⟨-, h1, h2 | h2⟩ := h
  · subst h2
    have e : fb_sm (ip_mn L 150) n = fb_sm L n := fb_sm_cong fun k hk => by
      have := hL k hk
      unfold ip_mn
      split <;> omega
    omega
  · rw [ip_mn_succ] at h2
    omega
theorem ip_aw_sum {L : Nat → Nat} {n units low : Nat} (h : ip_awl L n units low) (hL : ∀ c, c < n → L c ≤ 150) (hu : units ≤ fb_sm L n) : fb_sm (ip_aw L low (units - fb_sm (ip_mn L low) n)) n = units := by
  have h1 := ip_aw_rest h hL hu
  have h2 := h.2.1
  show fb_sm (fun c => ip_mn L low c + if ip_ab L low c = true ∧ fb_ct (ip_ab L low) c < units - fb_sm (ip_mn L low) n then 1 else 0) n = units
  rw [fb_sm_add (fun c => ip_mn L low c), ip_first_sum]
  have e : fb_sm (fun c => ip_mn L low c) n = fb_sm (ip_mn L low) n := rfl
  rw [e]
  omega
def ip_eqN (_ j : Nat) : Nat := j
def ip_one (_ : Nat) : Nat := 1
def ip_zer (_ : Nat) : Nat := 0
theorem ip_nice_eq (R : Nat → Nat) (r : Nat) (lim : Nat → Nat) (n : Nat) : ip_nice R r ip_eqN ip_one lim n := fun _ _ _ => ⟨fun _ => Nat.one_pos, fun _ _ h => h⟩
theorem ip_aw_I {R L lim G : Nat → Nat} {r n units low : Nat} (h : ip_awl L n units low) (hl : ∀ c, c < n → lim c ≤ 150) (h1 : ∀ c, c < n → L c = if R c = r then lim c else 0) (hu : units ≤ ip_rs R r lim n)
    (hG : ∀ c, c < n → R c = r → G c = ip_aw L low (units - fb_sm (ip_mn L low) n) c) : ip_I R r ip_eqN ip_one ip_zer lim n G ∧ ip_rs R r G n = units := by
  have hL : ∀ c, c < n → L c ≤ 150 := fun c hc => by
    rw [h1 c hc]; have := hl c hc; split <;> omega
  have eL : fb_sm L n = ip_rs R r lim n := fb_sm_cong h1
  have hs := ip_aw_sum h hL (by omega)
  generalize units - fb_sm (ip_mn L low) n = rest at *
  constructor
  · refine ⟨fun c hc rc => ⟨Nat.zero_le _, ?_⟩, fun c d hc hd rc rd h2 h3 => ?_⟩
    · rw [hG c hc rc]
      have e := h1 c hc
      rw [if_pos rc] at e
      unfold ip_aw ip_mn ip_ab
      simp only [decide_eq_true_eq]
      split <;> split <;> omega
    · rw [hG c hc rc] at h2 ⊢
      rw [hG d hd rd] at h3 ⊢
      have e := h1 d hd
      rw [if_pos rd] at e
      rw [← e] at h3
      have mono : c < d ∨ fb_ct (ip_ab L low) d ≤ fb_ct (ip_ab L low) c := by
        rcases Nat.lt_or_ge c d with q | q
        · exact Or.inl q
        · exact Or.inr (fb_ct_mono _ q)
      unfold ip_pr ip_eqN ip_one
      simp only [Nat.mul_one]
      unfold ip_zer at h2
      unfold ip_aw ip_mn at *
      simp only [ip_ab, decide_eq_true_eq] at *
      revert h2 h3
      generalize fb_ct (ip_ab L low) d = cd at *
      generalize fb_ct (ip_ab L low) c = cc at *
      clear hs hG
      split <;> split <;> split <;> split <;> intro h2 h3 <;> omega
  · rw [← hs]
    refine fb_sm_cong fun c hc => ?_
    by_cases e : R c = r
    · rw [if_pos e, hG c hc e]
    · have e2 := h1 c hc
      rw [if_neg e] at e2
      rw [if_neg e]
      unfold ip_aw ip_mn ip_ab
      simp only [e2, decide_eq_true_eq]
      split <;> split <;> omega
/-! ===== losses ===== -/
def ip_lq (L : Nat → Nat) (v : Nat) : Nat → Bool := fun c => decide (v ≤ L c ∧ 0 < L c ∧ 0 < v)
def ip_lo (L : Nat → Nat) (low rest c : Nat) : Nat := (L c - low) + if ip_lq L low c = true ∧ fb_ct (ip_lq L low) c < rest then 1 else 0
def ip_lol (L : Nat → Nat) (n units low : Nat) : Prop := low ≤ 150 ∧ fb_sm (fun c => L c - low) n ≤ units ∧ (low = 0 ∨ units < fb_sm (fun c => L c - (low - 1)) n)
theorem ip_lo_pred (L : Nat → Nat) {v : Nat} (n : Nat) (hv : 0 < v) : fb_sm (fun c => L c - (v - 1)) n = fb_sm (fun c => L c - v) n + fb_ct (ip_lq L v) n := by
  rw [ip_ct_sm, ← fb_sm_add]
  refine fb_sm_cong fun k _ => ?_
  simp only [ip_lq, decide_eq_true_eq]
  split <;> omega
theorem ip_lo_rest {L : Nat → Nat} {n units low : Nat} (h : ip_lol L n units low) (hu : units ≤ fb_sm L n) : units - fb_sm (fun c => L c - low) n ≤ fb_ct (ip_lq L low) n := by
  obtain ⟨-, h1, h2⟩ := h
  by_cases e : low = 0
  · subst e
    have e : fb_sm (fun c => L c - 0) n = fb_sm L n := fb_sm_cong fun k hk => by omega
    omega
  · rcases h2 with h2 | h2
    · exact absurd h2 e
    · rw [ip_lo_pred L n (by omega)] at h2
      omega
theorem ip_lo_sum {L : Nat → Nat} {n units low : Nat} (h : ip_lol L n units low) (hu : units ≤ fb_sm L n) : fb_sm (ip_lo L low (units - fb_sm (fun c => L c - low) n)) n = units := by
  have h1 := ip_lo_rest h hu
  have h2 := h.2.1
  show fb_sm (fun c => (L c - low) + if ip_lq L low c = true ∧ fb_ct (ip_lq L low) c < units - fb_sm (fun c => L c - low) n then 1 else 0) n = units
  rw [fb_sm_add (fun c => L c - low), ip_first_sum]
  omega
def ip_loN (W : Nat → Nat) (c j : Nat) : Nat := 150 + j - W c
theorem ip_nice_lo {W : Nat → Nat} (R : Nat → Nat) (r : Nat) (lim : Nat → Nat) (n : Nat) (hW : ∀ c, W c ≤ 150) : ip_nice R r (ip_loN W) ip_one lim n := fun c _ _ => ⟨fun _ => Nat.one_pos, fun i j h => by
  have := hW c
  unfold ip_loN
  omega⟩
theorem ip_lo_I {R L W B G : Nat → Nat} {r n units low : Nat} (h : ip_lol L n units low) (hW : ∀ c, W c ≤ 150) (hB : ∀ c, c < n → R c = r → B c ≤ W c) (h1 : ∀ c, c < n → L c = if R c = r then W c - B c else 0) (hu : ip_rs R r B n + units ≤ ip_rs R r W n)
    (hG : ∀ c, c < n → R c = r → G c = B c + ip_lo L low (units - fb_sm (fun c => L c - low) n) c) : ip_I R r (ip_loN W) ip_one B W n G ∧ ip_rs R r G n = ip_rs R r B n + units := by
  have eL : fb_sm L n + ip_rs R r B n = ip_rs R r W n := by
    unfold ip_rs
    rw [← fb_sm_add]
    refine fb_sm_cong fun c hc => ?_
    rw [h1 c hc]
    by_cases e : R c = r
    · have := hB c hc e
      simp only [if_pos e]
      omega
    · simp only [if_neg e]
  have hs := ip_lo_sum h (by omega)
  generalize units - fb_sm (fun c => L c - low) n = rest at *
  constructor
  · refine ⟨fun c hc rc => ?_, fun c d hc hd rc rd h2 h3 => ?_⟩
    · rw [hG c hc rc]
      have e := h1 c hc
      rw [if_pos rc] at e
      have := hB c hc rc
      unfold ip_lo ip_lq
      simp only [decide_eq_true_eq]
      split <;> omega
    · rw [hG c hc rc] at h2 ⊢
      rw [hG d hd rd] at h3 ⊢
      have e := h1 d hd
      rw [if_pos rd] at e
      have e' := h1 c hc
      rw [if_pos rc] at e'
      have b1 := hB c hc rc
      have b2 := hB d hd rd
      have w1 := hW c
      have w2 := hW d
      have mono : c < d ∨ fb_ct (ip_lq L low) d ≤ fb_ct (ip_lq L low) c := by
        rcases Nat.lt_or_ge c d with q | q
        · exact Or.inl q
        · exact Or.inr (fb_ct_mono _ q)
      unfold ip_pr ip_loN ip_one
      simp only [Nat.mul_one]
      unfold ip_lo at *
      have q1 : ip_lq L low c = true ↔ (low ≤ L c ∧ 0 < L c ∧ 0 < low) := by simp [ip_lq]
      have q2 : ip_lq L low d = true ↔ (low ≤ L d ∧ 0 < L d ∧ 0 < low) := by simp [ip_lq]
      simp only [q1] at h2 ⊢
      simp only [q2] at h3 ⊢
      revert h2 h3
      generalize fb_ct (ip_lq L low) d = cd at *
      generalize fb_ct (ip_lq L low) c = cc at *
      clear hs hG
      split <;> split <;> intro h2 h3 <;> omega
  · rw [← hs]
    unfold ip_rs
    rw [← fb_sm_add]
    refine fb_sm_cong fun c hc => ?_
    by_cases e : R c = r
    · simp only [if_pos e]
      rw [hG c hc e]
    · have e2 := h1 c hc
      rw [if_neg e] at e2
      simp only [if_neg e]
      unfold ip_lo
      have q1 : ip_lq L low c = true ↔ (low ≤ L c ∧ 0 < L c ∧ 0 < low) := by simp [ip_lq]
      simp only [q1]
      split <;> omega
/-! ===== quotas ===== -/
def ip_shN (_ j : Nat) : Nat := j + 1
theorem ip_nice_sh (R : Nat → Nat) (r : Nat) (W : Nat → Nat) (n : Nat) : ip_nice R r ip_shN W W n := fun c _ _ => ⟨fun h => h, fun i j h => by unfold ip_shN; omega⟩
theorem ip_q_I {R W G : Nat → Nat} {r n P S : Nat} (hS : 0 < S) (hP : P ≤ S) (hG : ∀ c, c < n → R c = r → G c = P * W c / S) : ip_I R r ip_shN W ip_zer W n G := by
  refine ⟨fun c hc rc => ⟨Nat.zero_le _, ?_⟩, fun c d hc hd rc rd h2 h3 => ?_⟩
  · rw [hG c hc rc]
    refine Nat.div_le_of_le_mul ?_
    exact Nat.mul_le_mul_right _ hP
  · left
    unfold ip_shN
    unfold ip_zer at h2
    have e : G c - 1 + 1 = G c := by omega
    rw [e]
    have a1 : G c * S ≤ P * W c := by rw [hG c hc rc]; exact Nat.div_mul_le_self _ _
    have a2 : P * W d < (G d + 1) * S := by
      rw [hG d hd rd]
      have := Nat.lt_mul_div_succ (P * W d) hS
      rw [Nat.mul_comm S] at this
      exact this
    have wc : 0 < W c := by
      rcases Nat.eq_zero_or_pos (W c) with q | q
      · rw [q, Nat.mul_zero] at a1
        have : 0 < G c * S := Nat.mul_pos h2 hS
        omega
      · exact q
    have b1 := Nat.mul_le_mul_right (W d) a1
    have b2 := Nat.mul_lt_mul_of_pos_right a2 wc
    have e1 : G c * S * W d = G c * W d * S := by ac_rfl
    have e2 : P * W c * W d = P * W d * W c := by ac_rfl
    have e3 : (G d + 1) * S * W c = (G d + 1) * W c * S := by ac_rfl
    have k : G c * W d * S < (G d + 1) * W c * S := by omega
    exact Nat.lt_of_mul_lt_mul_right k
/-- the quotas over the first i: their sum -/
def ip_qu (W R : Nat → Nat) (r P S c : Nat) : Nat := if R c = r ∧ 0 < S then P * W c / S else 0
theorem ip_qu_le (W R : Nat → Nat) (r P S : Nat) : ∀ i, fb_sm (ip_qu W R r P S) i * S ≤ P * ip_rs R r W i
  | 0 => by simp [fb_sm, ip_rs]
  | i + 1 => by
    have ih := ip_qu_le W R r P S i
    rw [fb_sm_succ, ip_rs_succ, Nat.add_mul, Nat.mul_add]
    have : ip_qu W R r P S i * S ≤ P * (if R i = r then W i else 0) := by
      unfold ip_qu
      by_cases e : R i = r
      · rw [if_pos e]
        split
        · exact Nat.div_mul_le_self _ _
        · rw [Nat.zero_mul]; exact Nat.zero_le _
      · rw [if_neg (fun h => e h.1), Nat.zero_mul]; exact Nat.zero_le _
    omega
theorem ip_rs_mono (R : Nat → Nat) (r : Nat) (G : Nat → Nat) {i n : Nat} (h : i ≤ n) : ip_rs R r G i ≤ ip_rs R r G n := by
  have := fb_sm_mono (fun c => if R c = r then G c else 0) i (n - i)
  rwa [Nat.add_sub_cancel' h] at this
theorem ip_qu_part {W R : Nat → Nat} {r P S n i : Nat} (hS : S = ip_rs R r W n) (hi : i ≤ n) : fb_sm (ip_qu W R r P S) i ≤ P := by
  rcases Nat.eq_zero_or_pos S with q | q
  · have e : fb_sm (ip_qu W R r P S) i = fb_sm (fun _ => 0) i := fb_sm_cong fun k _ => if_neg (by omega)
    rw [e, fb_sm_const, Nat.mul_zero]; exact Nat.zero_le _
  · have h1 := ip_qu_le W R r P S i
    have h2 : P * ip_rs R r W i ≤ P * S := Nat.mul_le_mul_left _ (by rw [hS]; exact ip_rs_mono R r W hi)
    exact Nat.le_of_mul_le_mul_right (Nat.le_trans h1 h2) q
def ip_rb (R : Nat → Nat) (r : Nat) : Nat → Bool := fun c => decide (R c = r)
theorem ip_qu_ge (W R : Nat → Nat) (r P : Nat) {S : Nat} (hS : 0 < S) : ∀ i, P * ip_rs R r W i + fb_ct (ip_rb R r) i ≤ (fb_sm (ip_qu W R r P S) i + fb_ct (ip_rb R r) i) * S
  | 0 => by simp [fb_sm, ip_rs, fb_ct]
  | i + 1 => by
    have ih := ip_qu_ge W R r P hS i
    rw [fb_sm_succ, ip_rs_succ, fb_ct_succ]
    by_cases e : R i = r
    · have e1 : ip_rb R r i = true := by simp [ip_rb, e]
      have e2 : ip_qu W R r P S i = P * W i / S := if_pos ⟨e, hS⟩
      rw [if_pos e, e1, e2, if_pos rfl]
      have h1 : P * W i < (P * W i / S + 1) * S := by
        have := Nat.lt_mul_div_succ (P * W i) hS
        rw [Nat.mul_comm S] at this
        exact this
      rw [Nat.mul_add]
      have e3 : (fb_sm (ip_qu W R r P S) i + P * W i / S + (fb_ct (ip_rb R r) i + 1)) * S = (fb_sm (ip_qu W R r P S) i + fb_ct (ip_rb R r) i) * S + (P * W i / S + 1) * S := by
        rw [← Nat.add_mul]
        congr 1
        omega
      rw [e3]
      omega
    · have e1 : ip_rb R r i = false := by simp [ip_rb, e]
      have e2 : ip_qu W R r P S i = 0 := if_neg (fun h => e h.1)
      rw [if_neg e, e1, e2]
      simpa using ih
theorem ip_qu_few {W R : Nat → Nat} {r P S n : Nat} (hS : S = ip_rs R r W n) (h0 : 0 < S) : P < fb_sm (ip_qu W R r P S) n + n := by
  have h1 := ip_qu_ge W R r P h0 n
  rw [← hS] at h1
  have h2 := fb_ct_le (ip_rb R r) n
  have h3 : 0 < fb_ct (ip_rb R r) n := by
    rw [fb_ct_pos]
    have : ip_rs R r (fun _ => 0) n < ip_rs R r W n := by rw [ip_rs_zero (fun _ _ _ => rfl)]; omega
    obtain ⟨c, hc, rc, -⟩ := ip_rs_pos this
    exact ⟨c, hc, by simp [ip_rb, rc]⟩
  have h4 : P * S < (fb_sm (ip_qu W R r P S) n + fb_ct (ip_rb R r) n) * S := by omega
  have h5 := Nat.lt_of_mul_lt_mul_right h4
  omega
/-- the search by greatest quotients finds the next unit -/
def ip_qin (W R G : Nat → Nat) (r : Nat) : Nat → Bool := fun c => decide (R c = r ∧ G c < W c)
def ip_qbe (W G : Nat → Nat) : Nat → Nat → Bool := fun c b => decide (W b * (G c + 1) < W c * (G b + 1))
theorem ip_q_next {W R G : Nat → Nat} {r n : Nat} (h : ip_I R r ip_shN W ip_zer W n G) (hs : ip_rs R r G n < ip_rs R r W n) : ∃ b, ip_bst (ip_qin W R G r) (ip_qbe W G) n = some b ∧ b < n ∧ R b = r ∧ G b < W b ∧ ip_I R r ip_shN W ip_zer W n (ip_up G b (G b + 1)) := by
  have sp := ip_bst_spec (ip_qin W R G r) (ip_qbe W G) (fun c => G c + 1) W n (fun c _ hc => by
    simp [ip_qin] at hc; omega) (fun i b _ _ _ _ => by
    simp only [ip_qbe, decide_eq_true_eq]
    rw [Nat.mul_comm (W b), Nat.mul_comm (W i)])
  cases hb : ip_bst (ip_qin W R G r) (ip_qbe W G) n with
  | none =>
    obtain ⟨c, hc, rc, hlt⟩ := ip_rs_pos hs
    have := sp.1 hb c hc
    simp [ip_qin, rc] at this
    omega
  | some b =>
    have hl := ip_bst_lt hb
    have h2 : R b = r ∧ G b < W b := by simpa [ip_qin] using hl.2
    refine ⟨b, rfl, hl.1, h2.1, h2.2, ip_I_step (ip_nice_sh R r W n) h hl.1 h2.1 h2.2 (fun d hd rd hlt hne => ?_)⟩
    exact sp.2 b hb d hd (by simp [ip_qin, rd, hlt]) hne
end
section
/-! ===== pure: one rank under its rule; the unit-by-unit handing out (the reference's), rank after rank ===== -/
def ip_hN (W : Nat → Nat) (c : Nat) : Nat := (W c + 1) / 2
/-- G holds on rank r what p units give there -/
def ip_RA (W R U : Nat → Nat) (n r p : Nat) (G : Nat → Nat) : Prop :=
  ip_rs R r G n = p ∧
  (if U r = 0 then ip_I R r ip_eqN ip_one ip_zer W n G
   else if U r = 1 then ip_I R r (ip_loN W) ip_one ip_zer W n G
   else if U r = 2 then ip_I R r ip_shN W ip_zer W n G
   else if p ≤ (ip_rs R r W n + 1) / 2 then ip_I R r ip_eqN ip_one ip_zer (ip_hN W) n G
   else ∃ B, ip_rs R r B n = (ip_rs R r W n + 1) / 2 ∧ ip_I R r ip_eqN ip_one ip_zer (ip_hN W) n B ∧ ip_I R r (ip_loN W) ip_one B W n G)
theorem ip_hN_le (W : Nat → Nat) (c : Nat) : ip_hN W c ≤ W c := by unfold ip_hN; omega
theorem ip_rs_half (R : Nat → Nat) (r : Nat) (W : Nat → Nat) : ∀ n, ip_rs R r W n ≤ 2 * ip_rs R r (ip_hN W) n
  | 0 => by simp [ip_rs, fb_sm]
  | n + 1 => by
    have ih := ip_rs_half R r W n
    rw [ip_rs_succ, ip_rs_succ]
    have : W n ≤ 2 * ip_hN W n := by unfold ip_hN; omega
    split <;> omega
theorem ip_RA_le {W R U G : Nat → Nat} {n r p : Nat} (h : ip_RA W R U n r p G) : ∀ c, c < n → R c = r → G c ≤ W c := by
  intro c hc rc
  obtain ⟨-, h⟩ := h
  split at h
  · exact (h.1 c hc rc).2
  · split at h
    · exact (h.1 c hc rc).2
    · split at h
      · exact (h.1 c hc rc).2
      · split at h
        · exact Nat.le_trans (h.1 c hc rc).2 (ip_hN_le W c)
        · obtain ⟨B, -, -, h⟩ := h
          exact (h.1 c hc rc).2
theorem ip_RA_uniq {W R U G G' : Nat → Nat} {n r p : Nat} (hW : ∀ c, W c ≤ 150) (h : ip_RA W R U n r p G) (h' : ip_RA W R U n r p G') : ∀ c, c < n → R c = r → G c = G' c := by
  obtain ⟨e, h⟩ := h
  obtain ⟨e', h'⟩ := h'
  have es : ip_rs R r G n = ip_rs R r G' n := by omega
  by_cases q0 : U r = 0
  · rw [if_pos q0] at h h'
    exact ip_I_uniq (ip_nice_eq R r W n) h h' es
  · rw [if_neg q0] at h h'
    by_cases q1 : U r = 1
    · rw [if_pos q1] at h h'
      exact ip_I_uniq (ip_nice_lo R r W n hW) h h' es
    · rw [if_neg q1] at h h'
      by_cases q2 : U r = 2
      · rw [if_pos q2] at h h'
        exact ip_I_uniq (ip_nice_sh R r W n) h h' es
      · rw [if_neg q2] at h h'
        by_cases q3 : p ≤ (ip_rs R r W n + 1) / 2
        · rw [if_pos q3] at h h'
          exact ip_I_uniq (ip_nice_eq R r (ip_hN W) n) h h' es
        · rw [if_neg q3] at h h'
          obtain ⟨B, b1, b2, b3⟩ := h
          obtain ⟨B', b1', b2', b3'⟩ := h'
          have eB := ip_I_uniq (ip_nice_eq R r (ip_hN W) n) b2 b2' (by omega)
          exact ip_I_uniq (ip_nice_lo R r W n hW) (ip_I_cong b3 eB (fun _ _ _ => rfl)) b3' es
theorem ip_RA_cong {W R U G G' : Nat → Nat} {n r p : Nat} (h : ip_RA W R U n r p G) (hg : ∀ c, c < n → R c = r → G c = G' c) : ip_RA W R U n r p G' := by
  obtain ⟨e, h⟩ := h
  refine ⟨by rw [← ip_rs_cong hg]; exact e, ?_⟩
  have key : ∀ {num : Nat → Nat → Nat} {den base lim : Nat → Nat}, ip_I R r num den base lim n G → ip_I R r num den base lim n G' := fun h => ip_I_cong h (fun _ _ _ => rfl) hg
  split at h
  · rename_i q; rw [if_pos q]; exact key h
  · rename_i q; rw [if_neg q]
    split at h
    · rename_i q; rw [if_pos q]; exact key h
    · rename_i q; rw [if_neg q]
      split at h
      · rename_i q; rw [if_pos q]; exact key h
      · rename_i q; rw [if_neg q]
        split at h
        · rename_i q; rw [if_pos q]; exact key h
        · rename_i q; rw [if_neg q]
          obtain ⟨B, b1, b2, b3⟩ := h
          exact ⟨B, b1, b2, key b3⟩
theorem ip_RA_zero (W R U : Nat → Nat) (n r : Nat) : ip_RA W R U n r 0 (fun _ => 0) := by
  have hz : ip_rs R r (fun _ => 0) n = 0 := ip_rs_zero (fun _ _ _ => rfl)
  refine ⟨hz, ?_⟩
  have key : ∀ {num : Nat → Nat → Nat} {den lim : Nat → Nat}, ip_I R r num den ip_zer lim n (fun _ => 0) := fun {_ _ _} => ip_I_base (base := ip_zer) (fun _ _ _ => Nat.zero_le _)
  split
  · exact key
  · split
    · exact key
    · split
      · exact key
      · rw [if_pos (Nat.zero_le _)]; exact key
/-! the reference's choice -/
def ip_op (W R G : Nat → Nat) : Nat → Nat
  | 0 => 4
  | i + 1 => if G i < W i ∧ R i < ip_op W R G i then R i else ip_op W R G i
theorem ip_op_succ (W R G : Nat → Nat) (i : Nat) : ip_op W R G (i + 1) = if G i < W i ∧ R i < ip_op W R G i then R i else ip_op W R G i := rfl
theorem ip_op_spec (W R G : Nat → Nat) (hR : ∀ c, R c < 4) : ∀ n, ip_op W R G n ≤ 4 ∧ (∀ c, c < n → G c < W c → ip_op W R G n ≤ R c) ∧ (ip_op W R G n < 4 → ∃ c, c < n ∧ G c < W c ∧ R c = ip_op W R G n)
  | 0 => ⟨Nat.le_refl _, fun c hc => absurd hc (Nat.not_lt_zero c), fun h => absurd h (Nat.lt_irrefl _)⟩
  | n + 1 => by
    obtain ⟨h1, h2, h3⟩ := ip_op_spec W R G hR n
    rw [ip_op_succ]
    split
    · rename_i q
      refine ⟨Nat.le_of_lt (hR n), fun c hc hl => ?_, fun _ => ⟨n, by omega, q.1, rfl⟩⟩
      by_cases e : c = n
      · rw [e]; exact Nat.le_refl _
      · have := h2 c (by omega) hl; omega
    · rename_i q
      refine ⟨h1, fun c hc hl => ?_, fun h => ?_⟩
      · by_cases e : c = n
        · rw [e] at hl ⊢; omega
        · exact h2 c (by omega) hl
      · obtain ⟨c, a1, a2⟩ := h3 h
        exact ⟨c, by omega, a2⟩
def ip_hf (W R U G : Nat → Nat) (n r : Nat) : Bool := decide (U r = 3 ∧ 2 * ip_rs R r G n < ip_rs R r W n)
def ip_in (W R G : Nat → Nat) (r : Nat) (half : Bool) : Nat → Bool := fun c => decide (R c = r ∧ G c < W c ∧ ¬ (half = true ∧ W c ≤ 2 * G c))
def ip_be (W G : Nat → Nat) (rule : Nat) (half : Bool) : Nat → Nat → Bool := fun c b => if rule = 0 ∨ half = true then decide (G c < G b) else if rule = 2 then decide (W b * (G c + 1) < W c * (G b + 1)) else decide (W b - G b < W c - G c)
/-- the choice within rank r -/
def ip_cr (W R U G : Nat → Nat) (n r : Nat) : Option Nat := ip_bst (ip_in W R G r (ip_hf W R U G n r)) (ip_be W G (U r) (ip_hf W R U G n r)) n
def ip_ch (W R U : Nat → Nat) (n : Nat) (G : Nat → Nat) : Option Nat := if 3 < ip_op W R G n then none else ip_cr W R U G n (ip_op W R G n)
/-- a step within a rank, by the order of a rule -/
theorem ip_cr_step {W R U G lim base den : Nat → Nat} {num : Nat → Nat → Nat} {n r : Nat} (hN : ip_nice R r num den lim n) (h : ip_I R r num den base lim n G) (hs : ip_rs R r G n < ip_rs R r lim n)
    (hin : ∀ c, c < n → (ip_in W R G r (ip_hf W R U G n r) c = true ↔ R c = r ∧ G c < lim c))
    (hbe : ∀ c b, c < n → b < n → R c = r → R b = r → G c < lim c → G b < lim b → (ip_be W G (U r) (ip_hf W R U G n r) c b = true ↔ num c (G c) * den b < num b (G b) * den c)) :
    ∃ b, ip_cr W R U G n r = some b ∧ b < n ∧ R b = r ∧ G b < lim b ∧ ip_I R r num den base lim n (ip_up G b (G b + 1)) := by
  have sp := ip_bst_spec (ip_in W R G r (ip_hf W R U G n r)) (ip_be W G (U r) (ip_hf W R U G n r)) (fun c => num c (G c)) den n (fun c hc hi => by
    have := (hin c hc).mp hi
    exact (hN c hc this.1).1 (by omega)) (fun i b hi hb h1 h2 => by
    have a1 := (hin i hi).mp h1
    have a2 := (hin b hb).mp h2
    exact hbe i b hi hb a1.1 a2.1 a1.2 a2.2)
  unfold ip_cr
  cases hb : ip_bst (ip_in W R G r (ip_hf W R U G n r)) (ip_be W G (U r) (ip_hf W R U G n r)) n with
  | none =>
    obtain ⟨c, hc, rc, hlt⟩ := ip_rs_pos hs
    have h1 := sp.1 hb c hc
    have h2 := (hin c hc).mpr ⟨rc, hlt⟩
    rw [h1] at h2
    cases h2
  | some b =>
    have hl := ip_bst_lt hb
    have h2 := (hin b hl.1).mp hl.2
    refine ⟨b, rfl, hl.1, h2.1, h2.2, ip_I_step hN h hl.1 h2.1 h2.2 (fun d hd rd hlt hne => ?_)⟩
    exact sp.2 b hb d hd ((hin d hd).mpr ⟨rd, hlt⟩) hne
theorem ip_RA_step {W R U G : Nat → Nat} {n r p : Nat} (hW : ∀ c, W c ≤ 150) (hU : U r < 4) (h : ip_RA W R U n r p G) (hp : p < ip_rs R r W n) : ∃ b, ip_cr W R U G n r = some b ∧ b < n ∧ R b = r ∧ ip_RA W R U n r (p + 1) (ip_up G b (G b + 1)) := by
  have hle := ip_RA_le h
  obtain ⟨e, h⟩ := h
  have up : ∀ {b : Nat}, b < n → R b = r → ip_rs R r (ip_up G b (G b + 1)) n = p + 1 := fun hb rb => by rw [ip_rs_up hb rb, e]
  have noh : U r ≠ 3 → ip_hf W R U G n r = false := fun q => by simp [ip_hf, q]
  have in0 : ip_hf W R U G n r = false → ∀ c, c < n → (ip_in W R G r (ip_hf W R U G n r) c = true ↔ R c = r ∧ G c < W c) := fun q c _ => by rw [q]; simp [ip_in]
  have lolem : ip_hf W R U G n r = false → U r ≠ 0 → U r ≠ 2 → ∀ c b, c < n → b < n → R c = r → R b = r → G c < W c → G b < W b → (ip_be W G (U r) (ip_hf W R U G n r) c b = true ↔ ip_loN W c (G c) * ip_one b < ip_loN W b (G b) * ip_one c) := by
    intro q u0 u2 c b hc hb rc rb l1 l2
    have w1 := hW c
    have w2 := hW b
    rw [q]
    simp only [ip_be, u0, u2, ip_loN, ip_one, Nat.mul_one]
    simp
    omega
  by_cases q0 : U r = 0
  · rw [if_pos q0] at h
    obtain ⟨b, h1, h2, h3, -, h5⟩ := ip_cr_step (W := W) (U := U) (ip_nice_eq R r W n) h (by omega) (in0 (noh (by omega))) (fun c b _ _ _ _ _ _ => by
      simp [ip_be, q0, ip_eqN, ip_one])
    exact ⟨b, h1, h2, h3, up h2 h3, by rw [if_pos q0]; exact h5⟩
  · rw [if_neg q0] at h
    by_cases q1 : U r = 1
    · rw [if_pos q1] at h
      obtain ⟨b, h1, h2, h3, -, h5⟩ := ip_cr_step (W := W) (U := U) (ip_nice_lo R r W n hW) h (by omega) (in0 (noh (by omega))) (lolem (noh (by omega)) q0 (by omega))
      exact ⟨b, h1, h2, h3, up h2 h3, by rw [if_neg q0, if_pos q1]; exact h5⟩
    · rw [if_neg q1] at h
      by_cases q2 : U r = 2
      · rw [if_pos q2] at h
        obtain ⟨b, h1, h2, h3, -, h5⟩ := ip_cr_step (W := W) (U := U) (ip_nice_sh R r W n) h (by omega) (in0 (noh (by omega))) (fun c b _ _ _ _ _ _ => by
          rw [noh (by omega)]
          simp only [ip_be, q2, ip_shN]
          simp
          rw [Nat.mul_comm (W b), Nat.mul_comm (W c)])
        exact ⟨b, h1, h2, h3, up h2 h3, by rw [if_neg q0, if_neg q1, if_pos q2]; exact h5⟩
      · rw [if_neg q2] at h
        have q3 : U r = 3 := by omega
        by_cases qp : p < (ip_rs R r W n + 1) / 2
        · have hf : ip_hf W R U G n r = true := by
            simp only [ip_hf, q3, decide_eq_true_eq]
            refine ⟨trivial, ?_⟩
            omega
          rw [if_pos (by omega)] at h
          have hh := ip_rs_half R r W n
          obtain ⟨b, h1, h2, h3, -, h5⟩ := ip_cr_step (W := W) (U := U) (ip_nice_eq R r (ip_hN W) n) h (by omega) (fun c _ => by
            rw [hf]
            simp only [ip_in, decide_eq_true_eq, ip_hN]
            constructor
            · rintro ⟨a1, a2, a3⟩
              refine ⟨a1, ?_⟩
              have : ¬ W c ≤ 2 * G c := fun q => a3 ⟨trivial, q⟩
              omega
            · rintro ⟨a1, a2⟩
              refine ⟨a1, by omega, fun q => ?_⟩
              omega) (fun c b _ _ _ _ _ _ => by
            rw [hf]
            simp [ip_be, ip_eqN, ip_one])
          exact ⟨b, h1, h2, h3, up h2 h3, by rw [if_neg q0, if_neg q1, if_neg q2, if_pos (by omega)]; exact h5⟩
        · have hf : ip_hf W R U G n r = false := by
            simp only [ip_hf, q3, decide_eq_false_iff_not]
            intro q
            omega
          have hB : ∃ B, ip_rs R r B n = (ip_rs R r W n + 1) / 2 ∧ ip_I R r ip_eqN ip_one ip_zer (ip_hN W) n B ∧ ip_I R r (ip_loN W) ip_one B W n G := by
            by_cases q4 : p ≤ (ip_rs R r W n + 1) / 2
            · rw [if_pos q4] at h
              exact ⟨G, by omega, h, ip_I_base hle⟩
            · rw [if_neg q4] at h
              exact h
          obtain ⟨B, b1, b2, b3⟩ := hB
          obtain ⟨b, h1, h2, h3, -, h5⟩ := ip_cr_step (W := W) (U := U) (ip_nice_lo R r W n hW) b3 (by omega) (in0 hf) (lolem hf q0 q2)
          exact ⟨b, h1, h2, h3, up h2 h3, by rw [if_neg q0, if_neg q1, if_neg q2, if_neg (by omega)]; exact ⟨B, b1, b2, h5⟩⟩
/-! rank after rank -/
def ip_pf (W R : Nat → Nat) (n r : Nat) : Nat := fb_sm (fun q => ip_rs R q W n) r
theorem ip_pf_succ (W R : Nat → Nat) (n r : Nat) : ip_pf W R n (r + 1) = ip_pf W R n r + ip_rs R r W n := rfl
theorem ip_pf_mono (W R : Nat → Nat) (n : Nat) {a b : Nat} (h : a ≤ b) : ip_pf W R n a ≤ ip_pf W R n b := by
  have := fb_sm_mono (fun q => ip_rs R q W n) a (b - a)
  rwa [Nat.add_sub_cancel' h] at this
def ip_J (W R U : Nat → Nat) (n k : Nat) (G : Nat → Nat) : Prop := ∀ r, r < 4 → ip_RA W R U n r (min (k - ip_pf W R n r) (ip_rs R r W n)) G
theorem ip_J_uniq {W R U G G' : Nat → Nat} {n k : Nat} (hW : ∀ c, W c ≤ 150) (hR : ∀ c, R c < 4) (h : ip_J W R U n k G) (h' : ip_J W R U n k G') : ∀ c, c < n → G c = G' c :=
  fun c hc => ip_RA_uniq hW (h (R c) (hR c)) (h' (R c) (hR c)) c hc rfl
theorem ip_J_zero (W R U : Nat → Nat) (n : Nat) : ip_J W R U n 0 (fun _ => 0) := fun r _ => by
  rw [Nat.zero_sub, Nat.zero_min]
  exact ip_RA_zero W R U n r
theorem ip_RA_full {W R U G : Nat → Nat} {n r p : Nat} (h : ip_RA W R U n r p G) (hp : ip_rs R r W n ≤ p) : ∀ c, c < n → R c = r → G c = W c :=
  ip_rs_eq (ip_RA_le h) (by rw [h.1]; exact hp)
/-- which rank is open at k units -/
theorem ip_open_at {W R : Nat → Nat} {n k : Nat} : ∀ m, k < ip_pf W R n m → ∃ r, r < m ∧ ip_pf W R n r ≤ k ∧ k < ip_pf W R n (r + 1)
  | 0, h => absurd h (Nat.not_lt_zero k)
  | m + 1, h => by
    rcases Nat.lt_or_ge k (ip_pf W R n m) with q | q
    · obtain ⟨r, h1, h2⟩ := ip_open_at m q
      exact ⟨r, by omega, h2⟩
    · exact ⟨m, by omega, q, h⟩
theorem ip_J_none {W R U G : Nat → Nat} {n k : Nat} (hR : ∀ c, R c < 4) (h : ip_J W R U n k G) (hk : ip_pf W R n 4 ≤ k) : ip_ch W R U n G = none ∧ ∀ c, c < n → G c = W c := by
  have full : ∀ c, c < n → G c = W c := fun c hc => by
    have h1 := ip_pf_mono W R n (show R c + 1 ≤ 4 from hR c)
    rw [ip_pf_succ] at h1
    exact ip_RA_full (h (R c) (hR c)) (by omega) c hc rfl
  have sp := ip_op_spec W R G hR n
  refine ⟨?_, full⟩
  unfold ip_ch
  rw [if_pos]
  rcases Nat.lt_or_ge 3 (ip_op W R G n) with q | q
  · exact q
  · obtain ⟨c, hc, hl, -⟩ := sp.2.2 (by omega)
    have := full c hc
    omega
theorem ip_J_step {W R U G : Nat → Nat} {n k : Nat} (hW : ∀ c, W c ≤ 150) (hR : ∀ c, R c < 4) (hU : ∀ c, U c < 4) (h : ip_J W R U n k G) (hk : k < ip_pf W R n 4) : ∃ b, b < n ∧ ip_ch W R U n G = some b ∧ ip_J W R U n (k + 1) (ip_up G b (G b + 1)) := by
  obtain ⟨r, hr, h1, h2⟩ := ip_open_at 4 hk
  rw [ip_pf_succ] at h2
  have hRA := h r hr
  have hp : min (k - ip_pf W R n r) (ip_rs R r W n) = k - ip_pf W R n r := by omega
  rw [hp] at hRA
  have hop : ip_op W R G n = r := by
    have sp := ip_op_spec W R G hR n
    have lo : ∀ c, c < n → R c < r → G c = W c := fun c hc hlt => by
      have h3 := ip_pf_mono W R n (show R c + 1 ≤ r from hlt)
      rw [ip_pf_succ] at h3
      exact ip_RA_full (h (R c) (hR c)) (by omega) c hc rfl
    have ex : ∃ c, c < n ∧ R c = r ∧ G c < W c := ip_rs_pos (by rw [hRA.1]; omega)
    obtain ⟨c, hc, rc, hl⟩ := ex
    have a1 := sp.2.1 c hc hl
    rw [rc] at a1
    obtain ⟨c2, hc2, hl2, rc2⟩ := sp.2.2 (by omega)
    rcases Nat.lt_or_ge (ip_op W R G n) r with q | q
    · have := lo c2 hc2 (by omega)
      omega
    · omega
  obtain ⟨b, g1, g2, g3, g4⟩ := ip_RA_step hW (hU r) hRA (by omega)
  refine ⟨b, g2, ?_, fun q hq => ?_⟩
  · unfold ip_ch
    rw [hop, if_neg (by omega)]
    exact g1
  · by_cases e : q = r
    · rw [e]
      have : min (k + 1 - ip_pf W R n r) (ip_rs R r W n) = k - ip_pf W R n r + 1 := by omega
      rw [this]
      exact g4
    · have : min (k + 1 - ip_pf W R n q) (ip_rs R q W n) = min (k - ip_pf W R n q) (ip_rs R q W n) := by
        rcases Nat.lt_or_ge q r with z | z
        · have h3 := ip_pf_mono W R n (show q + 1 ≤ r from z)
          rw [ip_pf_succ] at h3
          omega
        · have h3 := ip_pf_mono W R n (show r + 1 ≤ q by omega)
          rw [ip_pf_succ] at h3
          omega
      rw [this]
      refine ip_RA_cong (h q hq) (fun c hc rc => ?_)
      rw [ip_up_n]
      intro z
      rw [z, g3] at rc
      exact e rc.symm
/-- unit after unit -/
def ip_hd (W R U : Nat → Nat) (n : Nat) : Nat → Nat → Nat
  | 0 => fun _ => 0
  | k + 1 => match ip_ch W R U n (ip_hd W R U n k) with
    | none => ip_hd W R U n k
    | some b => ip_up (ip_hd W R U n k) b (ip_hd W R U n k b + 1)
theorem ip_hd_none {W R U : Nat → Nat} {n k : Nat} (h : ip_ch W R U n (ip_hd W R U n k) = none) : ip_hd W R U n (k + 1) = ip_hd W R U n k := by
  show (match ip_ch W R U n (ip_hd W R U n k) with | none => ip_hd W R U n k | some b => ip_up (ip_hd W R U n k) b (ip_hd W R U n k b + 1)) = _
  rw [h]
theorem ip_hd_some {W R U : Nat → Nat} {n k b : Nat} (h : ip_ch W R U n (ip_hd W R U n k) = some b) : ip_hd W R U n (k + 1) = ip_up (ip_hd W R U n k) b (ip_hd W R U n k b + 1) := by
  show (match ip_ch W R U n (ip_hd W R U n k) with | none => ip_hd W R U n k | some b => ip_up (ip_hd W R U n k) b (ip_hd W R U n k b + 1)) = _
  rw [h]
theorem ip_hd_J {W R U : Nat → Nat} {n : Nat} (hW : ∀ c, W c ≤ 150) (hR : ∀ c, R c < 4) (hU : ∀ c, U c < 4) : ∀ k, ip_J W R U n k (ip_hd W R U n k)
  | 0 => ip_J_zero W R U n
  | k + 1 => by
    have ih := ip_hd_J hW hR hU (n := n) k
    rcases Nat.lt_or_ge k (ip_pf W R n 4) with q | q
    · obtain ⟨b, h1, h2, h3⟩ := ip_J_step hW hR hU ih q
      rw [ip_hd_some h2]
      exact h3
    · obtain ⟨h1, h2⟩ := ip_J_none hR ih q
      rw [ip_hd_none h1]
      intro r hr
      have h3 := ip_pf_mono W R n (show r + 1 ≤ 4 from hr)
      rw [ip_pf_succ] at h3
      have := ih r hr
      have e : min (k + 1 - ip_pf W R n r) (ip_rs R r W n) = min (k - ip_pf W R n r) (ip_rs R r W n) := by omega
      rw [e]
      exact this
/-- what the reference leaves over -/
def ip_ov (W R U : Nat → Nat) (n : Nat) : Nat → Nat
  | 0 => 0
  | k + 1 => match ip_ch W R U n (ip_hd W R U n k) with
    | none => ip_ov W R U n k + 1
    | some _ => ip_ov W R U n k
theorem ip_ov_none {W R U : Nat → Nat} {n k : Nat} (h : ip_ch W R U n (ip_hd W R U n k) = none) : ip_ov W R U n (k + 1) = ip_ov W R U n k + 1 := by
  show (match ip_ch W R U n (ip_hd W R U n k) with | none => ip_ov W R U n k + 1 | some _ => ip_ov W R U n k) = _
  rw [h]
theorem ip_ov_some {W R U : Nat → Nat} {n k b : Nat} (h : ip_ch W R U n (ip_hd W R U n k) = some b) : ip_ov W R U n (k + 1) = ip_ov W R U n k := by
  show (match ip_ch W R U n (ip_hd W R U n k) with | none => ip_ov W R U n k + 1 | some _ => ip_ov W R U n k) = _
  rw [h]
theorem ip_ov_eq {W R U : Nat → Nat} {n : Nat} (hW : ∀ c, W c ≤ 150) (hR : ∀ c, R c < 4) (hU : ∀ c, U c < 4) : ∀ k, ip_ov W R U n k = k - ip_pf W R n 4
  | 0 => by rw [Nat.zero_sub]; rfl
  | k + 1 => by
    have ih := ip_ov_eq hW hR hU (n := n) k
    have hJ := ip_hd_J hW hR hU (n := n) k
    rcases Nat.lt_or_ge k (ip_pf W R n 4) with q | q
    · obtain ⟨b, h1, h2, h3⟩ := ip_J_step hW hR hU hJ q
      rw [ip_ov_some h2]; omega
    · obtain ⟨h1, h2⟩ := ip_J_none hR hJ q
      rw [ip_ov_none h1]; omega
theorem ip_ov_le (W R U : Nat → Nat) (n : Nat) : ∀ k, ip_ov W R U n k ≤ k
  | 0 => Nat.le_refl _
  | k + 1 => by
    have ih := ip_ov_le W R U n k
    cases h : ip_ch W R U n (ip_hd W R U n k) with
    | none => rw [ip_ov_none h]; omega
    | some b => rw [ip_ov_some h]; omega
theorem ip_hd_le {W R U : Nat → Nat} {n : Nat} (hW : ∀ c, W c ≤ 150) (hR : ∀ c, R c < 4) (hU : ∀ c, U c < 4) (k : Nat) : ∀ c, c < n → ip_hd W R U n k c ≤ W c :=
  fun c hc => ip_RA_le (ip_hd_J hW hR hU k (R c) (hR c)) c hc rfl
theorem ip_cr_lt {W R U G : Nat → Nat} {n r b : Nat} (h : ip_cr W R U G n r = some b) : b < n := (ip_bst_lt h).1
theorem ip_ch_lt {W R U G : Nat → Nat} {n b : Nat} (h : ip_ch W R U n G = some b) : b < n := by
  unfold ip_ch at h
  split at h
  · cases h
  · exact ip_cr_lt h
theorem ip_hd_out (W R U : Nat → Nat) (n : Nat) : ∀ k c, n ≤ c → ip_hd W R U n k c = 0
  | 0, _, _ => rfl
  | k + 1, c, hc => by
    have ih := ip_hd_out W R U n k c hc
    cases h : ip_ch W R U n (ip_hd W R U n k) with
    | none => rw [ip_hd_none h]; exact ih
    | some b =>
      have := ip_ch_lt h
      rw [ip_hd_some h, ip_up_n (by omega)]; exact ih
theorem ip_hd_mono1 (W R U : Nat → Nat) (n k c : Nat) : ip_hd W R U n k c ≤ ip_hd W R U n (k + 1) c := by
  cases h : ip_ch W R U n (ip_hd W R U n k) with
  | none => rw [ip_hd_none h]; exact Nat.le_refl _
  | some b =>
    rw [ip_hd_some h]
    by_cases e : c = b
    · rw [e, ip_up_s]; omega
    · rw [ip_up_n e]; exact Nat.le_refl _
theorem ip_hd_mono (W R U : Nat → Nat) (n c : Nat) {a b : Nat} (h : a ≤ b) : ip_hd W R U n a c ≤ ip_hd W R U n b c := by
  induction b with
  | zero => have : a = 0 := by omega
            rw [this]; exact Nat.le_refl _
  | succ b ih =>
    by_cases e : a = b + 1
    · rw [e]; exact Nat.le_refl _
    · exact Nat.le_trans (ih (by omega)) (ip_hd_mono1 W R U n b c)
theorem ip_pf_4 {W R : Nat → Nat} (hR : ∀ c, R c < 4) : ∀ n, ip_pf W R n 4 = fb_sm W n
  | 0 => rfl
  | n + 1 => by
    have ih := ip_pf_4 (W := W) hR n
    have hn := hR n
    have e : ∀ n, ip_pf W R n 4 = ip_rs R 0 W n + ip_rs R 1 W n + ip_rs R 2 W n + ip_rs R 3 W n := fun n => by
      show 0 + ip_rs R 0 W n + ip_rs R 1 W n + ip_rs R 2 W n + ip_rs R 3 W n = _
      omega
    rw [e] at ih ⊢
    rw [fb_sm_succ, ip_rs_succ, ip_rs_succ, ip_rs_succ, ip_rs_succ]
    split <;> split <;> split <;> split <;> omega
theorem ip_pf_le {W R : Nat → Nat} {n : Nat} (hW : ∀ c, W c ≤ 150) (hR : ∀ c, R c < 4) (hn : n ≤ 8) : ip_pf W R n 4 ≤ 1200 := by
  rw [ip_pf_4 hR]
  have := fb_sm_bound (f := W) (c := 150) (n := n) (fun k _ => hW k)
  omega
theorem ip_rs_bound {R G : Nat → Nat} {r n : Nat} (hG : ∀ c, c < n → G c ≤ 150) (hn : n ≤ 8) : ip_rs R r G n ≤ 1200 := by
  have := fb_sm_bound (f := fun c => if R c = r then G c else 0) (c := 150) (n := n) (fun k hk => by
    have := hG k hk
    show (if R k = r then G k else 0) ≤ 150
    split <;> omega)
  unfold ip_rs
  omega
theorem ip_hd_full {W R U : Nat → Nat} {n k : Nat} (hW : ∀ c, W c ≤ 150) (hR : ∀ c, R c < 4) (hU : ∀ c, U c < 4) (hk : ip_pf W R n 4 ≤ k) : ∀ c, c < n → ip_hd W R U n k c = W c :=
  (ip_J_none hR (ip_hd_J hW hR hU k) hk).2
theorem ip_hd_ch {W R U : Nat → Nat} {n : Nat} (hW : ∀ c, W c ≤ 150) (hR : ∀ c, R c < 4) (hU : ∀ c, U c < 4) (k : Nat) : (ip_pf W R n 4 ≤ k ∧ ip_ch W R U n (ip_hd W R U n k) = none) ∨ (k < ip_pf W R n 4 ∧ ∃ b, b < n ∧ ip_ch W R U n (ip_hd W R U n k) = some b) := by
  have hJ := ip_hd_J hW hR hU (n := n) k
  rcases Nat.lt_or_ge k (ip_pf W R n 4) with q | q
  · obtain ⟨b, h1, h2, h3⟩ := ip_J_step hW hR hU hJ q
    exact Or.inr ⟨q, b, h1, h2⟩
  · exact Or.inl ⟨q, (ip_J_none hR hJ q).1⟩
end
section
/-! ===== pure: what each public method answers, and the state behind it; both classes are held to these ===== -/
theorem ip_lt (a b : Int32) : a < b ↔ a.toInt < b.toInt := Int32.lt_iff_toInt_lt
theorem ip_le (a b : Int32) : a ≤ b ↔ a.toInt ≤ b.toInt := Int32.le_iff_toInt_le
theorem ip_eq (a b : Int32) : a = b ↔ a.toInt = b.toInt := Int32.toInt_inj.symm
/-- an int as a place below n -/
def ip_ix (p : Int32) (n : Nat) : Option Nat := if 0 ≤ p.toInt ∧ p.toInt < (n : Int) then some p.toInt.toNat else none
theorem ip_ix_none {p : Int32} {n : Nat} (h : p.toInt < 0 ∨ (n : Int) ≤ p.toInt) : ip_ix p n = none := if_neg (by omega)
theorem ip_ix_some {p : Int32} {n : Nat} (h0 : 0 ≤ p.toInt) (h1 : p.toInt < (n : Int)) : ∃ k, k < n ∧ p = nI k ∧ ip_ix p n = some k := by
  refine ⟨p.toInt.toNat, by omega, ?_, if_pos ⟨h0, h1⟩⟩
  have hr := fb_rng p
  apply Int32.toInt_inj.1
  rw [nI_toInt (by omega)]
  omega
theorem ip_ix_nI {k n : Nat} (h : k < n) (hn : n < 2 ^ 31) : ip_ix (nI k) n = some k := by
  have e := nI_toInt (n := k) (by omega)
  unfold ip_ix
  rw [e, if_pos (by omega)]
  simp
/-- the answer of a check 'is p a place below n' -/
def ip_yes (r p : Int32) (n : Nat) : Prop := (r = nI 0 ∧ ip_ix p n = none) ∨ (r = nI 1 ∧ ∃ k, k < n ∧ p = nI k ∧ ip_ix p n = some k)
def ip_bad (r p : Int32) (n : Nat) : Prop := (r = nI 1 ∧ ip_ix p n = none) ∨ (r = nI 0 ∧ ∃ k, k < n ∧ p = nI k ∧ ip_ix p n = some k)
theorem ip_yes_0 {p : Int32} {n : Nat} (h : p.toInt < 0 ∨ (n : Int) ≤ p.toInt) : ip_yes (nI 0) p n := Or.inl ⟨rfl, ip_ix_none h⟩
theorem ip_yes_1 {p : Int32} {n : Nat} (h0 : 0 ≤ p.toInt) (h1 : p.toInt < (n : Int)) : ip_yes (nI 1) p n := Or.inr ⟨rfl, ip_ix_some h0 h1⟩
theorem ip_bad_1 {p : Int32} {n : Nat} (h : p.toInt < 0 ∨ (n : Int) ≤ p.toInt) : ip_bad (nI 1) p n := Or.inl ⟨rfl, ip_ix_none h⟩
theorem ip_bad_0 {p : Int32} {n : Nat} (h0 : 0 ≤ p.toInt) (h1 : p.toInt < (n : Int)) : ip_bad (nI 0) p n := Or.inr ⟨rfl, ip_ix_some h0 h1⟩
def ip_oI : Option Nat → Int32
  | none => -1
  | some b => nI b
theorem ip_oI_n : ip_oI none = -1 := rfl
theorem ip_oI_s (b : Nat) : ip_oI (some b) = nI b := rfl
abbrev ip_AS : Type := (Nat → Nat) × (Nat → Nat) × (Nat → Nat) × Nat × Nat
def ip_AI (a : ip_AS) : Prop := (∀ c, a.1 c ≤ 150) ∧ (∀ c, a.2.1 c < 4) ∧ (∀ c, a.2.2.1 c < 4) ∧ a.2.2.2.1 ≤ 8 ∧ a.2.2.2.2 ≤ 1500
/-- the places from k to below i moved down by one -/
def ip_sh (f : Nat → Nat) (k i : Nat) : Nat → Nat := fun j => if k ≤ j ∧ j < i then f (j + 1) else f j
theorem ip_sh_0 (f : Nat → Nat) (k : Nat) : ip_sh f k k = f := funext fun j => if_neg (by omega)
theorem ip_sh_at (f : Nat → Nat) {k i j : Nat} (h : i ≤ j) : ip_sh f k i j = f j := if_neg (by omega)
theorem ip_sh_step (f : Nat → Nat) {k i : Nat} (h : k ≤ i) : ip_up (ip_sh f k i) i (ip_sh f k i (i + 1)) = ip_sh f k (i + 1) := by
  funext j
  rw [ip_sh_at f (by omega : i ≤ i + 1)]
  by_cases e : j = i
  · rw [e, ip_up_s]; exact (if_pos (by omega)).symm
  · rw [ip_up_n e]
    unfold ip_sh
    by_cases q : k ≤ j ∧ j < i
    · rw [if_pos q, if_pos (by omega)]
    · rw [if_neg q, if_neg (by omega)]
theorem ip_sh_all {P : Nat → Prop} {f : Nat → Nat} (h : ∀ c, P (f c)) (k i : Nat) : ∀ c, P (ip_sh f k i c) := fun c => by
  unfold ip_sh
  split
  · exact h _
  · exact h _
theorem ip_up_all {P : Nat → Prop} {f : Nat → Nat} (h : ∀ c, P (f c)) {v : Nat} (hv : P v) (k : Nat) : ∀ c, P (ip_up f k v c) := fun c => by
  unfold ip_up
  split
  · exact hv
  · exact h _
def ip_mx (f : Nat → Nat) : Nat → Nat
  | 0 => 0
  | i + 1 => if ip_mx f i < f i then f i else ip_mx f i
theorem ip_mx_succ (f : Nat → Nat) (i : Nat) : ip_mx f (i + 1) = if ip_mx f i < f i then f i else ip_mx f i := rfl
theorem ip_mx_le {f : Nat → Nat} {c : Nat} : ∀ {n : Nat}, (∀ k, k < n → f k ≤ c) → ip_mx f n ≤ c
  | 0, _ => Nat.zero_le _
  | n + 1, h => by
    have h1 := ip_mx_le (n := n) (f := f) (c := c) (fun k hk => h k (by omega))
    have h2 := h n (by omega)
    rw [ip_mx_succ]
    split <;> omega
section SP
variable (W R U : Nat → Nat) (n pt : Nat)
def sp_add (p q : Int32) : Int32 × ip_AS := match ip_ix p 151 with
  | none => (-1, (W, R, U, n, pt))
  | some w => match ip_ix q 4 with
    | none => (-2, (W, R, U, n, pt))
    | some r => if n = 8 then (-3, (W, R, U, n, pt)) else (nI n, (ip_up W n w, ip_up R n r, U, n + 1, pt))
def sp_remove (p : Int32) : Int32 × ip_AS := match ip_ix p n with
  | none => (-1, (W, R, U, n, pt))
  | some k => (nI (n - 1), (ip_sh W k (n - 1), ip_sh R k (n - 1), U, n - 1, pt))
def sp_change (p q : Int32) : Int32 × ip_AS := match ip_ix p n with
  | none => (-1, (W, R, U, n, pt))
  | some k => match ip_ix q 151 with
    | none => (-2, (W, R, U, n, pt))
    | some w => (nI (W k), (ip_up W k w, R, U, n, pt))
def sp_move (p q : Int32) : Int32 × ip_AS := match ip_ix p n with
  | none => (-1, (W, R, U, n, pt))
  | some k => match ip_ix q 4 with
    | none => (-2, (W, R, U, n, pt))
    | some r => (nI (R k), (W, ip_up R k r, U, n, pt))
def sp_rule (p q : Int32) : Int32 × ip_AS := match ip_ix p 4 with
  | none => (-1, (W, R, U, n, pt))
  | some k => match ip_ix q 4 with
    | none => (-2, (W, R, U, n, pt))
    | some r => (nI (U k), (W, R, ip_up U k r, n, pt))
def sp_estate (p : Int32) : Int32 × ip_AS := if 0 ≤ (pt : Int) + p.toInt ∧ (pt : Int) + p.toInt ≤ 1500 then (nI ((pt : Int) + p.toInt).toNat, (W, R, U, n, ((pt : Int) + p.toInt).toNat)) else (-1, (W, R, U, n, pt))
def sp_creditors : Int32 × ip_AS := (nI n, (W, R, U, n, pt))
def sp_claimOf (p : Int32) : Int32 × ip_AS := match ip_ix p n with
  | none => (-1, (W, R, U, n, pt))
  | some k => (nI (W k), (W, R, U, n, pt))
def sp_share (p : Int32) : Int32 × ip_AS := match ip_ix p n with
  | none => (-1, (W, R, U, n, pt))
  | some k => (nI (ip_hd W R U n pt k), (W, R, U, n, pt))
def sp_shareOf (p q : Int32) : Int32 × ip_AS := match ip_ix p n with
  | none => (-1, (W, R, U, n, pt))
  | some k => match ip_ix q 1501 with
    | none => (-2, (W, R, U, n, pt))
    | some a => (nI (ip_hd W R U n a k), (W, R, U, n, pt))
def sp_shareUnder (p q : Int32) : Int32 × ip_AS := match ip_ix p n with
  | none => (-1, (W, R, U, n, pt))
  | some k => match ip_ix q 4 with
    | none => (-2, (W, R, U, n, pt))
    | some t => (nI (ip_hd W R (ip_up U (R k) t) n pt k), (W, R, U, n, pt))
/-- the least estate at which k gets x -/
def ip_ls (k x : Nat) : Nat := fa_first (fun e => decide (x ≤ ip_hd W R U n e k)) 1501
def sp_leastEstate (p q : Int32) : Int32 × ip_AS := match ip_ix p n with
  | none => (-1, (W, R, U, n, pt))
  | some k => match ip_ix q 151 with
    | none => (-2, (W, R, U, n, pt))
    | some x => if W k < x then (-3, (W, R, U, n, pt)) else (nI (ip_ls W R U n k x), (W, R, U, n, pt))
def sp_claims (p : Int32) : Int32 × ip_AS := match ip_ix p 4 with
  | none => (-1, (W, R, U, n, pt))
  | some r => (nI (ip_rs R r W n), (W, R, U, n, pt))
def sp_paid (p : Int32) : Int32 × ip_AS := match ip_ix p 4 with
  | none => (-1, (W, R, U, n, pt))
  | some r => (nI (ip_rs R r (ip_hd W R U n pt) n), (W, R, U, n, pt))
def sp_left : Int32 × ip_AS := (nI (pt - ip_pf W R n 4), (W, R, U, n, pt))
def sp_next : Int32 × ip_AS := (ip_oI (ip_ch W R U n (ip_hd W R U n pt)), (W, R, U, n, pt))
def ip_un (G : Nat → Nat) (c : Nat) : Nat := if G c < W c then 1 else 0
def sp_unpaid : Int32 × ip_AS := (nI (fb_sm (ip_un W (ip_hd W R U n pt)) n), (W, R, U, n, pt))
def sp_worst : Int32 × ip_AS := (nI (ip_mx (fun c => W c - ip_hd W R U n pt c) n), (W, R, U, n, pt))
end SP
section SPOK
variable {W R U : Nat → Nat} {n pt : Nat}
theorem ip_ix_lt {p : Int32} {m k : Nat} (h : ip_ix p m = some k) : k < m := by
  unfold ip_ix at h
  split at h
  · cases h; omega
  · cases h
theorem ok_add (h : ip_AI (W, R, U, n, pt)) (p q : Int32) : ip_AI (sp_add W R U n pt p q).2 := by
  obtain ⟨h1, h2, h3, h4, h5⟩ := id h
  unfold sp_add
  split
  · exact h
  · rename_i w ew
    split
    · exact h
    · rename_i r er
      split
      · exact h
      · rename_i hn
        have := ip_ix_lt ew
        exact ⟨ip_up_all (P := fun x => x ≤ 150) h1 (by omega) n, ip_up_all (P := fun x => x < 4) h2 (ip_ix_lt er) n, h3, by show n + 1 ≤ 8; have : n ≤ 8 := h4; omega, h5⟩
theorem ok_remove (h : ip_AI (W, R, U, n, pt)) (p : Int32) : ip_AI (sp_remove W R U n pt p).2 := by
  obtain ⟨h1, h2, h3, h4, h5⟩ := id h
  unfold sp_remove
  split
  · exact h
  · exact ⟨ip_sh_all (P := fun x => x ≤ 150) h1 _ _, ip_sh_all (P := fun x => x < 4) h2 _ _, h3, by show n - 1 ≤ 8; have : n ≤ 8 := h4; omega, h5⟩
theorem ok_change (h : ip_AI (W, R, U, n, pt)) (p q : Int32) : ip_AI (sp_change W R U n pt p q).2 := by
  obtain ⟨h1, h2, h3, h4, h5⟩ := id h
  unfold sp_change
  split
  · exact h
  · split
    · exact h
    · rename_i w ew
      have := ip_ix_lt ew
      exact ⟨ip_up_all (P := fun x => x ≤ 150) h1 (by omega) _, h2, h3, h4, h5⟩
theorem ok_move (h : ip_AI (W, R, U, n, pt)) (p q : Int32) : ip_AI (sp_move W R U n pt p q).2 := by
  obtain ⟨h1, h2, h3, h4, h5⟩ := id h
  unfold sp_move
  split
  · exact h
  · split
    · exact h
    · rename_i w ew
      exact ⟨h1, ip_up_all (P := fun x => x < 4) h2 (ip_ix_lt ew) _, h3, h4, h5⟩
theorem ok_rule (h : ip_AI (W, R, U, n, pt)) (p q : Int32) : ip_AI (sp_rule W R U n pt p q).2 := by
  obtain ⟨h1, h2, h3, h4, h5⟩ := id h
  unfold sp_rule
  split
  · exact h
  · split
    · exact h
    · rename_i w ew
      exact ⟨h1, h2, ip_up_all (P := fun x => x < 4) h3 (ip_ix_lt ew) _, h4, h5⟩
theorem ok_estate (h : ip_AI (W, R, U, n, pt)) (p : Int32) : ip_AI (sp_estate W R U n pt p).2 := by
  obtain ⟨h1, h2, h3, h4, h5⟩ := id h
  unfold sp_estate
  split
  · refine ⟨h1, h2, h3, h4, ?_⟩
    show ((pt : Int) + p.toInt).toNat ≤ 1500
    omega
  · exact h
theorem ok_creditors (h : ip_AI (W, R, U, n, pt)) : ip_AI (sp_creditors W R U n pt).2 := h
theorem ok_claimOf (h : ip_AI (W, R, U, n, pt)) (p : Int32) : ip_AI (sp_claimOf W R U n pt p).2 := by unfold sp_claimOf; split <;> exact h
theorem ok_share (h : ip_AI (W, R, U, n, pt)) (p : Int32) : ip_AI (sp_share W R U n pt p).2 := by unfold sp_share; split <;> exact h
theorem ok_shareOf (h : ip_AI (W, R, U, n, pt)) (p q : Int32) : ip_AI (sp_shareOf W R U n pt p q).2 := by
  unfold sp_shareOf
  split
  · exact h
  · split <;> exact h
theorem ok_shareUnder (h : ip_AI (W, R, U, n, pt)) (p q : Int32) : ip_AI (sp_shareUnder W R U n pt p q).2 := by
  unfold sp_shareUnder
  split
  · exact h
  · split <;> exact h
theorem ok_leastEstate (h : ip_AI (W, R, U, n, pt)) (p q : Int32) : ip_AI (sp_leastEstate W R U n pt p q).2 := by
  unfold sp_leastEstate
  split
  · exact h
  · split
    · exact h
    · split <;> exact h
theorem ok_claims (h : ip_AI (W, R, U, n, pt)) (p : Int32) : ip_AI (sp_claims W R U n pt p).2 := by unfold sp_claims; split <;> exact h
theorem ok_paid (h : ip_AI (W, R, U, n, pt)) (p : Int32) : ip_AI (sp_paid W R U n pt p).2 := by unfold sp_paid; split <;> exact h
theorem ok_left (h : ip_AI (W, R, U, n, pt)) : ip_AI (sp_left W R U n pt).2 := h
theorem ok_next (h : ip_AI (W, R, U, n, pt)) : ip_AI (sp_next W R U n pt).2 := h
theorem ok_unpaid (h : ip_AI (W, R, U, n, pt)) : ip_AI (sp_unpaid W R U n pt).2 := h
theorem ok_worst (h : ip_AI (W, R, U, n, pt)) : ip_AI (sp_worst W R U n pt).2 := h
end SPOK
/-! halving: how far apart the ends can still be -/
def ip_hv (m : Nat) : Nat → Nat
  | 0 => m
  | k + 1 => ip_hv m k / 2
theorem ip_hv_succ (m k : Nat) : ip_hv m (k + 1) = ip_hv m k / 2 := rfl
theorem ip_hv_9 : ip_hv 150 9 = 0 := by decide
theorem ip_hv_12 : ip_hv 1500 12 = 0 := by decide
theorem ip_first_eq {p : Nat → Bool} {n k : Nat} (hk : k < n) (h1 : ∀ j, j < k → p j = false) (h2 : p k = true) : fa_first p n = k := by
  rcases Nat.lt_trichotomy (fa_first p n) k with q | q | q
  · have a := fa_first_yes p n (by omega)
    rw [h1 _ q] at a; cases a
  · exact q
  · have a := fa_first_no p n k q
    rw [h2] at a; cases a
theorem ip_ls_eq {W R U : Nat → Nat} {n k x e : Nat} (he : e ≤ 1500) (h1 : ∀ j, j < e → ip_hd W R U n j k < x) (h2 : x ≤ ip_hd W R U n e k) : ip_ls W R U n k x = e := by
  refine ip_first_eq (by omega) (fun j hj => ?_) (by simp [h2])
  have := h1 j hj
  simp; omega
/-- the next one is the only one that has more at one unit more -/
theorem ip_next_some {W R U : Nat → Nat} {n k c : Nat} (h : ip_hd W R U n k c < ip_hd W R U n (k + 1) c) : ip_ch W R U n (ip_hd W R U n k) = some c := by
  cases hc : ip_ch W R U n (ip_hd W R U n k) with
  | none => rw [ip_hd_none hc] at h; omega
  | some b =>
    rw [ip_hd_some hc] at h
    by_cases e : c = b
    · rw [e]
    · rw [ip_up_n e] at h; omega
theorem ip_next_none {W R U : Nat → Nat} {n k : Nat} (h : ∀ c, c < n → ip_hd W R U n (k + 1) c ≤ ip_hd W R U n k c) : ip_ch W R U n (ip_hd W R U n k) = none := by
  cases hc : ip_ch W R U n (ip_hd W R U n k) with
  | none => rfl
  | some b =>
    have := h b (ip_ch_lt hc)
    rw [ip_hd_some hc, ip_up_s] at this
    omega
end
section
/-! ===== rows over Nat: printed by wip/D-60242w/gen_rows.py ===== -/
section IPN
variable {p : Program} {l : Launch} {e : Env} {Rm : Room} {s : State} {m : MethodId} {args : Array Value} {below : List Frame} {meth : Method} {c : Code} {H : Heap} {locs : List Loc} {cells slots : Nat} {Q : State → Prop} {cc : ByteArray} {pc : Nat} {ls : Array Slot} {rest : List Value}
theorem n_iadd (hx : p.tables.exec = Jvm.exec) (hb : c.code = cc) {a b : Nat} (hdg : decode cc pc = .ok (.iadd, 1)) (k : W p l e Rm s m args below meth c H locs cells slots Q (F0 m (pc + 1) ls (.int (nI (a + b)) :: rest))) : W p l e Rm s m args below meth c H locs cells slots Q (F0 m pc ls (.int (nI b) :: .int (nI a) :: rest)) := by
  refine lv_iadd hx hb hdg ?_
  rw [nI_add]
  exact k
theorem n_isub (hx : p.tables.exec = Jvm.exec) (hb : c.code = cc) {a b : Nat} (hdg : decode cc pc = .ok (.isub, 1)) (h : b ≤ a) (k : W p l e Rm s m args below meth c H locs cells slots Q (F0 m (pc + 1) ls (.int (nI (a - b)) :: rest))) : W p l e Rm s m args below meth c H locs cells slots Q (F0 m pc ls (.int (nI b) :: .int (nI a) :: rest)) := by
  refine lv_isub hx hb hdg ?_
  rw [pk_sub h]
  exact k
theorem n_imul (hx : p.tables.exec = Jvm.exec) (hb : c.code = cc) {a b : Nat} (hdg : decode cc pc = .ok (.imul, 1)) (k : W p l e Rm s m args below meth c H locs cells slots Q (F0 m (pc + 1) ls (.int (nI (a * b)) :: rest))) : W p l e Rm s m args below meth c H locs cells slots Q (F0 m pc ls (.int (nI b) :: .int (nI a) :: rest)) := by
  refine lv_imul hx hb hdg ?_
  rw [pk_mul]
  exact k
theorem n_idiv (hx : p.tables.exec = Jvm.exec) (hb : c.code = cc) {a b : Nat} (hdg : decode cc pc = .ok (.idiv, 1)) (ha : a < 2 ^ 31) (h0 : 0 < b) (h1 : b < 2 ^ 31) (k : W p l e Rm s m args below meth c H locs cells slots Q (F0 m (pc + 1) ls (.int (nI (a / b)) :: rest))) : W p l e Rm s m args below meth c H locs cells slots Q (F0 m pc ls (.int (nI b) :: .int (nI a) :: rest)) := by
  refine lv_idiv hx hb hdg (nI_ne0 h0 h1) ?_
  rw [pk_div ha h0 h1]
  exact k
theorem n_half (hx : p.tables.exec = Jvm.exec) (hb : c.code = cc) {a : Nat} (hdg : decode cc pc = .ok (.ishr, 1)) (ha : a < 2 ^ 31) (k : W p l e Rm s m args below meth c H locs cells slots Q (F0 m (pc + 1) ls (.int (nI (a / 2)) :: rest))) : W p l e Rm s m args below meth c H locs cells slots Q (F0 m pc ls (.int (nI 1) :: .int (nI a) :: rest)) := by
  refine lv_ishr hx hb hdg ?_
  rw [pk_shrN ha (nI 1 &&& 31) 1 (by decide)]
  exact k
theorem z_icmp_eq (hx : p.tables.exec = Jvm.exec) (hb : c.code = cc) {x y : Int32} {off : Int} {tgt : Nat} (hdg : decode cc pc = .ok (.if_icmp .eq off, 3)) (ht : (pc : Int) + off = (tgt : Int)) (kt : x.toInt = y.toInt → W p l e Rm s m args below meth c H locs cells slots Q (F0 m tgt ls rest)) (kf : x.toInt ≠ y.toInt → W p l e Rm s m args below meth c H locs cells slots Q (F0 m (pc + 3) ls rest)) : W p l e Rm s m args below meth c H locs cells slots Q (F0 m pc ls (.int y :: .int x :: rest)) := by
  refine lv_icmp_eq hx hb hdg ht (fun h => kt ?_) (fun h => kf ?_)
  · rw [ip_eq] at h; exact h
  · rw [ip_eq] at h; omega
theorem n_icmp_eq (hx : p.tables.exec = Jvm.exec) (hb : c.code = cc) {a b : Nat} {off : Int} {tgt : Nat} (hdg : decode cc pc = .ok (.if_icmp .eq off, 3)) (ht : (pc : Int) + off = (tgt : Int)) (h1 : a < 2 ^ 31) (h2 : b < 2 ^ 31) (kt : a = b → W p l e Rm s m args below meth c H locs cells slots Q (F0 m tgt ls rest)) (kf : a ≠ b → W p l e Rm s m args below meth c H locs cells slots Q (F0 m (pc + 3) ls rest)) : W p l e Rm s m args below meth c H locs cells slots Q (F0 m pc ls (.int (nI b) :: .int (nI a) :: rest)) := by
  refine z_icmp_eq hx hb hdg ht (fun h => kt ?_) (fun h => kf ?_)
  · rw [nI_toInt h1, nI_toInt h2] at h; omega
  · rw [nI_toInt h1, nI_toInt h2] at h; omega
theorem z_icmp_ne (hx : p.tables.exec = Jvm.exec) (hb : c.code = cc) {x y : Int32} {off : Int} {tgt : Nat} (hdg : decode cc pc = .ok (.if_icmp .ne off, 3)) (ht : (pc : Int) + off = (tgt : Int)) (kt : x.toInt ≠ y.toInt → W p l e Rm s m args below meth c H locs cells slots Q (F0 m tgt ls rest)) (kf : x.toInt = y.toInt → W p l e Rm s m args below meth c H locs cells slots Q (F0 m (pc + 3) ls rest)) : W p l e Rm s m args below meth c H locs cells slots Q (F0 m pc ls (.int y :: .int x :: rest)) := by
  refine lv_icmp_ne hx hb hdg ht (fun h => kt ?_) (fun h => kf ?_)
  · rw [ip_eq] at h; exact h
  · rw [ip_eq] at h; omega
theorem n_icmp_ne (hx : p.tables.exec = Jvm.exec) (hb : c.code = cc) {a b : Nat} {off : Int} {tgt : Nat} (hdg : decode cc pc = .ok (.if_icmp .ne off, 3)) (ht : (pc : Int) + off = (tgt : Int)) (h1 : a < 2 ^ 31) (h2 : b < 2 ^ 31) (kt : a ≠ b → W p l e Rm s m args below meth c H locs cells slots Q (F0 m tgt ls rest)) (kf : a = b → W p l e Rm s m args below meth c H locs cells slots Q (F0 m (pc + 3) ls rest)) : W p l e Rm s m args below meth c H locs cells slots Q (F0 m pc ls (.int (nI b) :: .int (nI a) :: rest)) := by
  refine z_icmp_ne hx hb hdg ht (fun h => kt ?_) (fun h => kf ?_)
  · rw [nI_toInt h1, nI_toInt h2] at h; omega
  · rw [nI_toInt h1, nI_toInt h2] at h; omega
theorem z_icmp_lt (hx : p.tables.exec = Jvm.exec) (hb : c.code = cc) {x y : Int32} {off : Int} {tgt : Nat} (hdg : decode cc pc = .ok (.if_icmp .lt off, 3)) (ht : (pc : Int) + off = (tgt : Int)) (kt : x.toInt < y.toInt → W p l e Rm s m args below meth c H locs cells slots Q (F0 m tgt ls rest)) (kf : y.toInt ≤ x.toInt → W p l e Rm s m args below meth c H locs cells slots Q (F0 m (pc + 3) ls rest)) : W p l e Rm s m args below meth c H locs cells slots Q (F0 m pc ls (.int y :: .int x :: rest)) := by
  refine lv_icmp_lt hx hb hdg ht (fun h => kt ?_) (fun h => kf ?_)
  · rw [ip_lt] at h; exact h
  · rw [ip_lt] at h; omega
theorem n_icmp_lt (hx : p.tables.exec = Jvm.exec) (hb : c.code = cc) {a b : Nat} {off : Int} {tgt : Nat} (hdg : decode cc pc = .ok (.if_icmp .lt off, 3)) (ht : (pc : Int) + off = (tgt : Int)) (h1 : a < 2 ^ 31) (h2 : b < 2 ^ 31) (kt : a < b → W p l e Rm s m args below meth c H locs cells slots Q (F0 m tgt ls rest)) (kf : b ≤ a → W p l e Rm s m args below meth c H locs cells slots Q (F0 m (pc + 3) ls rest)) : W p l e Rm s m args below meth c H locs cells slots Q (F0 m pc ls (.int (nI b) :: .int (nI a) :: rest)) := by
  refine z_icmp_lt hx hb hdg ht (fun h => kt ?_) (fun h => kf ?_)
  · rw [nI_toInt h1, nI_toInt h2] at h; omega
  · rw [nI_toInt h1, nI_toInt h2] at h; omega
theorem z_icmp_ge (hx : p.tables.exec = Jvm.exec) (hb : c.code = cc) {x y : Int32} {off : Int} {tgt : Nat} (hdg : decode cc pc = .ok (.if_icmp .ge off, 3)) (ht : (pc : Int) + off = (tgt : Int)) (kt : y.toInt ≤ x.toInt → W p l e Rm s m args below meth c H locs cells slots Q (F0 m tgt ls rest)) (kf : x.toInt < y.toInt → W p l e Rm s m args below meth c H locs cells slots Q (F0 m (pc + 3) ls rest)) : W p l e Rm s m args below meth c H locs cells slots Q (F0 m pc ls (.int y :: .int x :: rest)) := by
  refine lv_icmp_ge hx hb hdg ht (fun h => kt ?_) (fun h => kf ?_)
  · rw [ip_le] at h; exact h
  · rw [ip_le] at h; omega
theorem n_icmp_ge (hx : p.tables.exec = Jvm.exec) (hb : c.code = cc) {a b : Nat} {off : Int} {tgt : Nat} (hdg : decode cc pc = .ok (.if_icmp .ge off, 3)) (ht : (pc : Int) + off = (tgt : Int)) (h1 : a < 2 ^ 31) (h2 : b < 2 ^ 31) (kt : b ≤ a → W p l e Rm s m args below meth c H locs cells slots Q (F0 m tgt ls rest)) (kf : a < b → W p l e Rm s m args below meth c H locs cells slots Q (F0 m (pc + 3) ls rest)) : W p l e Rm s m args below meth c H locs cells slots Q (F0 m pc ls (.int (nI b) :: .int (nI a) :: rest)) := by
  refine z_icmp_ge hx hb hdg ht (fun h => kt ?_) (fun h => kf ?_)
  · rw [nI_toInt h1, nI_toInt h2] at h; omega
  · rw [nI_toInt h1, nI_toInt h2] at h; omega
theorem z_icmp_gt (hx : p.tables.exec = Jvm.exec) (hb : c.code = cc) {x y : Int32} {off : Int} {tgt : Nat} (hdg : decode cc pc = .ok (.if_icmp .gt off, 3)) (ht : (pc : Int) + off = (tgt : Int)) (kt : y.toInt < x.toInt → W p l e Rm s m args below meth c H locs cells slots Q (F0 m tgt ls rest)) (kf : x.toInt ≤ y.toInt → W p l e Rm s m args below meth c H locs cells slots Q (F0 m (pc + 3) ls rest)) : W p l e Rm s m args below meth c H locs cells slots Q (F0 m pc ls (.int y :: .int x :: rest)) := by
  refine lv_icmp_gt hx hb hdg ht (fun h => kt ?_) (fun h => kf ?_)
  · rw [ip_lt] at h; exact h
  · rw [ip_lt] at h; omega
theorem n_icmp_gt (hx : p.tables.exec = Jvm.exec) (hb : c.code = cc) {a b : Nat} {off : Int} {tgt : Nat} (hdg : decode cc pc = .ok (.if_icmp .gt off, 3)) (ht : (pc : Int) + off = (tgt : Int)) (h1 : a < 2 ^ 31) (h2 : b < 2 ^ 31) (kt : b < a → W p l e Rm s m args below meth c H locs cells slots Q (F0 m tgt ls rest)) (kf : a ≤ b → W p l e Rm s m args below meth c H locs cells slots Q (F0 m (pc + 3) ls rest)) : W p l e Rm s m args below meth c H locs cells slots Q (F0 m pc ls (.int (nI b) :: .int (nI a) :: rest)) := by
  refine z_icmp_gt hx hb hdg ht (fun h => kt ?_) (fun h => kf ?_)
  · rw [nI_toInt h1, nI_toInt h2] at h; omega
  · rw [nI_toInt h1, nI_toInt h2] at h; omega
theorem z_icmp_le (hx : p.tables.exec = Jvm.exec) (hb : c.code = cc) {x y : Int32} {off : Int} {tgt : Nat} (hdg : decode cc pc = .ok (.if_icmp .le off, 3)) (ht : (pc : Int) + off = (tgt : Int)) (kt : x.toInt ≤ y.toInt → W p l e Rm s m args below meth c H locs cells slots Q (F0 m tgt ls rest)) (kf : y.toInt < x.toInt → W p l e Rm s m args below meth c H locs cells slots Q (F0 m (pc + 3) ls rest)) : W p l e Rm s m args below meth c H locs cells slots Q (F0 m pc ls (.int y :: .int x :: rest)) := by
  refine lv_icmp_le hx hb hdg ht (fun h => kt ?_) (fun h => kf ?_)
  · rw [ip_le] at h; exact h
  · rw [ip_le] at h; omega
theorem n_icmp_le (hx : p.tables.exec = Jvm.exec) (hb : c.code = cc) {a b : Nat} {off : Int} {tgt : Nat} (hdg : decode cc pc = .ok (.if_icmp .le off, 3)) (ht : (pc : Int) + off = (tgt : Int)) (h1 : a < 2 ^ 31) (h2 : b < 2 ^ 31) (kt : a ≤ b → W p l e Rm s m args below meth c H locs cells slots Q (F0 m tgt ls rest)) (kf : b < a → W p l e Rm s m args below meth c H locs cells slots Q (F0 m (pc + 3) ls rest)) : W p l e Rm s m args below meth c H locs cells slots Q (F0 m pc ls (.int (nI b) :: .int (nI a) :: rest)) := by
  refine z_icmp_le hx hb hdg ht (fun h => kt ?_) (fun h => kf ?_)
  · rw [nI_toInt h1, nI_toInt h2] at h; omega
  · rw [nI_toInt h1, nI_toInt h2] at h; omega
theorem ip_0 : (0 : Int32).toInt = 0 := by decide
theorem z_if_eq (hx : p.tables.exec = Jvm.exec) (hb : c.code = cc) {x : Int32} {off : Int} {tgt : Nat} (hdg : decode cc pc = .ok (.ifCond .eq off, 3)) (ht : (pc : Int) + off = (tgt : Int)) (kt : x.toInt = 0 → W p l e Rm s m args below meth c H locs cells slots Q (F0 m tgt ls rest)) (kf : x.toInt ≠ 0 → W p l e Rm s m args below meth c H locs cells slots Q (F0 m (pc + 3) ls rest)) : W p l e Rm s m args below meth c H locs cells slots Q (F0 m pc ls (.int x :: rest)) := by
  refine lv_if_eq hx hb hdg ht (fun h => kt ?_) (fun h => kf ?_)
  · rw [ip_eq, ip_0] at h; exact h
  · rw [ip_eq, ip_0] at h; omega
theorem n_if_eq (hx : p.tables.exec = Jvm.exec) (hb : c.code = cc) {a : Nat} {off : Int} {tgt : Nat} (hdg : decode cc pc = .ok (.ifCond .eq off, 3)) (ht : (pc : Int) + off = (tgt : Int)) (h1 : a < 2 ^ 31) (kt : a = 0 → W p l e Rm s m args below meth c H locs cells slots Q (F0 m tgt ls rest)) (kf : 0 < a → W p l e Rm s m args below meth c H locs cells slots Q (F0 m (pc + 3) ls rest)) : W p l e Rm s m args below meth c H locs cells slots Q (F0 m pc ls (.int (nI a) :: rest)) := by
  refine z_if_eq hx hb hdg ht (fun h => kt ?_) (fun h => kf ?_)
  · rw [nI_toInt h1] at h; omega
  · rw [nI_toInt h1] at h; omega
theorem z_if_ne (hx : p.tables.exec = Jvm.exec) (hb : c.code = cc) {x : Int32} {off : Int} {tgt : Nat} (hdg : decode cc pc = .ok (.ifCond .ne off, 3)) (ht : (pc : Int) + off = (tgt : Int)) (kt : x.toInt ≠ 0 → W p l e Rm s m args below meth c H locs cells slots Q (F0 m tgt ls rest)) (kf : x.toInt = 0 → W p l e Rm s m args below meth c H locs cells slots Q (F0 m (pc + 3) ls rest)) : W p l e Rm s m args below meth c H locs cells slots Q (F0 m pc ls (.int x :: rest)) := by
  refine lv_if_ne hx hb hdg ht (fun h => kt ?_) (fun h => kf ?_)
  · rw [ip_eq, ip_0] at h; exact h
  · rw [ip_eq, ip_0] at h; omega
theorem n_if_ne (hx : p.tables.exec = Jvm.exec) (hb : c.code = cc) {a : Nat} {off : Int} {tgt : Nat} (hdg : decode cc pc = .ok (.ifCond .ne off, 3)) (ht : (pc : Int) + off = (tgt : Int)) (h1 : a < 2 ^ 31) (kt : 0 < a → W p l e Rm s m args below meth c H locs cells slots Q (F0 m tgt ls rest)) (kf : a = 0 → W p l e Rm s m args below meth c H locs cells slots Q (F0 m (pc + 3) ls rest)) : W p l e Rm s m args below meth c H locs cells slots Q (F0 m pc ls (.int (nI a) :: rest)) := by
  refine z_if_ne hx hb hdg ht (fun h => kt ?_) (fun h => kf ?_)
  · rw [nI_toInt h1] at h; omega
  · rw [nI_toInt h1] at h; omega
theorem z_if_lt (hx : p.tables.exec = Jvm.exec) (hb : c.code = cc) {x : Int32} {off : Int} {tgt : Nat} (hdg : decode cc pc = .ok (.ifCond .lt off, 3)) (ht : (pc : Int) + off = (tgt : Int)) (kt : x.toInt < 0 → W p l e Rm s m args below meth c H locs cells slots Q (F0 m tgt ls rest)) (kf : 0 ≤ x.toInt → W p l e Rm s m args below meth c H locs cells slots Q (F0 m (pc + 3) ls rest)) : W p l e Rm s m args below meth c H locs cells slots Q (F0 m pc ls (.int x :: rest)) := by
  refine lv_if_lt hx hb hdg ht (fun h => kt ?_) (fun h => kf ?_)
  · rw [ip_lt, ip_0] at h; exact h
  · rw [ip_lt, ip_0] at h; omega
theorem n_if_lt (hx : p.tables.exec = Jvm.exec) (hb : c.code = cc) {a : Nat} {off : Int} {tgt : Nat} (hdg : decode cc pc = .ok (.ifCond .lt off, 3)) (ht : (pc : Int) + off = (tgt : Int)) (h1 : a < 2 ^ 31) (kt : False → W p l e Rm s m args below meth c H locs cells slots Q (F0 m tgt ls rest)) (kf : True → W p l e Rm s m args below meth c H locs cells slots Q (F0 m (pc + 3) ls rest)) : W p l e Rm s m args below meth c H locs cells slots Q (F0 m pc ls (.int (nI a) :: rest)) := by
  refine z_if_lt hx hb hdg ht (fun h => kt ?_) (fun h => kf ?_)
  · rw [nI_toInt h1] at h; omega
  · rw [nI_toInt h1] at h; trivial
theorem z_if_ge (hx : p.tables.exec = Jvm.exec) (hb : c.code = cc) {x : Int32} {off : Int} {tgt : Nat} (hdg : decode cc pc = .ok (.ifCond .ge off, 3)) (ht : (pc : Int) + off = (tgt : Int)) (kt : 0 ≤ x.toInt → W p l e Rm s m args below meth c H locs cells slots Q (F0 m tgt ls rest)) (kf : x.toInt < 0 → W p l e Rm s m args below meth c H locs cells slots Q (F0 m (pc + 3) ls rest)) : W p l e Rm s m args below meth c H locs cells slots Q (F0 m pc ls (.int x :: rest)) := by
  refine lv_if_ge hx hb hdg ht (fun h => kt ?_) (fun h => kf ?_)
  · rw [ip_le, ip_0] at h; exact h
  · rw [ip_le, ip_0] at h; omega
theorem n_if_ge (hx : p.tables.exec = Jvm.exec) (hb : c.code = cc) {a : Nat} {off : Int} {tgt : Nat} (hdg : decode cc pc = .ok (.ifCond .ge off, 3)) (ht : (pc : Int) + off = (tgt : Int)) (h1 : a < 2 ^ 31) (kt : True → W p l e Rm s m args below meth c H locs cells slots Q (F0 m tgt ls rest)) (kf : False → W p l e Rm s m args below meth c H locs cells slots Q (F0 m (pc + 3) ls rest)) : W p l e Rm s m args below meth c H locs cells slots Q (F0 m pc ls (.int (nI a) :: rest)) := by
  refine z_if_ge hx hb hdg ht (fun h => kt ?_) (fun h => kf ?_)
  · rw [nI_toInt h1] at h; trivial
  · rw [nI_toInt h1] at h; omega
theorem z_if_gt (hx : p.tables.exec = Jvm.exec) (hb : c.code = cc) {x : Int32} {off : Int} {tgt : Nat} (hdg : decode cc pc = .ok (.ifCond .gt off, 3)) (ht : (pc : Int) + off = (tgt : Int)) (kt : 0 < x.toInt → W p l e Rm s m args below meth c H locs cells slots Q (F0 m tgt ls rest)) (kf : x.toInt ≤ 0 → W p l e Rm s m args below meth c H locs cells slots Q (F0 m (pc + 3) ls rest)) : W p l e Rm s m args below meth c H locs cells slots Q (F0 m pc ls (.int x :: rest)) := by
  refine lv_if_gt hx hb hdg ht (fun h => kt ?_) (fun h => kf ?_)
  · rw [ip_lt, ip_0] at h; exact h
  · rw [ip_lt, ip_0] at h; omega
theorem n_if_gt (hx : p.tables.exec = Jvm.exec) (hb : c.code = cc) {a : Nat} {off : Int} {tgt : Nat} (hdg : decode cc pc = .ok (.ifCond .gt off, 3)) (ht : (pc : Int) + off = (tgt : Int)) (h1 : a < 2 ^ 31) (kt : 0 < a → W p l e Rm s m args below meth c H locs cells slots Q (F0 m tgt ls rest)) (kf : a = 0 → W p l e Rm s m args below meth c H locs cells slots Q (F0 m (pc + 3) ls rest)) : W p l e Rm s m args below meth c H locs cells slots Q (F0 m pc ls (.int (nI a) :: rest)) := by
  refine z_if_gt hx hb hdg ht (fun h => kt ?_) (fun h => kf ?_)
  · rw [nI_toInt h1] at h; omega
  · rw [nI_toInt h1] at h; omega
theorem z_if_le (hx : p.tables.exec = Jvm.exec) (hb : c.code = cc) {x : Int32} {off : Int} {tgt : Nat} (hdg : decode cc pc = .ok (.ifCond .le off, 3)) (ht : (pc : Int) + off = (tgt : Int)) (kt : x.toInt ≤ 0 → W p l e Rm s m args below meth c H locs cells slots Q (F0 m tgt ls rest)) (kf : 0 < x.toInt → W p l e Rm s m args below meth c H locs cells slots Q (F0 m (pc + 3) ls rest)) : W p l e Rm s m args below meth c H locs cells slots Q (F0 m pc ls (.int x :: rest)) := by
  refine lv_if_le hx hb hdg ht (fun h => kt ?_) (fun h => kf ?_)
  · rw [ip_le, ip_0] at h; exact h
  · rw [ip_le, ip_0] at h; omega
theorem n_if_le (hx : p.tables.exec = Jvm.exec) (hb : c.code = cc) {a : Nat} {off : Int} {tgt : Nat} (hdg : decode cc pc = .ok (.ifCond .le off, 3)) (ht : (pc : Int) + off = (tgt : Int)) (h1 : a < 2 ^ 31) (kt : a = 0 → W p l e Rm s m args below meth c H locs cells slots Q (F0 m tgt ls rest)) (kf : 0 < a → W p l e Rm s m args below meth c H locs cells slots Q (F0 m (pc + 3) ls rest)) : W p l e Rm s m args below meth c H locs cells slots Q (F0 m pc ls (.int (nI a) :: rest)) := by
  refine z_if_le hx hb hdg ht (fun h => kt ?_) (fun h => kf ?_)
  · rw [nI_toInt h1] at h; omega
  · rw [nI_toInt h1] at h; omega
end IPN
theorem ip_upd (f : Nat → Nat) {k : Nat} (hk : k < 2 ^ 31) (v : Nat) : upd (fun j => nI (f j)) (nI k).toNatClampNeg (nI v) = fun j => nI (ip_up f k v j) := by
  rw [nI_clamp hk]
  funext j
  unfold upd ip_up
  split <;> rfl
theorem ip_inc (t : Nat) : nI t + Int32.ofInt 1 = nI (t + 1) := nI_1 t
theorem ip_dec {t : Nat} (h : 1 ≤ t) : nI t + Int32.ofInt (-1) = nI (t - 1) := by
  obtain ⟨k, rfl⟩ : ∃ k, t = k + 1 := ⟨t - 1, by omega⟩
  exact pk_m1 k
abbrev ip_cl : List vw_C := [(RX0, TX0, 9), (RX1, TX1, 6)]
/-- the pool's seven cells: itself, wanted, rankOf, rules, got, limit, earlier -/
abbrev pw (a : Nat → Nat) (d : ClassId) (Wa Ra Ua Ga La Ea : Nat → Nat) (n pt ov : Nat) : va_W :=
  [(a 0, .inr (0, [.ref (a 1), .ref (a 2), .ref (a 3), .ref (a 4), .ref (a 5), .ref (a 6), .int (nI n), .int (nI pt), .int (nI ov)])),
   (a 1, .inl (d, 8, .inl (fun j => nI (Wa j)))), (a 2, .inl (d, 8, .inl (fun j => nI (Ra j)))), (a 3, .inl (d, 4, .inl (fun j => nI (Ua j)))),
   (a 4, .inl (d, 8, .inl (fun j => nI (Ga j)))), (a 5, .inl (d, 8, .inl (fun j => nI (La j)))), (a 6, .inl (d, 8, .inl (fun j => nI (Ea j))))]
/-- the reference's five cells: itself, claim, rank, rules, got -/
abbrev mw (a : Nat → Nat) (d : ClassId) (Wa Ra Ua Ga : Nat → Nat) (n pt : Nat) : va_W :=
  [(a 0, .inr (1, [.int (nI n), .ref (a 1), .ref (a 2), .ref (a 3), .int (nI pt), .ref (a 4)])),
   (a 1, .inl (d, 8, .inl (fun j => nI (Wa j)))), (a 2, .inl (d, 8, .inl (fun j => nI (Ra j)))), (a 3, .inl (d, 4, .inl (fun j => nI (Ua j)))),
   (a 4, .inl (d, 8, .inl (fun j => nI (Ga j))))]
section IPX0
variable {p : Program} {l : Launch} {e : Env} {Rm : Room} {s : State} {m : MethodId} {args : Array Value} {below : List Frame} {meth : Method} {c : Code} {H : Heap} {locs : List Loc} {cells slots : Nat} {Q : State → Prop} {cc : ByteArray} {pc : Nat} {ls : Array Slot} {rest : List Value} {D : va_G} {A : Nat → Prop} {H0 : Heap} {tys : List (ClassId × FieldType)} {a : Nat → Nat} {d : ClassId} {Wa Ra Ua Ga La Ea : Nat → Nat} {n pt ov : Nat}
theorem x0_get_W (hx : p.tables.exec = Jvm.exec) (hb : c.code = cc) (hts : ∀ w ∈ lw_all, w.before args s = true) (hown : s.vm.findClass RX0 = some m.cls) (hK : va_K D ip_cl tys s) (hP : va_P D ip_cl (pw a d Wa Ra Ua Ga La Ea n pt ov) H) (hdg : decode cc pc = .ok (.getfield 7, 3)) (k : W p l e Rm s m args below meth c H locs cells slots Q (F0 m (pc + 3) ls (.ref (a 1) :: rest))) : W p l e Rm s m args below meth c H locs cells slots Q (F0 m pc ls (.ref (a 0) :: rest)) :=
  va_get (D := D) (ci := 0) (v := .ref (a 1)) (C := RX0) (T := TX0) (N := 9) hx hb hts in_X0 hown hK hP 0 rfl rfl 0 (by decide) (hts _ q29) (fun _ h9 => h9) rfl hdg k
theorem x0_get_R (hx : p.tables.exec = Jvm.exec) (hb : c.code = cc) (hts : ∀ w ∈ lw_all, w.before args s = true) (hown : s.vm.findClass RX0 = some m.cls) (hK : va_K D ip_cl tys s) (hP : va_P D ip_cl (pw a d Wa Ra Ua Ga La Ea n pt ov) H) (hdg : decode cc pc = .ok (.getfield 13, 3)) (k : W p l e Rm s m args below meth c H locs cells slots Q (F0 m (pc + 3) ls (.ref (a 2) :: rest))) : W p l e Rm s m args below meth c H locs cells slots Q (F0 m pc ls (.ref (a 0) :: rest)) :=
  va_get (D := D) (ci := 0) (v := .ref (a 2)) (C := RX0) (T := TX0) (N := 9) hx hb hts in_X0 hown hK hP 0 rfl rfl 1 (by decide) (hts _ q30) (fun _ h9 => h9) rfl hdg k
theorem x0_get_U (hx : p.tables.exec = Jvm.exec) (hb : c.code = cc) (hts : ∀ w ∈ lw_all, w.before args s = true) (hown : s.vm.findClass RX0 = some m.cls) (hK : va_K D ip_cl tys s) (hP : va_P D ip_cl (pw a d Wa Ra Ua Ga La Ea n pt ov) H) (hdg : decode cc pc = .ok (.getfield 16, 3)) (k : W p l e Rm s m args below meth c H locs cells slots Q (F0 m (pc + 3) ls (.ref (a 3) :: rest))) : W p l e Rm s m args below meth c H locs cells slots Q (F0 m pc ls (.ref (a 0) :: rest)) :=
  va_get (D := D) (ci := 0) (v := .ref (a 3)) (C := RX0) (T := TX0) (N := 9) hx hb hts in_X0 hown hK hP 0 rfl rfl 2 (by decide) (hts _ q31) (fun _ h9 => h9) rfl hdg k
theorem x0_get_G (hx : p.tables.exec = Jvm.exec) (hb : c.code = cc) (hts : ∀ w ∈ lw_all, w.before args s = true) (hown : s.vm.findClass RX0 = some m.cls) (hK : va_K D ip_cl tys s) (hP : va_P D ip_cl (pw a d Wa Ra Ua Ga La Ea n pt ov) H) (hdg : decode cc pc = .ok (.getfield 19, 3)) (k : W p l e Rm s m args below meth c H locs cells slots Q (F0 m (pc + 3) ls (.ref (a 4) :: rest))) : W p l e Rm s m args below meth c H locs cells slots Q (F0 m pc ls (.ref (a 0) :: rest)) :=
  va_get (D := D) (ci := 0) (v := .ref (a 4)) (C := RX0) (T := TX0) (N := 9) hx hb hts in_X0 hown hK hP 0 rfl rfl 3 (by decide) (hts _ q32) (fun _ h9 => h9) rfl hdg k
theorem x0_get_L (hx : p.tables.exec = Jvm.exec) (hb : c.code = cc) (hts : ∀ w ∈ lw_all, w.before args s = true) (hown : s.vm.findClass RX0 = some m.cls) (hK : va_K D ip_cl tys s) (hP : va_P D ip_cl (pw a d Wa Ra Ua Ga La Ea n pt ov) H) (hdg : decode cc pc = .ok (.getfield 22, 3)) (k : W p l e Rm s m args below meth c H locs cells slots Q (F0 m (pc + 3) ls (.ref (a 5) :: rest))) : W p l e Rm s m args below meth c H locs cells slots Q (F0 m pc ls (.ref (a 0) :: rest)) :=
  va_get (D := D) (ci := 0) (v := .ref (a 5)) (C := RX0) (T := TX0) (N := 9) hx hb hts in_X0 hown hK hP 0 rfl rfl 4 (by decide) (hts _ q33) (fun _ h9 => h9) rfl hdg k
theorem x0_get_E (hx : p.tables.exec = Jvm.exec) (hb : c.code = cc) (hts : ∀ w ∈ lw_all, w.before args s = true) (hown : s.vm.findClass RX0 = some m.cls) (hK : va_K D ip_cl tys s) (hP : va_P D ip_cl (pw a d Wa Ra Ua Ga La Ea n pt ov) H) (hdg : decode cc pc = .ok (.getfield 25, 3)) (k : W p l e Rm s m args below meth c H locs cells slots Q (F0 m (pc + 3) ls (.ref (a 6) :: rest))) : W p l e Rm s m args below meth c H locs cells slots Q (F0 m pc ls (.ref (a 0) :: rest)) :=
  va_get (D := D) (ci := 0) (v := .ref (a 6)) (C := RX0) (T := TX0) (N := 9) hx hb hts in_X0 hown hK hP 0 rfl rfl 5 (by decide) (hts _ q34) (fun _ h9 => h9) rfl hdg k
theorem x0_get_n (hx : p.tables.exec = Jvm.exec) (hb : c.code = cc) (hts : ∀ w ∈ lw_all, w.before args s = true) (hown : s.vm.findClass RX0 = some m.cls) (hK : va_K D ip_cl tys s) (hP : va_P D ip_cl (pw a d Wa Ra Ua Ga La Ea n pt ov) H) (hdg : decode cc pc = .ok (.getfield 28, 3)) (k : W p l e Rm s m args below meth c H locs cells slots Q (F0 m (pc + 3) ls (.int (nI n) :: rest))) : W p l e Rm s m args below meth c H locs cells slots Q (F0 m pc ls (.ref (a 0) :: rest)) :=
  va_get (D := D) (ci := 0) (v := .int (nI n)) (C := RX0) (T := TX0) (N := 9) hx hb hts in_X0 hown hK hP 0 rfl rfl 6 (by decide) (hts _ q35) (fun _ h9 => h9) rfl hdg k
theorem x0_put_n {v : Nat} (hx : p.tables.exec = Jvm.exec) (hb : c.code = cc) (hts : ∀ w ∈ lw_all, w.before args s = true) (hown : s.vm.findClass RX0 = some m.cls) (hK : va_K D ip_cl tys s) (hP : va_P D ip_cl (pw a d Wa Ra Ua Ga La Ea n pt ov) H) (hD : va_D A (pw a d Wa Ra Ua Ga La Ea n pt ov)) (hS : va_S A H0 H locs) (hdg : decode cc pc = .ok (.putfield 28, 3)) (kk : ∀ (H1 : Heap) (locs1 : List Loc), va_P D ip_cl (pw a d Wa Ra Ua Ga La Ea v pt ov) H1 → va_D A (pw a d Wa Ra Ua Ga La Ea v pt ov) → va_S A H0 H1 locs1 → W p l e Rm s m args below meth c H1 locs1 cells slots Q (F0 m (pc + 3) ls rest)) : W p l e Rm s m args below meth c H locs cells slots Q (F0 m pc ls (.int (nI v) :: .ref (a 0) :: rest)) :=
  va_put (D := D) (ci := 0) (v := .int (nI v)) (ty := .int) (C := RX0) (T := TX0) (N := 9) hx hb hts in_X0 tyX0 tyX0_ok nmX0 hown hK hP hD hS 0 rfl rfl 6 (by decide) (hts _ q35) (fun _ h9 => h9) rfl (by decide +kernel) rfl rfl (Nat.le_of_ble_eq_true rfl) hdg (fun H1 locs1 h1 h2 h3 => kk H1 locs1 h1 h2 h3)
theorem x0_get_pt (hx : p.tables.exec = Jvm.exec) (hb : c.code = cc) (hts : ∀ w ∈ lw_all, w.before args s = true) (hown : s.vm.findClass RX0 = some m.cls) (hK : va_K D ip_cl tys s) (hP : va_P D ip_cl (pw a d Wa Ra Ua Ga La Ea n pt ov) H) (hdg : decode cc pc = .ok (.getfield 42, 3)) (k : W p l e Rm s m args below meth c H locs cells slots Q (F0 m (pc + 3) ls (.int (nI pt) :: rest))) : W p l e Rm s m args below meth c H locs cells slots Q (F0 m pc ls (.ref (a 0) :: rest)) :=
  va_get (D := D) (ci := 0) (v := .int (nI pt)) (C := RX0) (T := TX0) (N := 9) hx hb hts in_X0 hown hK hP 0 rfl rfl 7 (by decide) (hts _ q36) (fun _ h9 => h9) rfl hdg k
theorem x0_put_pt {v : Nat} (hx : p.tables.exec = Jvm.exec) (hb : c.code = cc) (hts : ∀ w ∈ lw_all, w.before args s = true) (hown : s.vm.findClass RX0 = some m.cls) (hK : va_K D ip_cl tys s) (hP : va_P D ip_cl (pw a d Wa Ra Ua Ga La Ea n pt ov) H) (hD : va_D A (pw a d Wa Ra Ua Ga La Ea n pt ov)) (hS : va_S A H0 H locs) (hdg : decode cc pc = .ok (.putfield 42, 3)) (kk : ∀ (H1 : Heap) (locs1 : List Loc), va_P D ip_cl (pw a d Wa Ra Ua Ga La Ea n v ov) H1 → va_D A (pw a d Wa Ra Ua Ga La Ea n v ov) → va_S A H0 H1 locs1 → W p l e Rm s m args below meth c H1 locs1 cells slots Q (F0 m (pc + 3) ls rest)) : W p l e Rm s m args below meth c H locs cells slots Q (F0 m pc ls (.int (nI v) :: .ref (a 0) :: rest)) :=
  va_put (D := D) (ci := 0) (v := .int (nI v)) (ty := .int) (C := RX0) (T := TX0) (N := 9) hx hb hts in_X0 tyX0 tyX0_ok nmX0 hown hK hP hD hS 0 rfl rfl 7 (by decide) (hts _ q36) (fun _ h9 => h9) rfl (by decide +kernel) rfl rfl (Nat.le_of_ble_eq_true rfl) hdg (fun H1 locs1 h1 h2 h3 => kk H1 locs1 h1 h2 h3)
theorem x0_get_ov (hx : p.tables.exec = Jvm.exec) (hb : c.code = cc) (hts : ∀ w ∈ lw_all, w.before args s = true) (hown : s.vm.findClass RX0 = some m.cls) (hK : va_K D ip_cl tys s) (hP : va_P D ip_cl (pw a d Wa Ra Ua Ga La Ea n pt ov) H) (hdg : decode cc pc = .ok (.getfield 53, 3)) (k : W p l e Rm s m args below meth c H locs cells slots Q (F0 m (pc + 3) ls (.int (nI ov) :: rest))) : W p l e Rm s m args below meth c H locs cells slots Q (F0 m pc ls (.ref (a 0) :: rest)) :=
  va_get (D := D) (ci := 0) (v := .int (nI ov)) (C := RX0) (T := TX0) (N := 9) hx hb hts in_X0 hown hK hP 0 rfl rfl 8 (by decide) (hts _ q37) (fun _ h9 => h9) rfl hdg k
theorem x0_put_ov {v : Nat} (hx : p.tables.exec = Jvm.exec) (hb : c.code = cc) (hts : ∀ w ∈ lw_all, w.before args s = true) (hown : s.vm.findClass RX0 = some m.cls) (hK : va_K D ip_cl tys s) (hP : va_P D ip_cl (pw a d Wa Ra Ua Ga La Ea n pt ov) H) (hD : va_D A (pw a d Wa Ra Ua Ga La Ea n pt ov)) (hS : va_S A H0 H locs) (hdg : decode cc pc = .ok (.putfield 53, 3)) (kk : ∀ (H1 : Heap) (locs1 : List Loc), va_P D ip_cl (pw a d Wa Ra Ua Ga La Ea n pt v) H1 → va_D A (pw a d Wa Ra Ua Ga La Ea n pt v) → va_S A H0 H1 locs1 → W p l e Rm s m args below meth c H1 locs1 cells slots Q (F0 m (pc + 3) ls rest)) : W p l e Rm s m args below meth c H locs cells slots Q (F0 m pc ls (.int (nI v) :: .ref (a 0) :: rest)) :=
  va_put (D := D) (ci := 0) (v := .int (nI v)) (ty := .int) (C := RX0) (T := TX0) (N := 9) hx hb hts in_X0 tyX0 tyX0_ok nmX0 hown hK hP hD hS 0 rfl rfl 8 (by decide) (hts _ q37) (fun _ h9 => h9) rfl (by decide +kernel) rfl rfl (Nat.le_of_ble_eq_true rfl) hdg (fun H1 locs1 h1 h2 h3 => kk H1 locs1 h1 h2 h3)
theorem x0_ald_W {k : Nat} (hx : p.tables.exec = Jvm.exec) (hb : c.code = cc) (hK : va_K D ip_cl [(d, .int)] s) (hP : va_P D ip_cl (pw a d Wa Ra Ua Ga La Ea n pt ov) H) (hk : k < 8) (hdg : decode cc pc = .ok (.iaload, 1)) (kk : W p l e Rm s m args below meth c H locs cells slots Q (F0 m (pc + 1) ls (.int (nI (Wa k)) :: rest))) : W p l e Rm s m args below meth c H locs cells slots Q (F0 m pc ls (.int (nI k) :: .ref (a 1) :: rest)) := by
  refine va_iald hx hb hK hP 1 0 rfl rfl (vp_in_nI hk (by decide)) hdg ?_
  rw [nI_clamp (show k < 2 ^ 31 by omega)]
  exact kk
theorem x0_ast_W {k v : Nat} (hx : p.tables.exec = Jvm.exec) (hb : c.code = cc) (hK : va_K D ip_cl [(d, .int)] s) (hP : va_P D ip_cl (pw a d Wa Ra Ua Ga La Ea n pt ov) H) (hD : va_D A (pw a d Wa Ra Ua Ga La Ea n pt ov)) (hS : va_S A H0 H locs) (hk : k < 8) (hdg : decode cc pc = .ok (.iastore, 1)) (kk : ∀ (H1 : Heap) (locs1 : List Loc), va_P D ip_cl (pw a d (ip_up Wa k v) Ra Ua Ga La Ea n pt ov) H1 → va_D A (pw a d (ip_up Wa k v) Ra Ua Ga La Ea n pt ov) → va_S A H0 H1 locs1 → W p l e Rm s m args below meth c H1 locs1 cells slots Q (F0 m (pc + 1) ls rest)) : W p l e Rm s m args below meth c H locs cells slots Q (F0 m pc ls (.int (nI v) :: .int (nI k) :: .ref (a 1) :: rest)) := by
  refine va_iast hx hb hK hP hD hS 1 0 rfl rfl (vp_in_nI hk (by decide)) hdg (fun H1 locs1 h1 h2 h3 => ?_)
  rw [ip_upd Wa (show k < 2 ^ 31 by omega)] at h1 h2
  exact kk H1 locs1 h1 h2 h3
theorem x0_ald_R {k : Nat} (hx : p.tables.exec = Jvm.exec) (hb : c.code = cc) (hK : va_K D ip_cl [(d, .int)] s) (hP : va_P D ip_cl (pw a d Wa Ra Ua Ga La Ea n pt ov) H) (hk : k < 8) (hdg : decode cc pc = .ok (.iaload, 1)) (kk : W p l e Rm s m args below meth c H locs cells slots Q (F0 m (pc + 1) ls (.int (nI (Ra k)) :: rest))) : W p l e Rm s m args below meth c H locs cells slots Q (F0 m pc ls (.int (nI k) :: .ref (a 2) :: rest)) := by
  refine va_iald hx hb hK hP 2 0 rfl rfl (vp_in_nI hk (by decide)) hdg ?_
  rw [nI_clamp (show k < 2 ^ 31 by omega)]
  exact kk
theorem x0_ast_R {k v : Nat} (hx : p.tables.exec = Jvm.exec) (hb : c.code = cc) (hK : va_K D ip_cl [(d, .int)] s) (hP : va_P D ip_cl (pw a d Wa Ra Ua Ga La Ea n pt ov) H) (hD : va_D A (pw a d Wa Ra Ua Ga La Ea n pt ov)) (hS : va_S A H0 H locs) (hk : k < 8) (hdg : decode cc pc = .ok (.iastore, 1)) (kk : ∀ (H1 : Heap) (locs1 : List Loc), va_P D ip_cl (pw a d Wa (ip_up Ra k v) Ua Ga La Ea n pt ov) H1 → va_D A (pw a d Wa (ip_up Ra k v) Ua Ga La Ea n pt ov) → va_S A H0 H1 locs1 → W p l e Rm s m args below meth c H1 locs1 cells slots Q (F0 m (pc + 1) ls rest)) : W p l e Rm s m args below meth c H locs cells slots Q (F0 m pc ls (.int (nI v) :: .int (nI k) :: .ref (a 2) :: rest)) := by
  refine va_iast hx hb hK hP hD hS 2 0 rfl rfl (vp_in_nI hk (by decide)) hdg (fun H1 locs1 h1 h2 h3 => ?_)
  rw [ip_upd Ra (show k < 2 ^ 31 by omega)] at h1 h2
  exact kk H1 locs1 h1 h2 h3
theorem x0_ald_U {k : Nat} (hx : p.tables.exec = Jvm.exec) (hb : c.code = cc) (hK : va_K D ip_cl [(d, .int)] s) (hP : va_P D ip_cl (pw a d Wa Ra Ua Ga La Ea n pt ov) H) (hk : k < 4) (hdg : decode cc pc = .ok (.iaload, 1)) (kk : W p l e Rm s m args below meth c H locs cells slots Q (F0 m (pc + 1) ls (.int (nI (Ua k)) :: rest))) : W p l e Rm s m args below meth c H locs cells slots Q (F0 m pc ls (.int (nI k) :: .ref (a 3) :: rest)) := by
  refine va_iald hx hb hK hP 3 0 rfl rfl (vp_in_nI hk (by decide)) hdg ?_
  rw [nI_clamp (show k < 2 ^ 31 by omega)]
  exact kk
theorem x0_ast_U {k v : Nat} (hx : p.tables.exec = Jvm.exec) (hb : c.code = cc) (hK : va_K D ip_cl [(d, .int)] s) (hP : va_P D ip_cl (pw a d Wa Ra Ua Ga La Ea n pt ov) H) (hD : va_D A (pw a d Wa Ra Ua Ga La Ea n pt ov)) (hS : va_S A H0 H locs) (hk : k < 4) (hdg : decode cc pc = .ok (.iastore, 1)) (kk : ∀ (H1 : Heap) (locs1 : List Loc), va_P D ip_cl (pw a d Wa Ra (ip_up Ua k v) Ga La Ea n pt ov) H1 → va_D A (pw a d Wa Ra (ip_up Ua k v) Ga La Ea n pt ov) → va_S A H0 H1 locs1 → W p l e Rm s m args below meth c H1 locs1 cells slots Q (F0 m (pc + 1) ls rest)) : W p l e Rm s m args below meth c H locs cells slots Q (F0 m pc ls (.int (nI v) :: .int (nI k) :: .ref (a 3) :: rest)) := by
  refine va_iast hx hb hK hP hD hS 3 0 rfl rfl (vp_in_nI hk (by decide)) hdg (fun H1 locs1 h1 h2 h3 => ?_)
  rw [ip_upd Ua (show k < 2 ^ 31 by omega)] at h1 h2
  exact kk H1 locs1 h1 h2 h3
theorem x0_ald_G {k : Nat} (hx : p.tables.exec = Jvm.exec) (hb : c.code = cc) (hK : va_K D ip_cl [(d, .int)] s) (hP : va_P D ip_cl (pw a d Wa Ra Ua Ga La Ea n pt ov) H) (hk : k < 8) (hdg : decode cc pc = .ok (.iaload, 1)) (kk : W p l e Rm s m args below meth c H locs cells slots Q (F0 m (pc + 1) ls (.int (nI (Ga k)) :: rest))) : W p l e Rm s m args below meth c H locs cells slots Q (F0 m pc ls (.int (nI k) :: .ref (a 4) :: rest)) := by
  refine va_iald hx hb hK hP 4 0 rfl rfl (vp_in_nI hk (by decide)) hdg ?_
  rw [nI_clamp (show k < 2 ^ 31 by omega)]
  exact kk
theorem x0_ast_G {k v : Nat} (hx : p.tables.exec = Jvm.exec) (hb : c.code = cc) (hK : va_K D ip_cl [(d, .int)] s) (hP : va_P D ip_cl (pw a d Wa Ra Ua Ga La Ea n pt ov) H) (hD : va_D A (pw a d Wa Ra Ua Ga La Ea n pt ov)) (hS : va_S A H0 H locs) (hk : k < 8) (hdg : decode cc pc = .ok (.iastore, 1)) (kk : ∀ (H1 : Heap) (locs1 : List Loc), va_P D ip_cl (pw a d Wa Ra Ua (ip_up Ga k v) La Ea n pt ov) H1 → va_D A (pw a d Wa Ra Ua (ip_up Ga k v) La Ea n pt ov) → va_S A H0 H1 locs1 → W p l e Rm s m args below meth c H1 locs1 cells slots Q (F0 m (pc + 1) ls rest)) : W p l e Rm s m args below meth c H locs cells slots Q (F0 m pc ls (.int (nI v) :: .int (nI k) :: .ref (a 4) :: rest)) := by
  refine va_iast hx hb hK hP hD hS 4 0 rfl rfl (vp_in_nI hk (by decide)) hdg (fun H1 locs1 h1 h2 h3 => ?_)
  rw [ip_upd Ga (show k < 2 ^ 31 by omega)] at h1 h2
  exact kk H1 locs1 h1 h2 h3
theorem x0_ald_L {k : Nat} (hx : p.tables.exec = Jvm.exec) (hb : c.code = cc) (hK : va_K D ip_cl [(d, .int)] s) (hP : va_P D ip_cl (pw a d Wa Ra Ua Ga La Ea n pt ov) H) (hk : k < 8) (hdg : decode cc pc = .ok (.iaload, 1)) (kk : W p l e Rm s m args below meth c H locs cells slots Q (F0 m (pc + 1) ls (.int (nI (La k)) :: rest))) : W p l e Rm s m args below meth c H locs cells slots Q (F0 m pc ls (.int (nI k) :: .ref (a 5) :: rest)) := by
  refine va_iald hx hb hK hP 5 0 rfl rfl (vp_in_nI hk (by decide)) hdg ?_
  rw [nI_clamp (show k < 2 ^ 31 by omega)]
  exact kk
theorem x0_ast_L {k v : Nat} (hx : p.tables.exec = Jvm.exec) (hb : c.code = cc) (hK : va_K D ip_cl [(d, .int)] s) (hP : va_P D ip_cl (pw a d Wa Ra Ua Ga La Ea n pt ov) H) (hD : va_D A (pw a d Wa Ra Ua Ga La Ea n pt ov)) (hS : va_S A H0 H locs) (hk : k < 8) (hdg : decode cc pc = .ok (.iastore, 1)) (kk : ∀ (H1 : Heap) (locs1 : List Loc), va_P D ip_cl (pw a d Wa Ra Ua Ga (ip_up La k v) Ea n pt ov) H1 → va_D A (pw a d Wa Ra Ua Ga (ip_up La k v) Ea n pt ov) → va_S A H0 H1 locs1 → W p l e Rm s m args below meth c H1 locs1 cells slots Q (F0 m (pc + 1) ls rest)) : W p l e Rm s m args below meth c H locs cells slots Q (F0 m pc ls (.int (nI v) :: .int (nI k) :: .ref (a 5) :: rest)) := by
  refine va_iast hx hb hK hP hD hS 5 0 rfl rfl (vp_in_nI hk (by decide)) hdg (fun H1 locs1 h1 h2 h3 => ?_)
  rw [ip_upd La (show k < 2 ^ 31 by omega)] at h1 h2
  exact kk H1 locs1 h1 h2 h3
theorem x0_ald_E {k : Nat} (hx : p.tables.exec = Jvm.exec) (hb : c.code = cc) (hK : va_K D ip_cl [(d, .int)] s) (hP : va_P D ip_cl (pw a d Wa Ra Ua Ga La Ea n pt ov) H) (hk : k < 8) (hdg : decode cc pc = .ok (.iaload, 1)) (kk : W p l e Rm s m args below meth c H locs cells slots Q (F0 m (pc + 1) ls (.int (nI (Ea k)) :: rest))) : W p l e Rm s m args below meth c H locs cells slots Q (F0 m pc ls (.int (nI k) :: .ref (a 6) :: rest)) := by
  refine va_iald hx hb hK hP 6 0 rfl rfl (vp_in_nI hk (by decide)) hdg ?_
  rw [nI_clamp (show k < 2 ^ 31 by omega)]
  exact kk
theorem x0_ast_E {k v : Nat} (hx : p.tables.exec = Jvm.exec) (hb : c.code = cc) (hK : va_K D ip_cl [(d, .int)] s) (hP : va_P D ip_cl (pw a d Wa Ra Ua Ga La Ea n pt ov) H) (hD : va_D A (pw a d Wa Ra Ua Ga La Ea n pt ov)) (hS : va_S A H0 H locs) (hk : k < 8) (hdg : decode cc pc = .ok (.iastore, 1)) (kk : ∀ (H1 : Heap) (locs1 : List Loc), va_P D ip_cl (pw a d Wa Ra Ua Ga La (ip_up Ea k v) n pt ov) H1 → va_D A (pw a d Wa Ra Ua Ga La (ip_up Ea k v) n pt ov) → va_S A H0 H1 locs1 → W p l e Rm s m args below meth c H1 locs1 cells slots Q (F0 m (pc + 1) ls rest)) : W p l e Rm s m args below meth c H locs cells slots Q (F0 m pc ls (.int (nI v) :: .int (nI k) :: .ref (a 6) :: rest)) := by
  refine va_iast hx hb hK hP hD hS 6 0 rfl rfl (vp_in_nI hk (by decide)) hdg (fun H1 locs1 h1 h2 h3 => ?_)
  rw [ip_upd Ea (show k < 2 ^ 31 by omega)] at h1 h2
  exact kk H1 locs1 h1 h2 h3
end IPX0
section IPX1
variable {p : Program} {l : Launch} {e : Env} {Rm : Room} {s : State} {m : MethodId} {args : Array Value} {below : List Frame} {meth : Method} {c : Code} {H : Heap} {locs : List Loc} {cells slots : Nat} {Q : State → Prop} {cc : ByteArray} {pc : Nat} {ls : Array Slot} {rest : List Value} {D : va_G} {A : Nat → Prop} {H0 : Heap} {tys : List (ClassId × FieldType)} {a : Nat → Nat} {d : ClassId} {Wa Ra Ua Ga : Nat → Nat} {n pt : Nat}
theorem x1_get_n (hx : p.tables.exec = Jvm.exec) (hb : c.code = cc) (hts : ∀ w ∈ lw_all, w.before args s = true) (hown : s.vm.findClass RX1 = some m.cls) (hK : va_K D ip_cl tys s) (hP : va_P D ip_cl (mw a d Wa Ra Ua Ga n pt) H) (hdg : decode cc pc = .ok (.getfield 22, 3)) (k : W p l e Rm s m args below meth c H locs cells slots Q (F0 m (pc + 3) ls (.int (nI n) :: rest))) : W p l e Rm s m args below meth c H locs cells slots Q (F0 m pc ls (.ref (a 0) :: rest)) :=
  va_get (D := D) (ci := 1) (v := .int (nI n)) (C := RX1) (T := TX1) (N := 6) hx hb hts in_X1 hown hK hP 0 rfl rfl 0 (by decide) (hts _ q186) (fun _ h9 => h9) rfl hdg k
theorem x1_put_n {v : Nat} (hx : p.tables.exec = Jvm.exec) (hb : c.code = cc) (hts : ∀ w ∈ lw_all, w.before args s = true) (hown : s.vm.findClass RX1 = some m.cls) (hK : va_K D ip_cl tys s) (hP : va_P D ip_cl (mw a d Wa Ra Ua Ga n pt) H) (hD : va_D A (mw a d Wa Ra Ua Ga n pt)) (hS : va_S A H0 H locs) (hdg : decode cc pc = .ok (.putfield 22, 3)) (kk : ∀ (H1 : Heap) (locs1 : List Loc), va_P D ip_cl (mw a d Wa Ra Ua Ga v pt) H1 → va_D A (mw a d Wa Ra Ua Ga v pt) → va_S A H0 H1 locs1 → W p l e Rm s m args below meth c H1 locs1 cells slots Q (F0 m (pc + 3) ls rest)) : W p l e Rm s m args below meth c H locs cells slots Q (F0 m pc ls (.int (nI v) :: .ref (a 0) :: rest)) :=
  va_put (D := D) (ci := 1) (v := .int (nI v)) (ty := .int) (C := RX1) (T := TX1) (N := 6) hx hb hts in_X1 tyX1 tyX1_ok nmX1 hown hK hP hD hS 0 rfl rfl 0 (by decide) (hts _ q186) (fun _ h9 => h9) rfl (by decide +kernel) rfl rfl (Nat.le_of_ble_eq_true rfl) hdg (fun H1 locs1 h1 h2 h3 => kk H1 locs1 h1 h2 h3)
theorem x1_get_W (hx : p.tables.exec = Jvm.exec) (hb : c.code = cc) (hts : ∀ w ∈ lw_all, w.before args s = true) (hown : s.vm.findClass RX1 = some m.cls) (hK : va_K D ip_cl tys s) (hP : va_P D ip_cl (mw a d Wa Ra Ua Ga n pt) H) (hdg : decode cc pc = .ok (.getfield 7, 3)) (k : W p l e Rm s m args below meth c H locs cells slots Q (F0 m (pc + 3) ls (.ref (a 1) :: rest))) : W p l e Rm s m args below meth c H locs cells slots Q (F0 m pc ls (.ref (a 0) :: rest)) :=
  va_get (D := D) (ci := 1) (v := .ref (a 1)) (C := RX1) (T := TX1) (N := 6) hx hb hts in_X1 hown hK hP 0 rfl rfl 1 (by decide) (hts _ q187) (fun _ h9 => h9) rfl hdg k
theorem x1_get_R (hx : p.tables.exec = Jvm.exec) (hb : c.code = cc) (hts : ∀ w ∈ lw_all, w.before args s = true) (hown : s.vm.findClass RX1 = some m.cls) (hK : va_K D ip_cl tys s) (hP : va_P D ip_cl (mw a d Wa Ra Ua Ga n pt) H) (hdg : decode cc pc = .ok (.getfield 13, 3)) (k : W p l e Rm s m args below meth c H locs cells slots Q (F0 m (pc + 3) ls (.ref (a 2) :: rest))) : W p l e Rm s m args below meth c H locs cells slots Q (F0 m pc ls (.ref (a 0) :: rest)) :=
  va_get (D := D) (ci := 1) (v := .ref (a 2)) (C := RX1) (T := TX1) (N := 6) hx hb hts in_X1 hown hK hP 0 rfl rfl 2 (by decide) (hts _ q188) (fun _ h9 => h9) rfl hdg k
theorem x1_get_U (hx : p.tables.exec = Jvm.exec) (hb : c.code = cc) (hts : ∀ w ∈ lw_all, w.before args s = true) (hown : s.vm.findClass RX1 = some m.cls) (hK : va_K D ip_cl tys s) (hP : va_P D ip_cl (mw a d Wa Ra Ua Ga n pt) H) (hdg : decode cc pc = .ok (.getfield 16, 3)) (k : W p l e Rm s m args below meth c H locs cells slots Q (F0 m (pc + 3) ls (.ref (a 3) :: rest))) : W p l e Rm s m args below meth c H locs cells slots Q (F0 m pc ls (.ref (a 0) :: rest)) :=
  va_get (D := D) (ci := 1) (v := .ref (a 3)) (C := RX1) (T := TX1) (N := 6) hx hb hts in_X1 hown hK hP 0 rfl rfl 3 (by decide) (hts _ q189) (fun _ h9 => h9) rfl hdg k
theorem x1_get_pt (hx : p.tables.exec = Jvm.exec) (hb : c.code = cc) (hts : ∀ w ∈ lw_all, w.before args s = true) (hown : s.vm.findClass RX1 = some m.cls) (hK : va_K D ip_cl tys s) (hP : va_P D ip_cl (mw a d Wa Ra Ua Ga n pt) H) (hdg : decode cc pc = .ok (.getfield 36, 3)) (k : W p l e Rm s m args below meth c H locs cells slots Q (F0 m (pc + 3) ls (.int (nI pt) :: rest))) : W p l e Rm s m args below meth c H locs cells slots Q (F0 m pc ls (.ref (a 0) :: rest)) :=
  va_get (D := D) (ci := 1) (v := .int (nI pt)) (C := RX1) (T := TX1) (N := 6) hx hb hts in_X1 hown hK hP 0 rfl rfl 4 (by decide) (hts _ q190) (fun _ h9 => h9) rfl hdg k
theorem x1_put_pt {v : Nat} (hx : p.tables.exec = Jvm.exec) (hb : c.code = cc) (hts : ∀ w ∈ lw_all, w.before args s = true) (hown : s.vm.findClass RX1 = some m.cls) (hK : va_K D ip_cl tys s) (hP : va_P D ip_cl (mw a d Wa Ra Ua Ga n pt) H) (hD : va_D A (mw a d Wa Ra Ua Ga n pt)) (hS : va_S A H0 H locs) (hdg : decode cc pc = .ok (.putfield 36, 3)) (kk : ∀ (H1 : Heap) (locs1 : List Loc), va_P D ip_cl (mw a d Wa Ra Ua Ga n v) H1 → va_D A (mw a d Wa Ra Ua Ga n v) → va_S A H0 H1 locs1 → W p l e Rm s m args below meth c H1 locs1 cells slots Q (F0 m (pc + 3) ls rest)) : W p l e Rm s m args below meth c H locs cells slots Q (F0 m pc ls (.int (nI v) :: .ref (a 0) :: rest)) :=
  va_put (D := D) (ci := 1) (v := .int (nI v)) (ty := .int) (C := RX1) (T := TX1) (N := 6) hx hb hts in_X1 tyX1 tyX1_ok nmX1 hown hK hP hD hS 0 rfl rfl 4 (by decide) (hts _ q190) (fun _ h9 => h9) rfl (by decide +kernel) rfl rfl (Nat.le_of_ble_eq_true rfl) hdg (fun H1 locs1 h1 h2 h3 => kk H1 locs1 h1 h2 h3)
theorem x1_get_G (hx : p.tables.exec = Jvm.exec) (hb : c.code = cc) (hts : ∀ w ∈ lw_all, w.before args s = true) (hown : s.vm.findClass RX1 = some m.cls) (hK : va_K D ip_cl tys s) (hP : va_P D ip_cl (mw a d Wa Ra Ua Ga n pt) H) (hdg : decode cc pc = .ok (.getfield 19, 3)) (k : W p l e Rm s m args below meth c H locs cells slots Q (F0 m (pc + 3) ls (.ref (a 4) :: rest))) : W p l e Rm s m args below meth c H locs cells slots Q (F0 m pc ls (.ref (a 0) :: rest)) :=
  va_get (D := D) (ci := 1) (v := .ref (a 4)) (C := RX1) (T := TX1) (N := 6) hx hb hts in_X1 hown hK hP 0 rfl rfl 5 (by decide) (hts _ q191) (fun _ h9 => h9) rfl hdg k
theorem x1_ald_W {k : Nat} (hx : p.tables.exec = Jvm.exec) (hb : c.code = cc) (hK : va_K D ip_cl [(d, .int)] s) (hP : va_P D ip_cl (mw a d Wa Ra Ua Ga n pt) H) (hk : k < 8) (hdg : decode cc pc = .ok (.iaload, 1)) (kk : W p l e Rm s m args below meth c H locs cells slots Q (F0 m (pc + 1) ls (.int (nI (Wa k)) :: rest))) : W p l e Rm s m args below meth c H locs cells slots Q (F0 m pc ls (.int (nI k) :: .ref (a 1) :: rest)) := by
  refine va_iald hx hb hK hP 1 0 rfl rfl (vp_in_nI hk (by decide)) hdg ?_
  rw [nI_clamp (show k < 2 ^ 31 by omega)]
  exact kk
theorem x1_ast_W {k v : Nat} (hx : p.tables.exec = Jvm.exec) (hb : c.code = cc) (hK : va_K D ip_cl [(d, .int)] s) (hP : va_P D ip_cl (mw a d Wa Ra Ua Ga n pt) H) (hD : va_D A (mw a d Wa Ra Ua Ga n pt)) (hS : va_S A H0 H locs) (hk : k < 8) (hdg : decode cc pc = .ok (.iastore, 1)) (kk : ∀ (H1 : Heap) (locs1 : List Loc), va_P D ip_cl (mw a d (ip_up Wa k v) Ra Ua Ga n pt) H1 → va_D A (mw a d (ip_up Wa k v) Ra Ua Ga n pt) → va_S A H0 H1 locs1 → W p l e Rm s m args below meth c H1 locs1 cells slots Q (F0 m (pc + 1) ls rest)) : W p l e Rm s m args below meth c H locs cells slots Q (F0 m pc ls (.int (nI v) :: .int (nI k) :: .ref (a 1) :: rest)) := by
  refine va_iast hx hb hK hP hD hS 1 0 rfl rfl (vp_in_nI hk (by decide)) hdg (fun H1 locs1 h1 h2 h3 => ?_)
  rw [ip_upd Wa (show k < 2 ^ 31 by omega)] at h1 h2
  exact kk H1 locs1 h1 h2 h3
theorem x1_ald_R {k : Nat} (hx : p.tables.exec = Jvm.exec) (hb : c.code = cc) (hK : va_K D ip_cl [(d, .int)] s) (hP : va_P D ip_cl (mw a d Wa Ra Ua Ga n pt) H) (hk : k < 8) (hdg : decode cc pc = .ok (.iaload, 1)) (kk : W p l e Rm s m args below meth c H locs cells slots Q (F0 m (pc + 1) ls (.int (nI (Ra k)) :: rest))) : W p l e Rm s m args below meth c H locs cells slots Q (F0 m pc ls (.int (nI k) :: .ref (a 2) :: rest)) := by
  refine va_iald hx hb hK hP 2 0 rfl rfl (vp_in_nI hk (by decide)) hdg ?_
  rw [nI_clamp (show k < 2 ^ 31 by omega)]
  exact kk
theorem x1_ast_R {k v : Nat} (hx : p.tables.exec = Jvm.exec) (hb : c.code = cc) (hK : va_K D ip_cl [(d, .int)] s) (hP : va_P D ip_cl (mw a d Wa Ra Ua Ga n pt) H) (hD : va_D A (mw a d Wa Ra Ua Ga n pt)) (hS : va_S A H0 H locs) (hk : k < 8) (hdg : decode cc pc = .ok (.iastore, 1)) (kk : ∀ (H1 : Heap) (locs1 : List Loc), va_P D ip_cl (mw a d Wa (ip_up Ra k v) Ua Ga n pt) H1 → va_D A (mw a d Wa (ip_up Ra k v) Ua Ga n pt) → va_S A H0 H1 locs1 → W p l e Rm s m args below meth c H1 locs1 cells slots Q (F0 m (pc + 1) ls rest)) : W p l e Rm s m args below meth c H locs cells slots Q (F0 m pc ls (.int (nI v) :: .int (nI k) :: .ref (a 2) :: rest)) := by
  refine va_iast hx hb hK hP hD hS 2 0 rfl rfl (vp_in_nI hk (by decide)) hdg (fun H1 locs1 h1 h2 h3 => ?_)
  rw [ip_upd Ra (show k < 2 ^ 31 by omega)] at h1 h2
  exact kk H1 locs1 h1 h2 h3
theorem x1_ald_U {k : Nat} (hx : p.tables.exec = Jvm.exec) (hb : c.code = cc) (hK : va_K D ip_cl [(d, .int)] s) (hP : va_P D ip_cl (mw a d Wa Ra Ua Ga n pt) H) (hk : k < 4) (hdg : decode cc pc = .ok (.iaload, 1)) (kk : W p l e Rm s m args below meth c H locs cells slots Q (F0 m (pc + 1) ls (.int (nI (Ua k)) :: rest))) : W p l e Rm s m args below meth c H locs cells slots Q (F0 m pc ls (.int (nI k) :: .ref (a 3) :: rest)) := by
  refine va_iald hx hb hK hP 3 0 rfl rfl (vp_in_nI hk (by decide)) hdg ?_
  rw [nI_clamp (show k < 2 ^ 31 by omega)]
  exact kk
theorem x1_ast_U {k v : Nat} (hx : p.tables.exec = Jvm.exec) (hb : c.code = cc) (hK : va_K D ip_cl [(d, .int)] s) (hP : va_P D ip_cl (mw a d Wa Ra Ua Ga n pt) H) (hD : va_D A (mw a d Wa Ra Ua Ga n pt)) (hS : va_S A H0 H locs) (hk : k < 4) (hdg : decode cc pc = .ok (.iastore, 1)) (kk : ∀ (H1 : Heap) (locs1 : List Loc), va_P D ip_cl (mw a d Wa Ra (ip_up Ua k v) Ga n pt) H1 → va_D A (mw a d Wa Ra (ip_up Ua k v) Ga n pt) → va_S A H0 H1 locs1 → W p l e Rm s m args below meth c H1 locs1 cells slots Q (F0 m (pc + 1) ls rest)) : W p l e Rm s m args below meth c H locs cells slots Q (F0 m pc ls (.int (nI v) :: .int (nI k) :: .ref (a 3) :: rest)) := by
  refine va_iast hx hb hK hP hD hS 3 0 rfl rfl (vp_in_nI hk (by decide)) hdg (fun H1 locs1 h1 h2 h3 => ?_)
  rw [ip_upd Ua (show k < 2 ^ 31 by omega)] at h1 h2
  exact kk H1 locs1 h1 h2 h3
theorem x1_ald_G {k : Nat} (hx : p.tables.exec = Jvm.exec) (hb : c.code = cc) (hK : va_K D ip_cl [(d, .int)] s) (hP : va_P D ip_cl (mw a d Wa Ra Ua Ga n pt) H) (hk : k < 8) (hdg : decode cc pc = .ok (.iaload, 1)) (kk : W p l e Rm s m args below meth c H locs cells slots Q (F0 m (pc + 1) ls (.int (nI (Ga k)) :: rest))) : W p l e Rm s m args below meth c H locs cells slots Q (F0 m pc ls (.int (nI k) :: .ref (a 4) :: rest)) := by
  refine va_iald hx hb hK hP 4 0 rfl rfl (vp_in_nI hk (by decide)) hdg ?_
  rw [nI_clamp (show k < 2 ^ 31 by omega)]
  exact kk
theorem x1_ast_G {k v : Nat} (hx : p.tables.exec = Jvm.exec) (hb : c.code = cc) (hK : va_K D ip_cl [(d, .int)] s) (hP : va_P D ip_cl (mw a d Wa Ra Ua Ga n pt) H) (hD : va_D A (mw a d Wa Ra Ua Ga n pt)) (hS : va_S A H0 H locs) (hk : k < 8) (hdg : decode cc pc = .ok (.iastore, 1)) (kk : ∀ (H1 : Heap) (locs1 : List Loc), va_P D ip_cl (mw a d Wa Ra Ua (ip_up Ga k v) n pt) H1 → va_D A (mw a d Wa Ra Ua (ip_up Ga k v) n pt) → va_S A H0 H1 locs1 → W p l e Rm s m args below meth c H1 locs1 cells slots Q (F0 m (pc + 1) ls rest)) : W p l e Rm s m args below meth c H locs cells slots Q (F0 m pc ls (.int (nI v) :: .int (nI k) :: .ref (a 4) :: rest)) := by
  refine va_iast hx hb hK hP hD hS 4 0 rfl rfl (vp_in_nI hk (by decide)) hdg (fun H1 locs1 h1 h2 h3 => ?_)
  rw [ip_upd Ga (show k < 2 ^ 31 by omega)] at h1 h2
  exact kk H1 locs1 h1 h2 h3
end IPX1
/-! ===== contracts, entries, calls within a class (the callee's world is the whole world) ===== -/
abbrev ip_PC (D : va_G) (d : ClassId) (ws : va_W) (sz : Nat) (av : List Value) : Array Value → State → Prop := va_Pc av (fun U => U.heap.size = sz ∧ va_P D ip_cl ws U.heap ∧ va_K D ip_cl [(d, .int)] U ∧ va_D (fun _ => True) ws)
abbrev ip_B (D : va_G) (d : ClassId) (A : Nat → Prop) (ws : va_W) (t : State) : Prop := va_P D ip_cl ws t.heap ∧ va_K D ip_cl [(d, .int)] t ∧ va_D A ws
/-- a contract with an int (or boolean) answer; S: what the end's world depends on -/
abbrev ip_Mi (l : Launch) (y : MethodName) (wy : List Cond) (rm : Room) (D : va_G) (d : ClassId) (ws : va_W) (av : List Value) {S : Type} (post : Int32 → S → Prop) (w2 : S → va_W) : Prop :=
  ∀ sz : Nat, Met l y wy rm (ip_PC D d ws sz av) (va_Qi post (fun u t => ip_B D d (va_A ws sz) (w2 u) t) (va_A ws sz)) 0 0 (va_A ws sz)
abbrev ip_Mv (l : Launch) (y : MethodName) (wy : List Cond) (rm : Room) (D : va_G) (d : ClassId) (ws : va_W) (av : List Value) {S : Type} (post : S → Prop) (w2 : S → va_W) : Prop :=
  ∀ sz : Nat, Met l y wy rm (ip_PC D d ws sz av) (va_Qv post (fun u t => ip_B D d (va_A ws sz) (w2 u) t) (va_A ws sz)) 0 0 (va_A ws sz)
theorem ip_ent_i {l : Launch} {y : MethodName} {b : ByteArray} {nL : Nat} {rm : Room} {D : va_G} {d : ClassId} {ws : va_W} {av : List Value} {S : Type} {post : Int32 → S → Prop} {w2 : S → va_W} (hy : plainName y.cls = true) (hlen : (lg_sl av).length ≤ nL)
    (k : ∀ (p : Program) (e : Env) (s : State) (m : MethodId) (args : Array Value) (below : List Frame) (meth : Method) (c : Code) (A : Nat → Prop) (Q : State → Prop), p.tables.exec = Jvm.exec → c.code = b → c.maxLocals = nL → s.vm.findClass y.cls = some m.cls → (∀ w ∈ lw_all, w.before args s = true) → (∀ q : Nat, s.heap.size ≤ q → A q) → va_K D ip_cl [(d, .int)] s → va_P D ip_cl ws s.heap → va_D A ws → va_S A s.heap s.heap [] →
      (∀ (u : S) (v : Int32) (H : Heap) (locs : List Loc) (pc : Nat) (ls : Array Slot), decode b pc = .ok (.ireturn, 1) → post v u → va_P D ip_cl (w2 u) H → va_D A (w2 u) → va_S A s.heap H locs → W p l e rm s m args below meth c H locs 0 0 Q (F0 m pc ls [.int v])) →
      ∀ ls : Array Slot, lv_has ls nL (lv_args 0 av) → W p l e rm s m args below meth c s.heap [] 0 0 Q (F0 m 0 ls [])) : ip_Mi l y (ws_ y b nL (some .int)) rm D d ws av post w2 := by
  intro sz
  refine Met.ofW (cc := b) (maxL := nL) (ret := (some .int)) hy rfl ?_
  intro p e s m args below meth c s₁ B hml hv
  obtain ⟨rfl, hsz, hP, hK, hD0⟩ := hv
  have hts := atoms_spec (ws := ws_ y b nL (some .int)) B.pre
  have hts : ∀ w ∈ lw_all, w.before _ s = true := fun w h => hts w (List.mem_cons_of_mem _ h)
  have hown : s.vm.findClass y.cls = some m.cls := findClass_of_methodNamed B.named
  have hlocks := B.notSynchronized
  subst hsz
  have hD := hD0.self (sz := s.heap.size)
  have hl := lv_entry av (n := nL) hlen
  rw [lg_entry_eq]
  exact k p e s m _ below meth c (va_A ws s.heap.size) _ B.exec B.bytes hml hown hts (fun q h => Or.inr h) hK hP hD va_S.rf (fun u v H locs pc ls hd hp h1 h2 h3 => W.iret B.exec B.bytes B.returns (fun t ht hW => ⟨⟨v, u, rfl, hp, by rw [ht]; exact h1, va_K.moved hW.alike hK, h2⟩, h3.F ht⟩) h3.2.2 hd) _ hl
theorem ip_ent_z {l : Launch} {y : MethodName} {b : ByteArray} {nL : Nat} {rm : Room} {D : va_G} {d : ClassId} {ws : va_W} {av : List Value} {S : Type} {post : Int32 → S → Prop} {w2 : S → va_W} (hy : plainName y.cls = true) (hlen : (lg_sl av).length ≤ nL)
    (k : ∀ (p : Program) (e : Env) (s : State) (m : MethodId) (args : Array Value) (below : List Frame) (meth : Method) (c : Code) (A : Nat → Prop) (Q : State → Prop), p.tables.exec = Jvm.exec → c.code = b → c.maxLocals = nL → s.vm.findClass y.cls = some m.cls → (∀ w ∈ lw_all, w.before args s = true) → (∀ q : Nat, s.heap.size ≤ q → A q) → va_K D ip_cl [(d, .int)] s → va_P D ip_cl ws s.heap → va_D A ws → va_S A s.heap s.heap [] →
      (∀ (u : S) (v : Int32) (H : Heap) (locs : List Loc) (pc : Nat) (ls : Array Slot), narrow .boolean (.int v) = .int v → decode b pc = .ok (.ireturn, 1) → post v u → va_P D ip_cl (w2 u) H → va_D A (w2 u) → va_S A s.heap H locs → W p l e rm s m args below meth c H locs 0 0 Q (F0 m pc ls [.int v])) →
      ∀ ls : Array Slot, lv_has ls nL (lv_args 0 av) → W p l e rm s m args below meth c s.heap [] 0 0 Q (F0 m 0 ls [])) : ip_Mi l y (ws_ y b nL (some .boolean)) rm D d ws av post w2 := by
  intro sz
  refine Met.ofW (cc := b) (maxL := nL) (ret := (some .boolean)) hy rfl ?_
  intro p e s m args below meth c s₁ B hml hv
  obtain ⟨rfl, hsz, hP, hK, hD0⟩ := hv
  have hts := atoms_spec (ws := ws_ y b nL (some .boolean)) B.pre
  have hts : ∀ w ∈ lw_all, w.before _ s = true := fun w h => hts w (List.mem_cons_of_mem _ h)
  have hown : s.vm.findClass y.cls = some m.cls := findClass_of_methodNamed B.named
  have hlocks := B.notSynchronized
  subst hsz
  have hD := hD0.self (sz := s.heap.size)
  have hl := lv_entry av (n := nL) hlen
  rw [lg_entry_eq]
  exact k p e s m _ below meth c (va_A ws s.heap.size) _ B.exec B.bytes hml hown hts (fun q h => Or.inr h) hK hP hD va_S.rf (fun u v H locs pc ls hnn hd hp h1 h2 h3 => W.zret B.exec B.bytes B.returns hnn (fun t ht hW => ⟨⟨v, u, rfl, hp, by rw [ht]; exact h1, va_K.moved hW.alike hK, h2⟩, h3.F ht⟩) h3.2.2 hd) _ hl
theorem ip_ent_v {l : Launch} {y : MethodName} {b : ByteArray} {nL : Nat} {rm : Room} {D : va_G} {d : ClassId} {ws : va_W} {av : List Value} {S : Type} {post : S → Prop} {w2 : S → va_W} (hy : plainName y.cls = true) (hlen : (lg_sl av).length ≤ nL)
    (k : ∀ (p : Program) (e : Env) (s : State) (m : MethodId) (args : Array Value) (below : List Frame) (meth : Method) (c : Code) (A : Nat → Prop) (Q : State → Prop), p.tables.exec = Jvm.exec → c.code = b → c.maxLocals = nL → s.vm.findClass y.cls = some m.cls → (∀ w ∈ lw_all, w.before args s = true) → (∀ q : Nat, s.heap.size ≤ q → A q) → va_K D ip_cl [(d, .int)] s → va_P D ip_cl ws s.heap → va_D A ws → va_S A s.heap s.heap [] →
      (∀ (u : S) (H : Heap) (locs : List Loc) (pc : Nat) (ls : Array Slot), decode b pc = .ok (.return_, 1) → post u → va_P D ip_cl (w2 u) H → va_D A (w2 u) → va_S A s.heap H locs → W p l e rm s m args below meth c H locs 0 0 Q (F0 m pc ls [])) →
      ∀ ls : Array Slot, lv_has ls nL (lv_args 0 av) → W p l e rm s m args below meth c s.heap [] 0 0 Q (F0 m 0 ls [])) : ip_Mv l y (ws_ y b nL none) rm D d ws av post w2 := by
  intro sz
  refine Met.ofW (cc := b) (maxL := nL) (ret := none) hy rfl ?_
  intro p e s m args below meth c s₁ B hml hv
  obtain ⟨rfl, hsz, hP, hK, hD0⟩ := hv
  have hts := atoms_spec (ws := ws_ y b nL none) B.pre
  have hts : ∀ w ∈ lw_all, w.before _ s = true := fun w h => hts w (List.mem_cons_of_mem _ h)
  have hown : s.vm.findClass y.cls = some m.cls := findClass_of_methodNamed B.named
  have hlocks := B.notSynchronized
  subst hsz
  have hD := hD0.self (sz := s.heap.size)
  have hl := lv_entry av (n := nL) hlen
  rw [lg_entry_eq]
  exact k p e s m _ below meth c (va_A ws s.heap.size) _ B.exec B.bytes hml hown hts (fun q h => Or.inr h) hK hP hD va_S.rf (fun u H locs pc ls hd hp h1 h2 h3 => W.vret B.exec B.bytes B.returns (fun t ht hW => ⟨⟨u, rfl, hp, by rw [ht]; exact h1, va_K.moved hW.alike hK, h2⟩, h3.F ht⟩) h3.2.2 hd) _ hl
section IPC
variable {p : Program} {l : Launch} {e : Env} {Rm : Room} {s : State} {m : MethodId} {args : Array Value} {below : List Frame} {meth : Method} {c : Code} {H : Heap} {locs : List Loc} {cells slots : Nat} {Q : State → Prop} {cc : ByteArray} {pc : Nat} {ls : Array Slot} {rest : List Value} {D : va_G} {A : Nat → Prop} {d : ClassId} {own C : String} {nL idx L2 : Nat} {y : MethodName} {b2 : ByteArray} {ret2 : Option FieldType} {rm2 : Room} {ws : va_W} {S : Type} {w2 : S → va_W} {x : Nat} {st0 : List Value}
theorem ip_blind (D : va_G) (d : ClassId) (ws : va_W) (sz : Nat) (av : List Value) : FrameBlind (ip_PC D d ws sz av) := fun a U g mk q => by
  obtain ⟨q0, q1, qP, qK, qD⟩ := q
  exact ⟨q0, q1, qP, va_K.moved (u := U) (U := U.calling g mk a) (Vm.Alike.refl U.vm) qK, qD⟩
theorem ip_fre {A : Nat → Prop} {ws : va_W} {H0 H : Heap} {locs : List Loc} (hD : va_D A ws) (hS : va_S A H0 H locs) (hA : ∀ q : Nat, H0.size ≤ q → A q) : ∀ q : Nat, va_A ws H.size q → A q := by
  intro q hq
  rcases hq with ⟨k, e, h⟩ | h
  · exact hD.2 k _ h
  · exact hA q (Nat.le_trans hS.1 h)
theorem ip_callV_i {post : Int32 → S → Prop} (As : List Value) (hx : p.tables.exec = Jvm.exec) (hb : c.code = cc) (hml : c.maxLocals = nL) (hown : s.vm.findClass own = some m.cls) (hts : ∀ w ∈ lw_all, w.before args s = true) (hA : ∀ q : Nat, s.heap.size ≤ q → A q) (hK : va_K D ip_cl [(d, .int)] s) (hM : ip_Mi l y (ws_ y b2 L2 ret2) rm2 D d ws (.ref x :: As) post w2) (cw : CallW Rm s args own C idx y b2 L2 ret2 (ws_ y b2 L2 ret2) rm2 0 0 As.length) (hrec : ∃ (ci : Nat) (q : vw_C) (fs : List Value), ip_cl[ci]? = some q ∧ q.1 = C ∧ ws[0]? = some (x, .inr (ci, fs)))
    (hP : va_P D ip_cl ws H) (hD : va_D A ws) (hS : va_S A s.heap H locs) (hsz : ls.size = nL) (hst : st0 = As.reverse ++ .ref x :: rest) (hW : (rest.map fun v => v.category).sum ≤ 8) (hdg : decode cc pc = .ok (.invokevirtual idx, 3)) (hf : cells ≤ Rm.cells ∧ slots ≤ Rm.slots)
    (kk : ∀ (r : Int32) (u : S) (H1 : Heap) (locs1 : List Loc), post r u → va_P D ip_cl (w2 u) H1 → va_D A (w2 u) → va_S A s.heap H1 locs1 → W p l e Rm s m args below meth c H1 locs1 cells slots Q (F0 m (pc + 3) ls (.int r :: rest))) : W p l e Rm s m args below meth c H locs cells slots Q (F0 m pc ls st0) := by
  have hF := ip_fre hD hS hA
  have hrec2 : ∃ cell : Cell, H[x]? = some cell ∧ cell.vm.isStatics = false ∧ s.vm.findClass C = some cell.cls := by
    obtain ⟨ci, q, fs, h1, h2, h3⟩ := hrec
    have := va_recv hK hP (ci := ci) (q0 := 0) h1 h3
    rw [h2] at this
    exact this
  refine va_calli (va_runV (As := As) (rest := rest) ⟨hx, hb, hml, hown, hts⟩ (hM H.size) cw ⟨ip_blind D d ws H.size _, hrec2, fun U hU hW => ⟨rfl, by rw [hU], by rw [hU]; exact hP, va_K.moved hW.alike hK, hD.weaken (fun _ _ _ _ => trivial)⟩⟩ rfl rfl hsz hst (lv_room hW) hdg hf) hS (fun q _ h => hF q h) hF (fun r u t H1 locs1 ht hvm hw hB hz hk hS1 => ?_)
  obtain ⟨hP1, hK1, hD1⟩ := hB
  rw [ht] at hP1
  exact kk r u H1 locs1 hw hP1 (hD1.weaken (fun k q _ h => hF q.1 h)) hS1
theorem ip_callS_i {post : Int32 → S → Prop} (As : List Value) (hx : p.tables.exec = Jvm.exec) (hb : c.code = cc) (hml : c.maxLocals = nL) (hown : s.vm.findClass own = some m.cls) (hts : ∀ w ∈ lw_all, w.before args s = true) (hA : ∀ q : Nat, s.heap.size ≤ q → A q) (hK : va_K D ip_cl [(d, .int)] s) (hM : ip_Mi l y (ws_ y b2 L2 ret2) rm2 D d ws As post w2) (cw : CallB Rm s args own idx y b2 L2 ret2 (ws_ y b2 L2 ret2) rm2 0 0 As.length ∧ (Cond.static y).before args s = true) 
    (hP : va_P D ip_cl ws H) (hD : va_D A ws) (hS : va_S A s.heap H locs) (hsz : ls.size = nL) (hst : st0 = As.reverse ++ rest) (hW : (rest.map fun v => v.category).sum ≤ 8) (hdg : decode cc pc = .ok (.invokestatic idx, 3)) (hf : cells ≤ Rm.cells ∧ slots ≤ Rm.slots)
    (kk : ∀ (r : Int32) (u : S) (H1 : Heap) (locs1 : List Loc), post r u → va_P D ip_cl (w2 u) H1 → va_D A (w2 u) → va_S A s.heap H1 locs1 → W p l e Rm s m args below meth c H1 locs1 cells slots Q (F0 m (pc + 3) ls (.int r :: rest))) : W p l e Rm s m args below meth c H locs cells slots Q (F0 m pc ls st0) := by
  have hF := ip_fre hD hS hA
  refine va_calli (va_runS (As := As) (rest := rest) ⟨hx, hb, hml, hown, hts⟩ (hM H.size) cw ⟨ip_blind D d ws H.size _, fun U hU hW => ⟨rfl, by rw [hU], by rw [hU]; exact hP, va_K.moved hW.alike hK, hD.weaken (fun _ _ _ _ => trivial)⟩⟩ rfl rfl hsz hst (lv_room hW) hdg hf) hS (fun q _ h => hF q h) hF (fun r u t H1 locs1 ht hvm hw hB hz hk hS1 => ?_)
  obtain ⟨hP1, hK1, hD1⟩ := hB
  rw [ht] at hP1
  exact kk r u H1 locs1 hw hP1 (hD1.weaken (fun k q _ h => hF q.1 h)) hS1
theorem ip_callV_v {post : S → Prop} (As : List Value) (hx : p.tables.exec = Jvm.exec) (hb : c.code = cc) (hml : c.maxLocals = nL) (hown : s.vm.findClass own = some m.cls) (hts : ∀ w ∈ lw_all, w.before args s = true) (hA : ∀ q : Nat, s.heap.size ≤ q → A q) (hK : va_K D ip_cl [(d, .int)] s) (hM : ip_Mv l y (ws_ y b2 L2 ret2) rm2 D d ws (.ref x :: As) post w2) (cw : CallW Rm s args own C idx y b2 L2 ret2 (ws_ y b2 L2 ret2) rm2 0 0 As.length) (hrec : ∃ (ci : Nat) (q : vw_C) (fs : List Value), ip_cl[ci]? = some q ∧ q.1 = C ∧ ws[0]? = some (x, .inr (ci, fs)))
    (hP : va_P D ip_cl ws H) (hD : va_D A ws) (hS : va_S A s.heap H locs) (hsz : ls.size = nL) (hst : st0 = As.reverse ++ .ref x :: rest) (hW : (rest.map fun v => v.category).sum ≤ 8) (hdg : decode cc pc = .ok (.invokevirtual idx, 3)) (hf : cells ≤ Rm.cells ∧ slots ≤ Rm.slots)
    (kk : ∀ (u : S) (H1 : Heap) (locs1 : List Loc), post u → va_P D ip_cl (w2 u) H1 → va_D A (w2 u) → va_S A s.heap H1 locs1 → W p l e Rm s m args below meth c H1 locs1 cells slots Q (F0 m (pc + 3) ls rest)) : W p l e Rm s m args below meth c H locs cells slots Q (F0 m pc ls st0) := by
  have hF := ip_fre hD hS hA
  have hrec2 : ∃ cell : Cell, H[x]? = some cell ∧ cell.vm.isStatics = false ∧ s.vm.findClass C = some cell.cls := by
    obtain ⟨ci, q, fs, h1, h2, h3⟩ := hrec
    have := va_recv hK hP (ci := ci) (q0 := 0) h1 h3
    rw [h2] at this
    exact this
  refine va_callv (va_runV (As := As) (rest := rest) ⟨hx, hb, hml, hown, hts⟩ (hM H.size) cw ⟨ip_blind D d ws H.size _, hrec2, fun U hU hW => ⟨rfl, by rw [hU], by rw [hU]; exact hP, va_K.moved hW.alike hK, hD.weaken (fun _ _ _ _ => trivial)⟩⟩ rfl rfl hsz hst (lv_room hW) hdg hf) hS (fun q _ h => hF q h) hF (fun u t H1 locs1 ht hvm hw hB hz hk hS1 => ?_)
  obtain ⟨hP1, hK1, hD1⟩ := hB
  rw [ht] at hP1
  exact kk u H1 locs1 hw hP1 (hD1.weaken (fun k q _ h => hF q.1 h)) hS1
theorem ip_callS_v {post : S → Prop} (As : List Value) (hx : p.tables.exec = Jvm.exec) (hb : c.code = cc) (hml : c.maxLocals = nL) (hown : s.vm.findClass own = some m.cls) (hts : ∀ w ∈ lw_all, w.before args s = true) (hA : ∀ q : Nat, s.heap.size ≤ q → A q) (hK : va_K D ip_cl [(d, .int)] s) (hM : ip_Mv l y (ws_ y b2 L2 ret2) rm2 D d ws As post w2) (cw : CallB Rm s args own idx y b2 L2 ret2 (ws_ y b2 L2 ret2) rm2 0 0 As.length ∧ (Cond.static y).before args s = true) 
    (hP : va_P D ip_cl ws H) (hD : va_D A ws) (hS : va_S A s.heap H locs) (hsz : ls.size = nL) (hst : st0 = As.reverse ++ rest) (hW : (rest.map fun v => v.category).sum ≤ 8) (hdg : decode cc pc = .ok (.invokestatic idx, 3)) (hf : cells ≤ Rm.cells ∧ slots ≤ Rm.slots)
    (kk : ∀ (u : S) (H1 : Heap) (locs1 : List Loc), post u → va_P D ip_cl (w2 u) H1 → va_D A (w2 u) → va_S A s.heap H1 locs1 → W p l e Rm s m args below meth c H1 locs1 cells slots Q (F0 m (pc + 3) ls rest)) : W p l e Rm s m args below meth c H locs cells slots Q (F0 m pc ls st0) := by
  have hF := ip_fre hD hS hA
  refine va_callv (va_runS (As := As) (rest := rest) ⟨hx, hb, hml, hown, hts⟩ (hM H.size) cw ⟨ip_blind D d ws H.size _, fun U hU hW => ⟨rfl, by rw [hU], by rw [hU]; exact hP, va_K.moved hW.alike hK, hD.weaken (fun _ _ _ _ => trivial)⟩⟩ rfl rfl hsz hst (lv_room hW) hdg hf) hS (fun q _ h => hF q h) hF (fun u t H1 locs1 ht hvm hw hB hz hk hS1 => ?_)
  obtain ⟨hP1, hK1, hD1⟩ := hB
  rw [ht] at hP1
  exact kk u H1 locs1 hw hP1 (hD1.weaken (fun k q _ h => hF q.1 h)) hS1
end IPC
/-- an array's picture matters at its own places alone -/
theorem ip_ext {D : va_G} {cl : List vw_C} {ws : va_W} {H : Heap} {k x N : Nat} {d : ClassId} {f g : Nat → Int32} (h : va_P D cl ws H) (hk : ws[k]? = some (x, .inl (d, N, .inl f))) (hfg : ∀ j, j < N → f j = g j) : va_P D cl (ws.set k (x, .inl (d, N, .inl g))) H := by
  intro i q hq
  by_cases e : k = i
  · subst e
    have hlt : k < ws.length := (List.getElem?_eq_some_iff.mp hk).1
    rw [List.getElem?_set_self hlt] at hq
    cases hq
    have h1 : H[x]? = some (vp_cell d (N, .inl f)) := h k _ hk
    show H[x]? = some (vp_cell d (N, .inl g))
    rw [h1, vp_cell_i, vp_cell_i]
    unfold arrV
    congr 2
    congr 1
    funext j
    exact congrArg Value.int (hfg j.val j.isLt)
  · rw [List.getElem?_set_ne e] at hq
    exact h i q hq
theorem ip_extD {A : Nat → Prop} {ws : va_W} {k x : Nat} {e0 e : va_E} (h : va_D A ws) (hk : ws[k]? = some (x, e0)) : va_D A (ws.set k (x, e)) := h.set hk
/-- there is one class of int arrays -/
theorem ip_one_d {D : va_G} {cl : List vw_C} {s : State} {d d' : ClassId} (h : va_K D cl [(d, .int)] s) (h' : va_K D cl [(d', .int)] s) : d = d' := by
  have a : s.vm.findClass ("[" ++ (FieldType.int).toString) = some d := (h.2 0 _ rfl).2
  have b : s.vm.findClass ("[" ++ (FieldType.int).toString) = some d' := (h'.2 0 _ rfl).2
  exact Option.some.inj (a.symm.trans b)
end
section
/-! ===== the pool: checks, sums, the plain public methods; printed by gen_pool1.py ===== -/
abbrev rmX0_isCreditor : Room := { frames := 0, cells := 0, slots := 0, locals := 0 }
abbrev rmX0_isRank : Room := { frames := 0, cells := 0, slots := 0, locals := 0 }
abbrev rmX0_isRule : Room := { frames := 0, cells := 0, slots := 0, locals := 0 }
abbrev rmX0_total : Room := { frames := 0, cells := 0, slots := 0, locals := 0 }
abbrev rmX0_creditors : Room := { frames := 0, cells := 0, slots := 0, locals := 0 }
abbrev rmX0_claimOf : Room := { frames := 1, cells := 0, slots := 0, locals := 21 }
abbrev rmX0_claims : Room := { frames := 1, cells := 0, slots := 0, locals := 23 }
abbrev rmX0_add : Room := { frames := 1, cells := 0, slots := 0, locals := 20 }
abbrev rmX0_remove : Room := { frames := 1, cells := 0, slots := 0, locals := 21 }
abbrev rmX0_change : Room := { frames := 1, cells := 0, slots := 0, locals := 21 }
abbrev rmX0_move : Room := { frames := 1, cells := 0, slots := 0, locals := 21 }
abbrev rmX0_rule : Room := { frames := 1, cells := 0, slots := 0, locals := 20 }
abbrev rmX0_estate : Room := { frames := 0, cells := 0, slots := 0, locals := 0 }
abbrev ip_S0 : Type := ip_AS × (Nat → Nat) × (Nat → Nat) × (Nat → Nat) × Nat
abbrev pwS (a : Nat → Nat) (d : ClassId) (u : ip_S0) : va_W := pw a d u.1.1 u.1.2.1 u.1.2.2.1 u.2.1 u.2.2.1 u.2.2.2.1 u.1.2.2.2.1 u.1.2.2.2.2 u.2.2.2.2
theorem cwX0_isCreditor {s : State} {args : Array Value} {Rm : Room} (hts : ∀ w ∈ lw_all, w.before args s = true) (hR : rmX0_isCreditor.frames + 1 ≤ Rm.frames ∧ 8 + (2 + 11) + rmX0_isCreditor.locals ≤ Rm.locals) : CallW Rm s args RX0 RX0 36 yX0_isCreditor cX0_isCreditor 2 (some .boolean) (ws_ yX0_isCreditor cX0_isCreditor 2 (some .boolean)) rmX0_isCreditor 0 0 1 :=
  cwV 1 hts (lw_V q69 q71 qs0 q19 q72) rfl rfl rfl (by decide +kernel) hR
theorem cwX0_isRank {s : State} {args : Array Value} {Rm : Room} (hts : ∀ w ∈ lw_all, w.before args s = true) (hR : rmX0_isRank.frames + 1 ≤ Rm.frames ∧ 8 + (1 + 11) + rmX0_isRank.locals ≤ Rm.locals) : CallB Rm s args RX0 32 yX0_isRank cX0_isRank 1 (some .boolean) (ws_ yX0_isRank cX0_isRank 1 (some .boolean)) rmX0_isRank 0 0 1 ∧ (Cond.static yX0_isRank).before args s = true :=
  va_cwS 1 hts (lw_S q62 q63 q19 q64) rfl rfl rfl (by decide +kernel) hR
theorem cwX0_isRule {s : State} {args : Array Value} {Rm : Room} (hts : ∀ w ∈ lw_all, w.before args s = true) (hR : rmX0_isRule.frames + 1 ≤ Rm.frames ∧ 8 + (1 + 11) + rmX0_isRule.locals ≤ Rm.locals) : CallB Rm s args RX0 39 yX0_isRule cX0_isRule 1 (some .boolean) (ws_ yX0_isRule cX0_isRule 1 (some .boolean)) rmX0_isRule 0 0 1 ∧ (Cond.static yX0_isRule).before args s = true :=
  va_cwS 1 hts (lw_S q85 q86 q19 q87) rfl rfl rfl (by decide +kernel) hR
theorem cwX0_total {s : State} {args : Array Value} {Rm : Room} (hts : ∀ w ∈ lw_all, w.before args s = true) (hR : rmX0_total.frames + 1 ≤ Rm.frames ∧ 8 + (4 + 11) + rmX0_total.locals ≤ Rm.locals) : CallW Rm s args RX0 RX0 49 yX0_total cX0_total 4 (some .int) (ws_ yX0_total cX0_total 4 (some .int)) rmX0_total 0 0 1 :=
  cwV 1 hts (lw_V q108 q110 qs2 q19 q111) rfl rfl rfl (by decide +kernel) hR
set_option maxHeartbeats 4000000 in
set_option maxRecDepth 100000 in
/-- is there a creditor of that number -/
theorem kX0_isCreditor (l : Launch) (D : va_G) (d : ClassId) (a : Nat → Nat) (Wa Ra Ua Ga La Ea : Nat → Nat) (n pt ov : Nat) (hI : ip_AI (Wa, Ra, Ua, n, pt)) (p0 : Int32)  : ip_Mi l yX0_isCreditor (ws_ yX0_isCreditor cX0_isCreditor 2 (some .boolean)) rmX0_isCreditor D d (pw a d Wa Ra Ua Ga La Ea n pt ov) [.ref (a 0), .int p0] (S := Unit) (fun v _ => ip_yes v p0 n) (fun _ => (pw a d Wa Ra Ua Ga La Ea n pt ov)) := by
  obtain ⟨hW, hR, hU, hn, hpt⟩ := id hI
  have hW : ∀ j, Wa j ≤ 150 := hW
  have hR : ∀ j, Ra j < 4 := hR
  have hU : ∀ j, Ua j < 4 := hU
  have hn : n ≤ 8 := hn
  have hpt : pt ≤ 1500 := hpt
  refine ip_ent_z (by decide) (Nat.le_of_ble_eq_true rfl) ?_
  intro p e s m args below meth c A Q hx hb hml hown hts hA hK hP hD hS hret ls hl
  have hown : s.vm.findClass RX0 = some m.cls := hown
  have hl : lv_has ls 2 [(0, .ref (a 0)), (1, .int p0)] := hl
  refine lv_iload_n hx hb dX0_isCreditor_0 rfl (lv_at hl 1 rfl) ?_
  refine z_if_lt (tgt := 16) hx hb dX0_isCreditor_1 (by decide) (fun c_1 => ?_) (fun c_1 => ?_)
  · skip
    refine lv_iconst (v := nI 0) hx hb dX0_isCreditor_16 (by decide) ?_
    exact hret () _ _ _ _ _ rfl dX0_isCreditor_17 (ip_yes_0 (by omega)) hP hD hS
  · skip
    refine lv_iload_n hx hb dX0_isCreditor_4 rfl (lv_at hl 1 rfl) ?_
    refine lv_aload_n hx hb dX0_isCreditor_5 rfl (lv_at hl 0 rfl) ?_
    refine x0_get_n hx hb hts hown hK hP dX0_isCreditor_6 ?_
    refine z_icmp_ge (tgt := 16) hx hb dX0_isCreditor_9 (by decide) (fun c_2 => ?_) (fun c_2 => ?_)
    · skip
      rw [nI_toInt (show n < 2 ^ 31 by omega)] at c_2
      refine lv_iconst (v := nI 0) hx hb dX0_isCreditor_16 (by decide) ?_
      exact hret () _ _ _ _ _ rfl dX0_isCreditor_17 (ip_yes_0 (by omega)) hP hD hS
    · skip
      rw [nI_toInt (show n < 2 ^ 31 by omega)] at c_2
      refine lv_iconst (v := nI 1) hx hb dX0_isCreditor_12 (by decide) ?_
      refine lv_goto (tgt := 17) hx hb dX0_isCreditor_13 (by decide) ?_
      exact hret () _ _ _ _ _ rfl dX0_isCreditor_17 (ip_yes_1 (by omega) (by omega)) hP hD hS
set_option maxHeartbeats 4000000 in
set_option maxRecDepth 100000 in
theorem kX0_isRank (l : Launch) (D : va_G) (d : ClassId) (a : Nat → Nat) (Wa Ra Ua Ga La Ea : Nat → Nat) (n pt ov : Nat) (hI : ip_AI (Wa, Ra, Ua, n, pt)) (p0 : Int32)  : ip_Mi l yX0_isRank (ws_ yX0_isRank cX0_isRank 1 (some .boolean)) rmX0_isRank D d (pw a d Wa Ra Ua Ga La Ea n pt ov) [.int p0] (S := Unit) (fun v _ => ip_yes v p0 4) (fun _ => (pw a d Wa Ra Ua Ga La Ea n pt ov)) := by
  obtain ⟨hW, hR, hU, hn, hpt⟩ := id hI
  have hW : ∀ j, Wa j ≤ 150 := hW
  have hR : ∀ j, Ra j < 4 := hR
  have hU : ∀ j, Ua j < 4 := hU
  have hn : n ≤ 8 := hn
  have hpt : pt ≤ 1500 := hpt
  refine ip_ent_z (by decide) (Nat.le_of_ble_eq_true rfl) ?_
  intro p e s m args below meth c A Q hx hb hml hown hts hA hK hP hD hS hret ls hl
  have hown : s.vm.findClass RX0 = some m.cls := hown
  have hl : lv_has ls 1 [(0, .int p0)] := hl
  refine lv_iload_n hx hb dX0_isRank_0 rfl (lv_at hl 0 rfl) ?_
  refine z_if_lt (tgt := 13) hx hb dX0_isRank_1 (by decide) (fun c_1 => ?_) (fun c_1 => ?_)
  · skip
    refine lv_iconst (v := nI 0) hx hb dX0_isRank_13 (by decide) ?_
    exact hret () _ _ _ _ _ rfl dX0_isRank_14 (ip_yes_0 (by omega)) hP hD hS
  · skip
    refine lv_iload_n hx hb dX0_isRank_4 rfl (lv_at hl 0 rfl) ?_
    refine lv_iconst (v := nI 4) hx hb dX0_isRank_5 (by decide) ?_
    refine z_icmp_ge (tgt := 13) hx hb dX0_isRank_6 (by decide) (fun c_2 => ?_) (fun c_2 => ?_)
    · skip
      rw [nI_toInt (show 4 < 2 ^ 31 by omega)] at c_2
      refine lv_iconst (v := nI 0) hx hb dX0_isRank_13 (by decide) ?_
      exact hret () _ _ _ _ _ rfl dX0_isRank_14 (ip_yes_0 (by omega)) hP hD hS
    · skip
      rw [nI_toInt (show 4 < 2 ^ 31 by omega)] at c_2
      refine lv_iconst (v := nI 1) hx hb dX0_isRank_9 (by decide) ?_
      refine lv_goto (tgt := 14) hx hb dX0_isRank_10 (by decide) ?_
      exact hret () _ _ _ _ _ rfl dX0_isRank_14 (ip_yes_1 (by omega) (by omega)) hP hD hS
set_option maxHeartbeats 4000000 in
set_option maxRecDepth 100000 in
theorem kX0_isRule (l : Launch) (D : va_G) (d : ClassId) (a : Nat → Nat) (Wa Ra Ua Ga La Ea : Nat → Nat) (n pt ov : Nat) (hI : ip_AI (Wa, Ra, Ua, n, pt)) (p0 : Int32)  : ip_Mi l yX0_isRule (ws_ yX0_isRule cX0_isRule 1 (some .boolean)) rmX0_isRule D d (pw a d Wa Ra Ua Ga La Ea n pt ov) [.int p0] (S := Unit) (fun v _ => ip_yes v p0 4) (fun _ => (pw a d Wa Ra Ua Ga La Ea n pt ov)) := by
  obtain ⟨hW, hR, hU, hn, hpt⟩ := id hI
  have hW : ∀ j, Wa j ≤ 150 := hW
  have hR : ∀ j, Ra j < 4 := hR
  have hU : ∀ j, Ua j < 4 := hU
  have hn : n ≤ 8 := hn
  have hpt : pt ≤ 1500 := hpt
  refine ip_ent_z (by decide) (Nat.le_of_ble_eq_true rfl) ?_
  intro p e s m args below meth c A Q hx hb hml hown hts hA hK hP hD hS hret ls hl
  have hown : s.vm.findClass RX0 = some m.cls := hown
  have hl : lv_has ls 1 [(0, .int p0)] := hl
  refine lv_iload_n hx hb dX0_isRule_0 rfl (lv_at hl 0 rfl) ?_
  refine z_if_lt (tgt := 13) hx hb dX0_isRule_1 (by decide) (fun c_1 => ?_) (fun c_1 => ?_)
  · skip
    refine lv_iconst (v := nI 0) hx hb dX0_isRule_13 (by decide) ?_
    exact hret () _ _ _ _ _ rfl dX0_isRule_14 (ip_yes_0 (by omega)) hP hD hS
  · skip
    refine lv_iload_n hx hb dX0_isRule_4 rfl (lv_at hl 0 rfl) ?_
    refine lv_iconst (v := nI 3) hx hb dX0_isRule_5 (by decide) ?_
    refine z_icmp_gt (tgt := 13) hx hb dX0_isRule_6 (by decide) (fun c_2 => ?_) (fun c_2 => ?_)
    · skip
      rw [nI_toInt (show 3 < 2 ^ 31 by omega)] at c_2
      refine lv_iconst (v := nI 0) hx hb dX0_isRule_13 (by decide) ?_
      exact hret () _ _ _ _ _ rfl dX0_isRule_14 (ip_yes_0 (by omega)) hP hD hS
    · skip
      rw [nI_toInt (show 3 < 2 ^ 31 by omega)] at c_2
      refine lv_iconst (v := nI 1) hx hb dX0_isRule_9 (by decide) ?_
      refine lv_goto (tgt := 14) hx hb dX0_isRule_10 (by decide) ?_
      exact hret () _ _ _ _ _ rfl dX0_isRule_14 (ip_yes_1 (by omega) (by omega)) hP hD hS
set_option maxHeartbeats 4000000 in
set_option maxRecDepth 100000 in
/-- the sum of the claims of a rank -/
theorem kX0_total (l : Launch) (D : va_G) (d : ClassId) (a : Nat → Nat) (Wa Ra Ua Ga La Ea : Nat → Nat) (n pt ov : Nat) (hI : ip_AI (Wa, Ra, Ua, n, pt)) (r : Nat) (hr : r < 4) : ip_Mi l yX0_total (ws_ yX0_total cX0_total 4 (some .int)) rmX0_total D d (pw a d Wa Ra Ua Ga La Ea n pt ov) [.ref (a 0), .int (nI r)] (S := Unit) (fun v _ => v = nI (ip_rs Ra r Wa n)) (fun _ => (pw a d Wa Ra Ua Ga La Ea n pt ov)) := by
  obtain ⟨hW, hR, hU, hn, hpt⟩ := id hI
  have hW : ∀ j, Wa j ≤ 150 := hW
  have hR : ∀ j, Ra j < 4 := hR
  have hU : ∀ j, Ua j < 4 := hU
  have hn : n ≤ 8 := hn
  have hpt : pt ≤ 1500 := hpt
  refine ip_ent_i (by decide) (Nat.le_of_ble_eq_true rfl) ?_
  intro p e s m args below meth c A Q hx hb hml hown hts hA hK hP hD hS hret ls hl
  have hown : s.vm.findClass RX0 = some m.cls := hown
  have hl : lv_has ls 4 [(0, .ref (a 0)), (1, .int (nI r))] := hl
  have lp4 : ∀ (N4 : Nat) (i : Nat) (x : Nat), (i ≤ n) → (x = ip_rs Ra r Wa i) → n - i < N4 → ∀ (H : Heap) (locs : List Loc), va_P D ip_cl (pw a d Wa Ra Ua Ga La Ea n pt ov) H → va_D A (pw a d Wa Ra Ua Ga La Ea n pt ov) → va_S A s.heap H locs → ∀ (ls : Array Slot), lv_has ls 4 [(3, .int (nI i)), (2, .int (nI x)), (0, .ref (a 0)), (1, .int (nI r))] → W p l e rmX0_total s m args below meth c H locs 0 0 Q (F0 m 4 ls []) := by
    intro N4
    induction N4 with
    | zero =>
      intro i x _ _ hm
      exact absurd hm (Nat.not_lt_zero _)
    | succ N4 ih4 =>
      intro i x hi he hm4 H locs hP hD hS ls hl
      refine lv_iload_n hx hb dX0_total_4 rfl (lv_at hl 0 rfl) ?_
      refine lv_aload_n hx hb dX0_total_5 rfl (lv_at hl 2 rfl) ?_
      refine x0_get_n hx hb hts hown hK hP dX0_total_6 ?_
      refine n_icmp_ge (tgt := 41) hx hb dX0_total_9 (by decide) (by omega) (by omega) (fun c_1 => ?_) (fun c_1 => ?_)
      · skip
        refine lv_iload_n hx hb dX0_total_41 rfl (lv_at hl 1 rfl) ?_
        exact hret () _ _ _ _ _ dX0_total_42 (by rw [he, show i = n by omega]) hP hD hS
      · skip
        refine lv_iload_n hx hb dX0_total_12 rfl (lv_at hl 1 rfl) ?_
        refine lv_aload_n hx hb dX0_total_13 rfl (lv_at hl 2 rfl) ?_
        refine x0_get_R hx hb hts hown hK hP dX0_total_14 ?_
        refine lv_iload_n hx hb dX0_total_17 rfl (lv_at hl 0 rfl) ?_
        refine x0_ald_R hx hb hK hP (by omega) dX0_total_18 ?_
        have b_2 := hR i
        refine lv_iload_n hx hb dX0_total_19 rfl (lv_at hl 3 rfl) ?_
        refine n_icmp_ne (tgt := 32) hx hb dX0_total_20 (by decide) (by omega) (by omega) (fun c_3 => ?_) (fun c_3 => ?_)
        · skip
          refine lv_iconst (v := nI 0) hx hb dX0_total_32 (by decide) ?_
          refine n_iadd hx hb dX0_total_33 ?_
          refine lv_istore_n (lv' := [(2, .int (nI (x + 0))), (3, .int (nI i)), (0, .ref (a 0)), (1, .int (nI r))]) hx hb dX0_total_34 rfl hl (by decide) rfl (fun ls hl => ?_)
          refine lv_iinc (v := nI (i + 1)) (lv' := [(3, .int (nI (i + 1))), (2, .int (nI (x + 0))), (0, .ref (a 0)), (1, .int (nI r))]) hx hb dX0_total_35 hl (k := 1) rfl (ip_inc i) (by decide) rfl (fun ls hl => ?_)
          refine lv_goto (tgt := 4) hx hb dX0_total_38 (by decide) ?_
          exact ih4 (i + 1) (x + 0) (by omega) (by rw [ip_rs_succ]; split <;> omega) (by omega) _ _ hP hD hS ls (lv_sub hl [0, 1, 2, 3] rfl)
        · skip
          refine lv_aload_n hx hb dX0_total_23 rfl (lv_at hl 2 rfl) ?_
          refine x0_get_W hx hb hts hown hK hP dX0_total_24 ?_
          refine lv_iload_n hx hb dX0_total_27 rfl (lv_at hl 0 rfl) ?_
          refine x0_ald_W hx hb hK hP (by omega) dX0_total_28 ?_
          have b_4 := hW i
          refine lv_goto (tgt := 33) hx hb dX0_total_29 (by decide) ?_
          refine n_iadd hx hb dX0_total_33 ?_
          refine lv_istore_n (lv' := [(2, .int (nI (x + (Wa i)))), (3, .int (nI i)), (0, .ref (a 0)), (1, .int (nI r))]) hx hb dX0_total_34 rfl hl (by decide) rfl (fun ls hl => ?_)
          refine lv_iinc (v := nI (i + 1)) (lv' := [(3, .int (nI (i + 1))), (2, .int (nI (x + (Wa i)))), (0, .ref (a 0)), (1, .int (nI r))]) hx hb dX0_total_35 hl (k := 1) rfl (ip_inc i) (by decide) rfl (fun ls hl => ?_)
          refine lv_goto (tgt := 4) hx hb dX0_total_38 (by decide) ?_
          exact ih4 (i + 1) (x + (Wa i)) (by omega) (by rw [ip_rs_succ]; split <;> omega) (by omega) _ _ hP hD hS ls (lv_sub hl [0, 1, 2, 3] rfl)
  refine lv_iconst (v := nI 0) hx hb dX0_total_0 (by decide) ?_
  refine lv_istore_n (lv' := [(2, .int (nI 0)), (0, .ref (a 0)), (1, .int (nI r))]) hx hb dX0_total_1 rfl hl (by decide) rfl (fun ls hl => ?_)
  refine lv_iconst (v := nI 0) hx hb dX0_total_2 (by decide) ?_
  refine lv_istore_n (lv' := [(3, .int (nI 0)), (2, .int (nI 0)), (0, .ref (a 0)), (1, .int (nI r))]) hx hb dX0_total_3 rfl hl (by decide) rfl (fun ls hl => ?_)
  exact lp4 _ 0 0 (by omega) (rfl) (Nat.lt_succ_self _) _ _ hP hD hS ls (lv_sub hl [0, 1, 2, 3] rfl)
set_option maxHeartbeats 4000000 in
set_option maxRecDepth 100000 in
theorem kX0_creditors (l : Launch) (D : va_G) (d : ClassId) (a : Nat → Nat) (Wa Ra Ua Ga La Ea : Nat → Nat) (n pt ov : Nat) (hI : ip_AI (Wa, Ra, Ua, n, pt))   : ip_Mi l yX0_creditors (ws_ yX0_creditors cX0_creditors 1 (some .int)) rmX0_creditors D d (pw a d Wa Ra Ua Ga La Ea n pt ov) [.ref (a 0)] (S := ip_S0) (fun v u => (v, u.1) = sp_creditors Wa Ra Ua n pt) (pwS a d) := by
  obtain ⟨hW, hR, hU, hn, hpt⟩ := id hI
  have hW : ∀ j, Wa j ≤ 150 := hW
  have hR : ∀ j, Ra j < 4 := hR
  have hU : ∀ j, Ua j < 4 := hU
  have hn : n ≤ 8 := hn
  have hpt : pt ≤ 1500 := hpt
  refine ip_ent_i (by decide) (Nat.le_of_ble_eq_true rfl) ?_
  intro p e s m args below meth c A Q hx hb hml hown hts hA hK hP hD hS hret ls hl
  have hown : s.vm.findClass RX0 = some m.cls := hown
  have hl : lv_has ls 1 [(0, .ref (a 0))] := hl
  refine lv_aload_n hx hb dX0_creditors_0 rfl (lv_at hl 0 rfl) ?_
  refine x0_get_n hx hb hts hown hK hP dX0_creditors_1 ?_
  exact hret ((Wa, Ra, Ua, n, pt), Ga, La, Ea, ov) _ _ _ _ _ dX0_creditors_4 (rfl) hP hD hS
set_option maxHeartbeats 4000000 in
set_option maxRecDepth 100000 in
theorem kX0_claimOf (l : Launch) (D : va_G) (d : ClassId) (a : Nat → Nat) (Wa Ra Ua Ga La Ea : Nat → Nat) (n pt ov : Nat) (hI : ip_AI (Wa, Ra, Ua, n, pt)) (p0 : Int32)  : ip_Mi l yX0_claimOf (ws_ yX0_claimOf cX0_claimOf 2 (some .int)) rmX0_claimOf D d (pw a d Wa Ra Ua Ga La Ea n pt ov) [.ref (a 0), .int p0] (S := ip_S0) (fun v u => (v, u.1) = sp_claimOf Wa Ra Ua n pt p0) (pwS a d) := by
  obtain ⟨hW, hR, hU, hn, hpt⟩ := id hI
  have hW : ∀ j, Wa j ≤ 150 := hW
  have hR : ∀ j, Ra j < 4 := hR
  have hU : ∀ j, Ua j < 4 := hU
  have hn : n ≤ 8 := hn
  have hpt : pt ≤ 1500 := hpt
  refine ip_ent_i (by decide) (Nat.le_of_ble_eq_true rfl) ?_
  intro p e s m args below meth c A Q hx hb hml hown hts hA hK hP hD hS hret ls hl
  have hown : s.vm.findClass RX0 = some m.cls := hown
  have hl : lv_has ls 2 [(0, .ref (a 0)), (1, .int p0)] := hl
  refine lv_aload_n hx hb dX0_claimOf_0 rfl (lv_at hl 0 rfl) ?_
  refine lv_iload_n hx hb dX0_claimOf_1 rfl (lv_at hl 1 rfl) ?_
  refine ip_callV_i (own := RX0) (C := RX0) (x := a 0) [.int p0] hx hb hml hown hts hA hK (kX0_isCreditor l D d a Wa Ra Ua Ga La Ea n pt ov hI p0) (cwX0_isCreditor hts ⟨Nat.le_of_ble_eq_true rfl, Nat.le_of_ble_eq_true rfl⟩) ⟨0, _, _, rfl, rfl, rfl⟩ hP hD hS hl.1 rfl (Nat.le_of_ble_eq_true rfl) dX0_claimOf_2 ⟨Nat.zero_le _, Nat.zero_le _⟩ (fun r_2 u_1 H locs hw_3 hP hD hS => ?_)
  rcases hw_3 with ⟨rfl, hx_p0⟩ | ⟨rfl, k_p0, hk_p0, rfl, hx_p0⟩
  · skip
    refine n_if_eq (tgt := 17) hx hb dX0_claimOf_5 (by decide) (by omega) (fun _ => ?_) (fun h => absurd h (by omega))
    refine lv_iconst (v := (-1)) hx hb dX0_claimOf_17 (by decide) ?_
    exact hret ((Wa, Ra, Ua, n, pt), Ga, La, Ea, ov) _ _ _ _ _ dX0_claimOf_18 (by simp [sp_claimOf, hx_p0]) hP hD hS
  · skip
    refine n_if_eq (tgt := 17) hx hb dX0_claimOf_5 (by decide) (by omega) (fun h => absurd h (by omega)) (fun _ => ?_)
    refine lv_aload_n hx hb dX0_claimOf_8 rfl (lv_at hl 0 rfl) ?_
    refine x0_get_W hx hb hts hown hK hP dX0_claimOf_9 ?_
    refine lv_iload_n hx hb dX0_claimOf_12 rfl (lv_at hl 1 rfl) ?_
    refine x0_ald_W hx hb hK hP (by omega) dX0_claimOf_13 ?_
    have b_6 := hW k_p0
    refine lv_goto (tgt := 18) hx hb dX0_claimOf_14 (by decide) ?_
    exact hret ((Wa, Ra, Ua, n, pt), Ga, La, Ea, ov) _ _ _ _ _ dX0_claimOf_18 (by simp [sp_claimOf, hx_p0]) hP hD hS
set_option maxHeartbeats 4000000 in
set_option maxRecDepth 100000 in
theorem kX0_claims (l : Launch) (D : va_G) (d : ClassId) (a : Nat → Nat) (Wa Ra Ua Ga La Ea : Nat → Nat) (n pt ov : Nat) (hI : ip_AI (Wa, Ra, Ua, n, pt)) (p0 : Int32)  : ip_Mi l yX0_claims (ws_ yX0_claims cX0_claims 2 (some .int)) rmX0_claims D d (pw a d Wa Ra Ua Ga La Ea n pt ov) [.ref (a 0), .int p0] (S := ip_S0) (fun v u => (v, u.1) = sp_claims Wa Ra Ua n pt p0) (pwS a d) := by
  obtain ⟨hW, hR, hU, hn, hpt⟩ := id hI
  have hW : ∀ j, Wa j ≤ 150 := hW
  have hR : ∀ j, Ra j < 4 := hR
  have hU : ∀ j, Ua j < 4 := hU
  have hn : n ≤ 8 := hn
  have hpt : pt ≤ 1500 := hpt
  refine ip_ent_i (by decide) (Nat.le_of_ble_eq_true rfl) ?_
  intro p e s m args below meth c A Q hx hb hml hown hts hA hK hP hD hS hret ls hl
  have hown : s.vm.findClass RX0 = some m.cls := hown
  have hl : lv_has ls 2 [(0, .ref (a 0)), (1, .int p0)] := hl
  refine lv_iload_n hx hb dX0_claims_0 rfl (lv_at hl 1 rfl) ?_
  refine ip_callS_i (own := RX0) [.int p0] hx hb hml hown hts hA hK (kX0_isRank l D d a Wa Ra Ua Ga La Ea n pt ov hI p0) (cwX0_isRank hts ⟨Nat.le_of_ble_eq_true rfl, Nat.le_of_ble_eq_true rfl⟩) hP hD hS hl.1 rfl (Nat.le_of_ble_eq_true rfl) dX0_claims_1 ⟨Nat.zero_le _, Nat.zero_le _⟩ (fun r_2 u_1 H locs hw_3 hP hD hS => ?_)
  rcases hw_3 with ⟨rfl, hx_p0⟩ | ⟨rfl, k_p0, hk_p0, rfl, hx_p0⟩
  · skip
    refine n_if_eq (tgt := 15) hx hb dX0_claims_4 (by decide) (by omega) (fun _ => ?_) (fun h => absurd h (by omega))
    refine lv_iconst (v := (-1)) hx hb dX0_claims_15 (by decide) ?_
    exact hret ((Wa, Ra, Ua, n, pt), Ga, La, Ea, ov) _ _ _ _ _ dX0_claims_16 (by simp [sp_claims, hx_p0]) hP hD hS
  · skip
    refine n_if_eq (tgt := 15) hx hb dX0_claims_4 (by decide) (by omega) (fun h => absurd h (by omega)) (fun _ => ?_)
    refine lv_aload_n hx hb dX0_claims_7 rfl (lv_at hl 0 rfl) ?_
    refine lv_iload_n hx hb dX0_claims_8 rfl (lv_at hl 1 rfl) ?_
    refine ip_callV_i (own := RX0) (C := RX0) (x := a 0) [.int (nI k_p0)] hx hb hml hown hts hA hK (kX0_total l D d a Wa Ra Ua Ga La Ea n pt ov hI k_p0 (by omega)) (cwX0_total hts ⟨Nat.le_of_ble_eq_true rfl, Nat.le_of_ble_eq_true rfl⟩) ⟨0, _, _, rfl, rfl, rfl⟩ hP hD hS hl.1 rfl (Nat.le_of_ble_eq_true rfl) dX0_claims_9 ⟨Nat.zero_le _, Nat.zero_le _⟩ (fun r_7 u_6 H locs hw_8 hP hD hS => ?_)
    subst hw_8
    have b_9 := ip_rs_bound (R := Ra) (r := k_p0) (G := Wa) (n := n) (fun c _ => hW c) hn
    refine lv_goto (tgt := 16) hx hb dX0_claims_12 (by decide) ?_
    exact hret ((Wa, Ra, Ua, n, pt), Ga, La, Ea, ov) _ _ _ _ _ dX0_claims_16 (by simp [sp_claims, hx_p0]) hP hD hS
set_option maxHeartbeats 4000000 in
set_option maxRecDepth 100000 in
theorem kX0_add (l : Launch) (D : va_G) (d : ClassId) (a : Nat → Nat) (Wa Ra Ua Ga La Ea : Nat → Nat) (n pt ov : Nat) (hI : ip_AI (Wa, Ra, Ua, n, pt)) (p0 q0 : Int32)  : ip_Mi l yX0_add (ws_ yX0_add cX0_add 3 (some .int)) rmX0_add D d (pw a d Wa Ra Ua Ga La Ea n pt ov) [.ref (a 0), .int p0, .int q0] (S := ip_S0) (fun v u => (v, u.1) = sp_add Wa Ra Ua n pt p0 q0) (pwS a d) := by
  obtain ⟨hW, hR, hU, hn, hpt⟩ := id hI
  have hW : ∀ j, Wa j ≤ 150 := hW
  have hR : ∀ j, Ra j < 4 := hR
  have hU : ∀ j, Ua j < 4 := hU
  have hn : n ≤ 8 := hn
  have hpt : pt ≤ 1500 := hpt
  refine ip_ent_i (by decide) (Nat.le_of_ble_eq_true rfl) ?_
  intro p e s m args below meth c A Q hx hb hml hown hts hA hK hP hD hS hret ls hl
  have hown : s.vm.findClass RX0 = some m.cls := hown
  have hl : lv_has ls 3 [(0, .ref (a 0)), (1, .int p0), (2, .int q0)] := hl
  refine lv_iload_n hx hb dX0_add_0 rfl (lv_at hl 1 rfl) ?_
  refine z_if_lt (tgt := 11) hx hb dX0_add_1 (by decide) (fun c_1 => ?_) (fun c_1 => ?_)
  · skip
    refine lv_iconst (v := (-1)) hx hb dX0_add_11 (by decide) ?_
    exact hret ((Wa, Ra, Ua, n, pt), Ga, La, Ea, ov) _ _ _ _ _ dX0_add_12 (by simp [sp_add, ip_ix_none (p := p0) (n := 151) (by omega)]) hP hD hS
  · skip
    refine lv_iload_n hx hb dX0_add_4 rfl (lv_at hl 1 rfl) ?_
    refine lv_sipush (v := nI 150) hx hb dX0_add_5 (by decide) ?_
    refine z_icmp_le (tgt := 13) hx hb dX0_add_8 (by decide) (fun c_2 => ?_) (fun c_2 => ?_)
    · skip
      rw [nI_toInt (show 150 < 2 ^ 31 by omega)] at c_2
      obtain ⟨k_p0, hk_p0, rfl, hx_p0⟩ := ip_ix_some (p := p0) (n := 151) (by omega) (by omega)
      refine lv_iload_n hx hb dX0_add_13 rfl (lv_at hl 2 rfl) ?_
      refine ip_callS_i (own := RX0) [.int q0] hx hb hml hown hts hA hK (kX0_isRank l D d a Wa Ra Ua Ga La Ea n pt ov hI q0) (cwX0_isRank hts ⟨Nat.le_of_ble_eq_true rfl, Nat.le_of_ble_eq_true rfl⟩) hP hD hS hl.1 rfl (Nat.le_of_ble_eq_true rfl) dX0_add_14 ⟨Nat.zero_le _, Nat.zero_le _⟩ (fun r_4 u_3 H locs hw_5 hP hD hS => ?_)
      rcases hw_5 with ⟨rfl, hx_q0⟩ | ⟨rfl, k_q0, hk_q0, rfl, hx_q0⟩
      · skip
        refine n_if_ne (tgt := 23) hx hb dX0_add_17 (by decide) (by omega) (fun h => absurd h (by omega)) (fun _ => ?_)
        refine lv_bipush (v := (-2)) hx hb dX0_add_20 (by decide) ?_
        exact hret ((Wa, Ra, Ua, n, pt), Ga, La, Ea, ov) _ _ _ _ _ dX0_add_22 (by simp [sp_add, hx_p0, hx_q0]) hP hD hS
      · skip
        refine n_if_ne (tgt := 23) hx hb dX0_add_17 (by decide) (by omega) (fun _ => ?_) (fun h => absurd h (by omega))
        refine lv_aload_n hx hb dX0_add_23 rfl (lv_at hl 0 rfl) ?_
        refine x0_get_n hx hb hts hown hK hP dX0_add_24 ?_
        refine lv_bipush (v := nI 8) hx hb dX0_add_27 (by decide) ?_
        refine n_icmp_ne (tgt := 35) hx hb dX0_add_29 (by decide) (by omega) (by omega) (fun c_8 => ?_) (fun c_8 => ?_)
        · skip
          refine lv_aload_n hx hb dX0_add_35 rfl (lv_at hl 0 rfl) ?_
          refine x0_get_W hx hb hts hown hK hP dX0_add_36 ?_
          refine lv_aload_n hx hb dX0_add_39 rfl (lv_at hl 0 rfl) ?_
          refine x0_get_n hx hb hts hown hK hP dX0_add_40 ?_
          refine lv_iload_n hx hb dX0_add_43 rfl (lv_at hl 1 rfl) ?_
          refine x0_ast_W hx hb hK hP hD hS (by omega) dX0_add_44 (fun H locs hP hD hS => ?_)
          refine lv_aload_n hx hb dX0_add_45 rfl (lv_at hl 0 rfl) ?_
          refine x0_get_R hx hb hts hown hK hP dX0_add_46 ?_
          refine lv_aload_n hx hb dX0_add_49 rfl (lv_at hl 0 rfl) ?_
          refine x0_get_n hx hb hts hown hK hP dX0_add_50 ?_
          refine lv_iload_n hx hb dX0_add_53 rfl (lv_at hl 2 rfl) ?_
          refine x0_ast_R hx hb hK hP hD hS (by omega) dX0_add_54 (fun H locs hP hD hS => ?_)
          refine lv_aload_n hx hb dX0_add_55 rfl (lv_at hl 0 rfl) ?_
          refine lv_dup hx hb dX0_add_56 rfl ?_
          refine x0_get_n hx hb hts hown hK hP dX0_add_57 ?_
          refine lv_iconst (v := nI 1) hx hb dX0_add_60 (by decide) ?_
          refine n_iadd hx hb dX0_add_61 ?_
          refine x0_put_n hx hb hts hown hK hP hD hS dX0_add_62 (fun H locs hP hD hS => ?_)
          refine lv_aload_n hx hb dX0_add_65 rfl (lv_at hl 0 rfl) ?_
          refine x0_get_n hx hb hts hown hK hP dX0_add_66 ?_
          refine lv_iconst (v := nI 1) hx hb dX0_add_69 (by decide) ?_
          refine n_isub hx hb dX0_add_70 (by omega) ?_
          exact hret (((ip_up Wa n k_p0), (ip_up Ra n k_q0), Ua, n + 1, pt), Ga, La, Ea, ov) _ _ _ _ _ dX0_add_71 (by simp [sp_add, hx_p0, hx_q0, show ¬ n = 8 by omega]) hP hD hS
        · skip
          refine lv_bipush (v := (-3)) hx hb dX0_add_32 (by decide) ?_
          exact hret ((Wa, Ra, Ua, n, pt), Ga, La, Ea, ov) _ _ _ _ _ dX0_add_34 (by simp [sp_add, hx_p0, hx_q0, show n = 8 by omega]) hP hD hS
    · skip
      rw [nI_toInt (show 150 < 2 ^ 31 by omega)] at c_2
      refine lv_iconst (v := (-1)) hx hb dX0_add_11 (by decide) ?_
      exact hret ((Wa, Ra, Ua, n, pt), Ga, La, Ea, ov) _ _ _ _ _ dX0_add_12 (by simp [sp_add, ip_ix_none (p := p0) (n := 151) (by omega)]) hP hD hS
theorem ip_rm_0 (f : Nat → Nat) (k : Nat) : f = ip_sh f k (k + 1 - 1) := by rw [Nat.add_sub_cancel, ip_sh_0]
theorem ip_rm_step {f g : Nat → Nat} {k j : Nat} (hj : k + 1 ≤ j) (e : g = ip_sh f k (j - 1)) : ip_up g (j - 1) (g j) = ip_sh f k (j + 1 - 1) := by
  obtain ⟨i, rfl⟩ : ∃ i, j = i + 1 := ⟨j - 1, by omega⟩
  rw [e]
  exact ip_sh_step f (by omega)
set_option maxHeartbeats 4000000 in
set_option maxRecDepth 100000 in
theorem kX0_remove (l : Launch) (D : va_G) (d : ClassId) (a : Nat → Nat) (Wa Ra Ua Ga La Ea : Nat → Nat) (n pt ov : Nat) (hI : ip_AI (Wa, Ra, Ua, n, pt)) (p0 : Int32)  : ip_Mi l yX0_remove (ws_ yX0_remove cX0_remove 3 (some .int)) rmX0_remove D d (pw a d Wa Ra Ua Ga La Ea n pt ov) [.ref (a 0), .int p0] (S := ip_S0) (fun v u => (v, u.1) = sp_remove Wa Ra Ua n pt p0) (pwS a d) := by
  obtain ⟨hW, hR, hU, hn, hpt⟩ := id hI
  have hW : ∀ j, Wa j ≤ 150 := hW
  have hR : ∀ j, Ra j < 4 := hR
  have hU : ∀ j, Ua j < 4 := hU
  have hn : n ≤ 8 := hn
  have hpt : pt ≤ 1500 := hpt
  refine ip_ent_i (by decide) (Nat.le_of_ble_eq_true rfl) ?_
  intro p e s m args below meth c A Q hx hb hml hown hts hA hK hP hD hS hret ls hl
  have hown : s.vm.findClass RX0 = some m.cls := hown
  have hl : lv_has ls 3 [(0, .ref (a 0)), (1, .int p0)] := hl
  refine lv_aload_n hx hb dX0_remove_0 rfl (lv_at hl 0 rfl) ?_
  refine lv_iload_n hx hb dX0_remove_1 rfl (lv_at hl 1 rfl) ?_
  refine ip_callV_i (own := RX0) (C := RX0) (x := a 0) [.int p0] hx hb hml hown hts hA hK (kX0_isCreditor l D d a Wa Ra Ua Ga La Ea n pt ov hI p0) (cwX0_isCreditor hts ⟨Nat.le_of_ble_eq_true rfl, Nat.le_of_ble_eq_true rfl⟩) ⟨0, _, _, rfl, rfl, rfl⟩ hP hD hS hl.1 rfl (Nat.le_of_ble_eq_true rfl) dX0_remove_2 ⟨Nat.zero_le _, Nat.zero_le _⟩ (fun r_2 u_1 H locs hw_3 hP hD hS => ?_)
  rcases hw_3 with ⟨rfl, hx_p0⟩ | ⟨rfl, k_p0, hk_p0, rfl, hx_p0⟩
  · skip
    refine n_if_ne (tgt := 10) hx hb dX0_remove_5 (by decide) (by omega) (fun h => absurd h (by omega)) (fun _ => ?_)
    refine lv_iconst (v := (-1)) hx hb dX0_remove_8 (by decide) ?_
    exact hret ((Wa, Ra, Ua, n, pt), Ga, La, Ea, ov) _ _ _ _ _ dX0_remove_9 (by simp [sp_remove, hx_p0]) hP hD hS
  · skip
    refine n_if_ne (tgt := 10) hx hb dX0_remove_5 (by decide) (by omega) (fun _ => ?_) (fun h => absurd h (by omega))
    refine lv_iload_n hx hb dX0_remove_10 rfl (lv_at hl 1 rfl) ?_
    refine lv_iconst (v := nI 1) hx hb dX0_remove_11 (by decide) ?_
    refine n_iadd hx hb dX0_remove_12 ?_
    refine lv_istore_n (lv' := [(2, .int (nI (k_p0 + 1))), (0, .ref (a 0)), (1, .int (nI k_p0))]) hx hb dX0_remove_13 rfl hl (by decide) rfl (fun ls hl => ?_)
    have lp14 : ∀ (N14 : Nat) (j : Nat) (Wv : Nat → Nat) (Rv : Nat → Nat), (k_p0 + 1 ≤ j ∧ j ≤ n) → (Wv = ip_sh Wa k_p0 (j - 1)) → (Rv = ip_sh Ra k_p0 (j - 1)) → n - j < N14 → ∀ (H : Heap) (locs : List Loc), va_P D ip_cl (pw a d Wv Rv Ua Ga La Ea n pt ov) H → va_D A (pw a d Wv Rv Ua Ga La Ea n pt ov) → va_S A s.heap H locs → ∀ (ls : Array Slot), lv_has ls 3 [(2, .int (nI j)), (0, .ref (a 0)), (1, .int (nI k_p0))] → W p l e rmX0_remove s m args below meth c H locs 0 0 Q (F0 m 14 ls []) := by
      intro N14
      induction N14 with
      | zero =>
        intro j Wv Rv _ _ _ hm
        exact absurd hm (Nat.not_lt_zero _)
      | succ N14 ih14 =>
        intro j Wv Rv hj eW eR hm14 H locs hP hD hS ls hl
        refine lv_iload_n hx hb dX0_remove_14 rfl (lv_at hl 0 rfl) ?_
        refine lv_aload_n hx hb dX0_remove_15 rfl (lv_at hl 1 rfl) ?_
        refine x0_get_n hx hb hts hown hK hP dX0_remove_16 ?_
        refine n_icmp_ge (tgt := 56) hx hb dX0_remove_19 (by decide) (by omega) (by omega) (fun c_6 => ?_) (fun c_6 => ?_)
        · skip
          refine lv_aload_n hx hb dX0_remove_56 rfl (lv_at hl 1 rfl) ?_
          refine lv_dup hx hb dX0_remove_57 rfl ?_
          refine x0_get_n hx hb hts hown hK hP dX0_remove_58 ?_
          refine lv_iconst (v := nI 1) hx hb dX0_remove_61 (by decide) ?_
          refine n_isub hx hb dX0_remove_62 (by omega) ?_
          refine x0_put_n hx hb hts hown hK hP hD hS dX0_remove_63 (fun H locs hP hD hS => ?_)
          refine lv_aload_n hx hb dX0_remove_66 rfl (lv_at hl 1 rfl) ?_
          refine x0_get_n hx hb hts hown hK hP dX0_remove_67 ?_
          exact hret ((Wv, Rv, Ua, n - 1, pt), Ga, La, Ea, ov) _ _ _ _ _ dX0_remove_70 (by rw [eW, eR, show j = n by omega]; simp [sp_remove, hx_p0]) hP hD hS
        · skip
          refine lv_aload_n hx hb dX0_remove_22 rfl (lv_at hl 1 rfl) ?_
          refine x0_get_W hx hb hts hown hK hP dX0_remove_23 ?_
          refine lv_iload_n hx hb dX0_remove_26 rfl (lv_at hl 0 rfl) ?_
          refine lv_iconst (v := nI 1) hx hb dX0_remove_27 (by decide) ?_
          refine n_isub hx hb dX0_remove_28 (by omega) ?_
          refine lv_aload_n hx hb dX0_remove_29 rfl (lv_at hl 1 rfl) ?_
          refine x0_get_W hx hb hts hown hK hP dX0_remove_30 ?_
          refine lv_iload_n hx hb dX0_remove_33 rfl (lv_at hl 0 rfl) ?_
          refine x0_ald_W hx hb hK hP (by omega) dX0_remove_34 ?_
          refine x0_ast_W hx hb hK hP hD hS (by omega) dX0_remove_35 (fun H locs hP hD hS => ?_)
          refine lv_aload_n hx hb dX0_remove_36 rfl (lv_at hl 1 rfl) ?_
          refine x0_get_R hx hb hts hown hK hP dX0_remove_37 ?_
          refine lv_iload_n hx hb dX0_remove_40 rfl (lv_at hl 0 rfl) ?_
          refine lv_iconst (v := nI 1) hx hb dX0_remove_41 (by decide) ?_
          refine n_isub hx hb dX0_remove_42 (by omega) ?_
          refine lv_aload_n hx hb dX0_remove_43 rfl (lv_at hl 1 rfl) ?_
          refine x0_get_R hx hb hts hown hK hP dX0_remove_44 ?_
          refine lv_iload_n hx hb dX0_remove_47 rfl (lv_at hl 0 rfl) ?_
          refine x0_ald_R hx hb hK hP (by omega) dX0_remove_48 ?_
          refine x0_ast_R hx hb hK hP hD hS (by omega) dX0_remove_49 (fun H locs hP hD hS => ?_)
          refine lv_iinc (v := nI (j + 1)) (lv' := [(2, .int (nI (j + 1))), (0, .ref (a 0)), (1, .int (nI k_p0))]) hx hb dX0_remove_50 hl (k := 0) rfl (ip_inc j) (by decide) rfl (fun ls hl => ?_)
          refine lv_goto (tgt := 14) hx hb dX0_remove_53 (by decide) ?_
          exact ih14 (j + 1) (ip_up Wv (j - 1) (Wv j)) (ip_up Rv (j - 1) (Rv j)) (by omega) (ip_rm_step hj.1 eW) (ip_rm_step hj.1 eR) (by omega) _ _ hP hD hS ls (lv_sub hl [0, 1, 2] rfl)
    exact lp14 _ (k_p0 + 1) Wa Ra (by omega) (ip_rm_0 _ _) (ip_rm_0 _ _) (Nat.lt_succ_self _) _ _ hP hD hS ls (lv_sub hl [0, 1, 2] rfl)
set_option maxHeartbeats 4000000 in
set_option maxRecDepth 100000 in
theorem kX0_change (l : Launch) (D : va_G) (d : ClassId) (a : Nat → Nat) (Wa Ra Ua Ga La Ea : Nat → Nat) (n pt ov : Nat) (hI : ip_AI (Wa, Ra, Ua, n, pt)) (p0 q0 : Int32)  : ip_Mi l yX0_change (ws_ yX0_change cX0_change 4 (some .int)) rmX0_change D d (pw a d Wa Ra Ua Ga La Ea n pt ov) [.ref (a 0), .int p0, .int q0] (S := ip_S0) (fun v u => (v, u.1) = sp_change Wa Ra Ua n pt p0 q0) (pwS a d) := by
  obtain ⟨hW, hR, hU, hn, hpt⟩ := id hI
  have hW : ∀ j, Wa j ≤ 150 := hW
  have hR : ∀ j, Ra j < 4 := hR
  have hU : ∀ j, Ua j < 4 := hU
  have hn : n ≤ 8 := hn
  have hpt : pt ≤ 1500 := hpt
  refine ip_ent_i (by decide) (Nat.le_of_ble_eq_true rfl) ?_
  intro p e s m args below meth c A Q hx hb hml hown hts hA hK hP hD hS hret ls hl
  have hown : s.vm.findClass RX0 = some m.cls := hown
  have hl : lv_has ls 4 [(0, .ref (a 0)), (1, .int p0), (2, .int q0)] := hl
  refine lv_aload_n hx hb dX0_change_0 rfl (lv_at hl 0 rfl) ?_
  refine lv_iload_n hx hb dX0_change_1 rfl (lv_at hl 1 rfl) ?_
  refine ip_callV_i (own := RX0) (C := RX0) (x := a 0) [.int p0] hx hb hml hown hts hA hK (kX0_isCreditor l D d a Wa Ra Ua Ga La Ea n pt ov hI p0) (cwX0_isCreditor hts ⟨Nat.le_of_ble_eq_true rfl, Nat.le_of_ble_eq_true rfl⟩) ⟨0, _, _, rfl, rfl, rfl⟩ hP hD hS hl.1 rfl (Nat.le_of_ble_eq_true rfl) dX0_change_2 ⟨Nat.zero_le _, Nat.zero_le _⟩ (fun r_2 u_1 H locs hw_3 hP hD hS => ?_)
  rcases hw_3 with ⟨rfl, hx_p0⟩ | ⟨rfl, k_p0, hk_p0, rfl, hx_p0⟩
  · skip
    refine n_if_ne (tgt := 10) hx hb dX0_change_5 (by decide) (by omega) (fun h => absurd h (by omega)) (fun _ => ?_)
    refine lv_iconst (v := (-1)) hx hb dX0_change_8 (by decide) ?_
    exact hret ((Wa, Ra, Ua, n, pt), Ga, La, Ea, ov) _ _ _ _ _ dX0_change_9 (by simp [sp_change, hx_p0]) hP hD hS
  · skip
    refine n_if_ne (tgt := 10) hx hb dX0_change_5 (by decide) (by omega) (fun _ => ?_) (fun h => absurd h (by omega))
    refine lv_iload_n hx hb dX0_change_10 rfl (lv_at hl 2 rfl) ?_
    refine z_if_lt (tgt := 21) hx hb dX0_change_11 (by decide) (fun c_6 => ?_) (fun c_6 => ?_)
    · skip
      refine lv_bipush (v := (-2)) hx hb dX0_change_21 (by decide) ?_
      exact hret ((Wa, Ra, Ua, n, pt), Ga, La, Ea, ov) _ _ _ _ _ dX0_change_23 (by simp [sp_change, hx_p0, ip_ix_none (p := q0) (n := 151) (by omega)]) hP hD hS
    · skip
      refine lv_iload_n hx hb dX0_change_14 rfl (lv_at hl 2 rfl) ?_
      refine lv_sipush (v := nI 150) hx hb dX0_change_15 (by decide) ?_
      refine z_icmp_le (tgt := 24) hx hb dX0_change_18 (by decide) (fun c_7 => ?_) (fun c_7 => ?_)
      · skip
        rw [nI_toInt (show 150 < 2 ^ 31 by omega)] at c_7
        obtain ⟨k_q0, hk_q0, rfl, hx_q0⟩ := ip_ix_some (p := q0) (n := 151) (by omega) (by omega)
        refine lv_aload_n hx hb dX0_change_24 rfl (lv_at hl 0 rfl) ?_
        refine x0_get_W hx hb hts hown hK hP dX0_change_25 ?_
        refine lv_iload_n hx hb dX0_change_28 rfl (lv_at hl 1 rfl) ?_
        refine x0_ald_W hx hb hK hP (by omega) dX0_change_29 ?_
        refine lv_istore_n (lv' := [(3, .int (nI (Wa k_p0))), (0, .ref (a 0)), (1, .int (nI k_p0)), (2, .int (nI k_q0))]) hx hb dX0_change_30 rfl hl (by decide) rfl (fun ls hl => ?_)
        refine lv_aload_n hx hb dX0_change_31 rfl (lv_at hl 1 rfl) ?_
        refine x0_get_W hx hb hts hown hK hP dX0_change_32 ?_
        refine lv_iload_n hx hb dX0_change_35 rfl (lv_at hl 2 rfl) ?_
        refine lv_iload_n hx hb dX0_change_36 rfl (lv_at hl 3 rfl) ?_
        refine x0_ast_W hx hb hK hP hD hS (by omega) dX0_change_37 (fun H locs hP hD hS => ?_)
        refine lv_iload_n hx hb dX0_change_38 rfl (lv_at hl 0 rfl) ?_
        exact hret (((ip_up Wa k_p0 k_q0), Ra, Ua, n, pt), Ga, La, Ea, ov) _ _ _ _ _ dX0_change_39 (by simp [sp_change, hx_p0, hx_q0]) hP hD hS
      · skip
        rw [nI_toInt (show 150 < 2 ^ 31 by omega)] at c_7
        refine lv_bipush (v := (-2)) hx hb dX0_change_21 (by decide) ?_
        exact hret ((Wa, Ra, Ua, n, pt), Ga, La, Ea, ov) _ _ _ _ _ dX0_change_23 (by simp [sp_change, hx_p0, ip_ix_none (p := q0) (n := 151) (by omega)]) hP hD hS
set_option maxHeartbeats 4000000 in
set_option maxRecDepth 100000 in
theorem kX0_move (l : Launch) (D : va_G) (d : ClassId) (a : Nat → Nat) (Wa Ra Ua Ga La Ea : Nat → Nat) (n pt ov : Nat) (hI : ip_AI (Wa, Ra, Ua, n, pt)) (p0 q0 : Int32)  : ip_Mi l yX0_move (ws_ yX0_move cX0_move 4 (some .int)) rmX0_move D d (pw a d Wa Ra Ua Ga La Ea n pt ov) [.ref (a 0), .int p0, .int q0] (S := ip_S0) (fun v u => (v, u.1) = sp_move Wa Ra Ua n pt p0 q0) (pwS a d) := by
  obtain ⟨hW, hR, hU, hn, hpt⟩ := id hI
  have hW : ∀ j, Wa j ≤ 150 := hW
  have hR : ∀ j, Ra j < 4 := hR
  have hU : ∀ j, Ua j < 4 := hU
  have hn : n ≤ 8 := hn
  have hpt : pt ≤ 1500 := hpt
  refine ip_ent_i (by decide) (Nat.le_of_ble_eq_true rfl) ?_
  intro p e s m args below meth c A Q hx hb hml hown hts hA hK hP hD hS hret ls hl
  have hown : s.vm.findClass RX0 = some m.cls := hown
  have hl : lv_has ls 4 [(0, .ref (a 0)), (1, .int p0), (2, .int q0)] := hl
  refine lv_aload_n hx hb dX0_move_0 rfl (lv_at hl 0 rfl) ?_
  refine lv_iload_n hx hb dX0_move_1 rfl (lv_at hl 1 rfl) ?_
  refine ip_callV_i (own := RX0) (C := RX0) (x := a 0) [.int p0] hx hb hml hown hts hA hK (kX0_isCreditor l D d a Wa Ra Ua Ga La Ea n pt ov hI p0) (cwX0_isCreditor hts ⟨Nat.le_of_ble_eq_true rfl, Nat.le_of_ble_eq_true rfl⟩) ⟨0, _, _, rfl, rfl, rfl⟩ hP hD hS hl.1 rfl (Nat.le_of_ble_eq_true rfl) dX0_move_2 ⟨Nat.zero_le _, Nat.zero_le _⟩ (fun r_2 u_1 H locs hw_3 hP hD hS => ?_)
  rcases hw_3 with ⟨rfl, hx_p0⟩ | ⟨rfl, k_p0, hk_p0, rfl, hx_p0⟩
  · skip
    refine n_if_ne (tgt := 10) hx hb dX0_move_5 (by decide) (by omega) (fun h => absurd h (by omega)) (fun _ => ?_)
    refine lv_iconst (v := (-1)) hx hb dX0_move_8 (by decide) ?_
    exact hret ((Wa, Ra, Ua, n, pt), Ga, La, Ea, ov) _ _ _ _ _ dX0_move_9 (by simp [sp_move, hx_p0]) hP hD hS
  · skip
    refine n_if_ne (tgt := 10) hx hb dX0_move_5 (by decide) (by omega) (fun _ => ?_) (fun h => absurd h (by omega))
    refine lv_iload_n hx hb dX0_move_10 rfl (lv_at hl 2 rfl) ?_
    refine ip_callS_i (own := RX0) [.int q0] hx hb hml hown hts hA hK (kX0_isRank l D d a Wa Ra Ua Ga La Ea n pt ov hI q0) (cwX0_isRank hts ⟨Nat.le_of_ble_eq_true rfl, Nat.le_of_ble_eq_true rfl⟩) hP hD hS hl.1 rfl (Nat.le_of_ble_eq_true rfl) dX0_move_11 ⟨Nat.zero_le _, Nat.zero_le _⟩ (fun r_7 u_6 H locs hw_8 hP hD hS => ?_)
    rcases hw_8 with ⟨rfl, hx_q0⟩ | ⟨rfl, k_q0, hk_q0, rfl, hx_q0⟩
    · skip
      refine n_if_ne (tgt := 20) hx hb dX0_move_14 (by decide) (by omega) (fun h => absurd h (by omega)) (fun _ => ?_)
      refine lv_bipush (v := (-2)) hx hb dX0_move_17 (by decide) ?_
      exact hret ((Wa, Ra, Ua, n, pt), Ga, La, Ea, ov) _ _ _ _ _ dX0_move_19 (by simp [sp_move, hx_p0, hx_q0]) hP hD hS
    · skip
      refine n_if_ne (tgt := 20) hx hb dX0_move_14 (by decide) (by omega) (fun _ => ?_) (fun h => absurd h (by omega))
      refine lv_aload_n hx hb dX0_move_20 rfl (lv_at hl 0 rfl) ?_
      refine x0_get_R hx hb hts hown hK hP dX0_move_21 ?_
      refine lv_iload_n hx hb dX0_move_24 rfl (lv_at hl 1 rfl) ?_
      refine x0_ald_R hx hb hK hP (by omega) dX0_move_25 ?_
      refine lv_istore_n (lv' := [(3, .int (nI (Ra k_p0))), (0, .ref (a 0)), (1, .int (nI k_p0)), (2, .int (nI k_q0))]) hx hb dX0_move_26 rfl hl (by decide) rfl (fun ls hl => ?_)
      refine lv_aload_n hx hb dX0_move_27 rfl (lv_at hl 1 rfl) ?_
      refine x0_get_R hx hb hts hown hK hP dX0_move_28 ?_
      refine lv_iload_n hx hb dX0_move_31 rfl (lv_at hl 2 rfl) ?_
      refine lv_iload_n hx hb dX0_move_32 rfl (lv_at hl 3 rfl) ?_
      refine x0_ast_R hx hb hK hP hD hS (by omega) dX0_move_33 (fun H locs hP hD hS => ?_)
      refine lv_iload_n hx hb dX0_move_34 rfl (lv_at hl 0 rfl) ?_
      exact hret ((Wa, (ip_up Ra k_p0 k_q0), Ua, n, pt), Ga, La, Ea, ov) _ _ _ _ _ dX0_move_35 (by simp [sp_move, hx_p0, hx_q0]) hP hD hS
set_option maxHeartbeats 4000000 in
set_option maxRecDepth 100000 in
theorem kX0_rule (l : Launch) (D : va_G) (d : ClassId) (a : Nat → Nat) (Wa Ra Ua Ga La Ea : Nat → Nat) (n pt ov : Nat) (hI : ip_AI (Wa, Ra, Ua, n, pt)) (p0 q0 : Int32)  : ip_Mi l yX0_rule (ws_ yX0_rule cX0_rule 4 (some .int)) rmX0_rule D d (pw a d Wa Ra Ua Ga La Ea n pt ov) [.ref (a 0), .int p0, .int q0] (S := ip_S0) (fun v u => (v, u.1) = sp_rule Wa Ra Ua n pt p0 q0) (pwS a d) := by
  obtain ⟨hW, hR, hU, hn, hpt⟩ := id hI
  have hW : ∀ j, Wa j ≤ 150 := hW
  have hR : ∀ j, Ra j < 4 := hR
  have hU : ∀ j, Ua j < 4 := hU
  have hn : n ≤ 8 := hn
  have hpt : pt ≤ 1500 := hpt
  refine ip_ent_i (by decide) (Nat.le_of_ble_eq_true rfl) ?_
  intro p e s m args below meth c A Q hx hb hml hown hts hA hK hP hD hS hret ls hl
  have hown : s.vm.findClass RX0 = some m.cls := hown
  have hl : lv_has ls 4 [(0, .ref (a 0)), (1, .int p0), (2, .int q0)] := hl
  refine lv_iload_n hx hb dX0_rule_0 rfl (lv_at hl 1 rfl) ?_
  refine ip_callS_i (own := RX0) [.int p0] hx hb hml hown hts hA hK (kX0_isRank l D d a Wa Ra Ua Ga La Ea n pt ov hI p0) (cwX0_isRank hts ⟨Nat.le_of_ble_eq_true rfl, Nat.le_of_ble_eq_true rfl⟩) hP hD hS hl.1 rfl (Nat.le_of_ble_eq_true rfl) dX0_rule_1 ⟨Nat.zero_le _, Nat.zero_le _⟩ (fun r_2 u_1 H locs hw_3 hP hD hS => ?_)
  rcases hw_3 with ⟨rfl, hx_p0⟩ | ⟨rfl, k_p0, hk_p0, rfl, hx_p0⟩
  · skip
    refine n_if_ne (tgt := 9) hx hb dX0_rule_4 (by decide) (by omega) (fun h => absurd h (by omega)) (fun _ => ?_)
    refine lv_iconst (v := (-1)) hx hb dX0_rule_7 (by decide) ?_
    exact hret ((Wa, Ra, Ua, n, pt), Ga, La, Ea, ov) _ _ _ _ _ dX0_rule_8 (by simp [sp_rule, hx_p0]) hP hD hS
  · skip
    refine n_if_ne (tgt := 9) hx hb dX0_rule_4 (by decide) (by omega) (fun _ => ?_) (fun h => absurd h (by omega))
    refine lv_iload_n hx hb dX0_rule_9 rfl (lv_at hl 2 rfl) ?_
    refine ip_callS_i (own := RX0) [.int q0] hx hb hml hown hts hA hK (kX0_isRule l D d a Wa Ra Ua Ga La Ea n pt ov hI q0) (cwX0_isRule hts ⟨Nat.le_of_ble_eq_true rfl, Nat.le_of_ble_eq_true rfl⟩) hP hD hS hl.1 rfl (Nat.le_of_ble_eq_true rfl) dX0_rule_10 ⟨Nat.zero_le _, Nat.zero_le _⟩ (fun r_7 u_6 H locs hw_8 hP hD hS => ?_)
    rcases hw_8 with ⟨rfl, hx_q0⟩ | ⟨rfl, k_q0, hk_q0, rfl, hx_q0⟩
    · skip
      refine n_if_ne (tgt := 19) hx hb dX0_rule_13 (by decide) (by omega) (fun h => absurd h (by omega)) (fun _ => ?_)
      refine lv_bipush (v := (-2)) hx hb dX0_rule_16 (by decide) ?_
      exact hret ((Wa, Ra, Ua, n, pt), Ga, La, Ea, ov) _ _ _ _ _ dX0_rule_18 (by simp [sp_rule, hx_p0, hx_q0]) hP hD hS
    · skip
      refine n_if_ne (tgt := 19) hx hb dX0_rule_13 (by decide) (by omega) (fun _ => ?_) (fun h => absurd h (by omega))
      refine lv_aload_n hx hb dX0_rule_19 rfl (lv_at hl 0 rfl) ?_
      refine x0_get_U hx hb hts hown hK hP dX0_rule_20 ?_
      refine lv_iload_n hx hb dX0_rule_23 rfl (lv_at hl 1 rfl) ?_
      refine x0_ald_U hx hb hK hP (by omega) dX0_rule_24 ?_
      refine lv_istore_n (lv' := [(3, .int (nI (Ua k_p0))), (0, .ref (a 0)), (1, .int (nI k_p0)), (2, .int (nI k_q0))]) hx hb dX0_rule_25 rfl hl (by decide) rfl (fun ls hl => ?_)
      refine lv_aload_n hx hb dX0_rule_26 rfl (lv_at hl 1 rfl) ?_
      refine x0_get_U hx hb hts hown hK hP dX0_rule_27 ?_
      refine lv_iload_n hx hb dX0_rule_30 rfl (lv_at hl 2 rfl) ?_
      refine lv_iload_n hx hb dX0_rule_31 rfl (lv_at hl 3 rfl) ?_
      refine x0_ast_U hx hb hK hP hD hS (by omega) dX0_rule_32 (fun H locs hP hD hS => ?_)
      refine lv_iload_n hx hb dX0_rule_33 rfl (lv_at hl 0 rfl) ?_
      exact hret ((Wa, Ra, (ip_up Ua k_p0 k_q0), n, pt), Ga, La, Ea, ov) _ _ _ _ _ dX0_rule_34 (by simp [sp_rule, hx_p0, hx_q0]) hP hD hS
set_option maxHeartbeats 4000000 in
set_option maxRecDepth 100000 in
theorem kX0_estate (l : Launch) (D : va_G) (d : ClassId) (a : Nat → Nat) (Wa Ra Ua Ga La Ea : Nat → Nat) (n pt ov : Nat) (hI : ip_AI (Wa, Ra, Ua, n, pt)) (p0 : Int32)  : ip_Mi l yX0_estate (ws_ yX0_estate cX0_estate 2 (some .int)) rmX0_estate D d (pw a d Wa Ra Ua Ga La Ea n pt ov) [.ref (a 0), .int p0] (S := ip_S0) (fun v u => (v, u.1) = sp_estate Wa Ra Ua n pt p0) (pwS a d) := by
  obtain ⟨hW, hR, hU, hn, hpt⟩ := id hI
  have hW : ∀ j, Wa j ≤ 150 := hW
  have hR : ∀ j, Ra j < 4 := hR
  have hU : ∀ j, Ua j < 4 := hU
  have hn : n ≤ 8 := hn
  have hpt : pt ≤ 1500 := hpt
  refine ip_ent_i (by decide) (Nat.le_of_ble_eq_true rfl) ?_
  intro p e s m args below meth c A Q hx hb hml hown hts hA hK hP hD hS hret ls hl
  have hown : s.vm.findClass RX0 = some m.cls := hown
  have hl : lv_has ls 2 [(0, .ref (a 0)), (1, .int p0)] := hl
  refine lv_iload_n hx hb dX0_estate_0 rfl (lv_at hl 1 rfl) ?_
  refine lv_sipush (v := (-1500)) hx hb dX0_estate_1 (by decide) ?_
  refine z_icmp_lt (tgt := 35) hx hb dX0_estate_4 (by decide) (fun c_1 => ?_) (fun c_1 => ?_)
  · skip
    rw [show ((-1500) : Int32).toInt = -1500 by decide] at c_1
    refine lv_iconst (v := (-1)) hx hb dX0_estate_35 (by decide) ?_
    exact hret ((Wa, Ra, Ua, n, pt), Ga, La, Ea, ov) _ _ _ _ _ dX0_estate_36 (by rw [sp_estate, if_neg (by omega)]) hP hD hS
  · skip
    rw [show ((-1500) : Int32).toInt = -1500 by decide] at c_1
    refine lv_iload_n hx hb dX0_estate_7 rfl (lv_at hl 1 rfl) ?_
    refine lv_sipush (v := nI 1500) hx hb dX0_estate_8 (by decide) ?_
    refine z_icmp_gt (tgt := 35) hx hb dX0_estate_11 (by decide) (fun c_2 => ?_) (fun c_2 => ?_)
    · skip
      rw [nI_toInt (show 1500 < 2 ^ 31 by omega)] at c_2
      refine lv_iconst (v := (-1)) hx hb dX0_estate_35 (by decide) ?_
      exact hret ((Wa, Ra, Ua, n, pt), Ga, La, Ea, ov) _ _ _ _ _ dX0_estate_36 (by rw [sp_estate, if_neg (by omega)]) hP hD hS
    · skip
      rw [nI_toInt (show 1500 < 2 ^ 31 by omega)] at c_2
      have ep : (nI pt + p0).toInt = (pt : Int) + p0.toInt := by rw [fb_addI (by rw [nI_toInt (by omega)]; omega) (by rw [nI_toInt (by omega)]; omega), nI_toInt (by omega)]
      refine lv_aload_n hx hb dX0_estate_14 rfl (lv_at hl 0 rfl) ?_
      refine x0_get_pt hx hb hts hown hK hP dX0_estate_15 ?_
      refine lv_iload_n hx hb dX0_estate_18 rfl (lv_at hl 1 rfl) ?_
      refine lv_iadd hx hb dX0_estate_19 ?_
      refine z_if_lt (tgt := 35) hx hb dX0_estate_20 (by decide) (fun c_3 => ?_) (fun c_3 => ?_)
      · skip
        rw [ep] at c_3
        refine lv_iconst (v := (-1)) hx hb dX0_estate_35 (by decide) ?_
        exact hret ((Wa, Ra, Ua, n, pt), Ga, La, Ea, ov) _ _ _ _ _ dX0_estate_36 (by rw [sp_estate, if_neg (by omega)]) hP hD hS
      · skip
        rw [ep] at c_3
        refine lv_aload_n hx hb dX0_estate_23 rfl (lv_at hl 0 rfl) ?_
        refine x0_get_pt hx hb hts hown hK hP dX0_estate_24 ?_
        refine lv_iload_n hx hb dX0_estate_27 rfl (lv_at hl 1 rfl) ?_
        refine lv_iadd hx hb dX0_estate_28 ?_
        refine lv_sipush (v := nI 1500) hx hb dX0_estate_29 (by decide) ?_
        refine z_icmp_le (tgt := 37) hx hb dX0_estate_32 (by decide) (fun c_4 => ?_) (fun c_4 => ?_)
        · skip
          rw [nI_toInt (show 1500 < 2 ^ 31 by omega)] at c_4
          rw [ep] at c_4
          have eq_p : nI pt + p0 = nI ((pt : Int) + p0.toInt).toNat := by apply Int32.toInt_inj.1; rw [ep, nI_toInt (by omega)]; omega
          refine lv_aload_n hx hb dX0_estate_37 rfl (lv_at hl 0 rfl) ?_
          refine lv_dup hx hb dX0_estate_38 rfl ?_
          refine x0_get_pt hx hb hts hown hK hP dX0_estate_39 ?_
          refine lv_iload_n hx hb dX0_estate_42 rfl (lv_at hl 1 rfl) ?_
          refine lv_iadd hx hb dX0_estate_43 ?_
          rw [eq_p]
          refine x0_put_pt hx hb hts hown hK hP hD hS dX0_estate_44 (fun H locs hP hD hS => ?_)
          refine lv_aload_n hx hb dX0_estate_47 rfl (lv_at hl 0 rfl) ?_
          refine x0_get_pt hx hb hts hown hK hP dX0_estate_48 ?_
          exact hret ((Wa, Ra, Ua, n, ((pt : Int) + p0.toInt).toNat), Ga, La, Ea, ov) _ _ _ _ _ dX0_estate_51 (by rw [sp_estate, if_pos (by omega)]) hP hD hS
        · skip
          rw [nI_toInt (show 1500 < 2 ^ 31 by omega)] at c_4
          rw [ep] at c_4
          refine lv_iconst (v := (-1)) hx hb dX0_estate_35 (by decide) ?_
          exact hret ((Wa, Ra, Ua, n, pt), Ga, La, Ea, ov) _ _ _ _ _ dX0_estate_36 (by rw [sp_estate, if_neg (by omega)]) hP hD hS
end
section
/-! ===== pure: steps of the pool's loops ===== -/
def ip_fl (f g : Nat → Nat) (i : Nat) : Nat → Nat := fun j => if j < i then f j else g j
theorem ip_fl_0 (f g : Nat → Nat) : g = ip_fl f g 0 := funext fun _ => (if_neg (Nat.not_lt_zero _)).symm
theorem ip_fl_in {f g : Nat → Nat} {i j : Nat} (h : j < i) : ip_fl f g i j = f j := if_pos h
theorem ip_fl_out {f g : Nat → Nat} {i j : Nat} (h : i ≤ j) : ip_fl f g i j = g j := if_neg (Nat.not_lt.mpr h)
theorem ip_fl_at {f g k : Nat → Nat} {i : Nat} (e : k = ip_fl f g i) : k i = g i := by rw [e]; exact ip_fl_out (Nat.le_refl _)
theorem ip_fl_step {f g k : Nat → Nat} {i v : Nat} (e : k = ip_fl f g i) (hv : v = f i) : ip_up k i v = ip_fl f g (i + 1) := by
  subst e; subst hv
  funext j
  unfold ip_up ip_fl
  by_cases q : j = i
  · subst q; rw [if_pos rfl, if_pos (Nat.lt_succ_self _)]
  · rw [if_neg q]
    by_cases q2 : j < i
    · rw [if_pos q2, if_pos (by omega)]
    · rw [if_neg q2, if_neg (by omega)]
theorem ip_fl_skip {f g k : Nat → Nat} {i : Nat} (e : k = ip_fl f g i) (hv : f i = g i) : k = ip_fl f g (i + 1) := by
  rw [e]
  funext j
  unfold ip_fl
  by_cases q : j = i
  · subst q; rw [if_neg (Nat.lt_irrefl _), if_pos (Nat.lt_succ_self _)]; exact hv.symm
  · by_cases q2 : j < i
    · rw [if_pos q2, if_pos (by omega)]
    · rw [if_neg q2, if_neg (by omega)]
/-- takeLimits -/
def ip_ms (W : Nat → Nat) (h j : Nat) : Nat := if h = 0 then W j else (W j + 1) / 2
def ip_tv (W R G : Nat → Nat) (r h j : Nat) : Nat := if R j = r then ip_ms W h j - G j else 0
theorem ip_ms_le (W : Nat → Nat) (h j : Nat) : ip_ms W h j ≤ W j := by unfold ip_ms; split <;> omega
theorem ip_mn_lt {L : Nat → Nat} {v c : Nat} (h : L c < v) : ip_mn L v c = L c := if_pos h
theorem ip_mn_ge {L : Nat → Nat} {v c : Nat} (h : v ≤ L c) : ip_mn L v c = v := if_neg (Nat.not_lt.mpr h)
theorem ip_mn_bound {L : Nat → Nat} {n : Nat} (hL : ∀ j, j < n → L j ≤ 150) (hn : n ≤ 8) (v : Nat) : fb_sm (ip_mn L v) n ≤ 1200 := by
  have := fb_sm_bound (f := ip_mn L v) (c := 150) (n := n) (fun k hk => by
    have := hL k hk
    unfold ip_mn
    split <;> omega)
  omega
theorem ip_mn_zero (L : Nat → Nat) (n : Nat) : fb_sm (ip_mn L 0) n = 0 := by
  have e : fb_sm (ip_mn L 0) n = fb_sm (fun _ => 0) n := fb_sm_cong fun k _ => ip_mn_ge (Nat.zero_le _)
  rw [e, fb_sm_const, Nat.mul_zero]
theorem ip_lt_bound {L : Nat → Nat} {n : Nat} (hL : ∀ j, j < n → L j ≤ 150) (hn : n ≤ 8) (v : Nat) : fb_sm (fun c => L c - v) n ≤ 1200 := by
  have := fb_sm_bound (f := fun c => L c - v) (c := 150) (n := n) (fun k hk => by
    have := hL k hk
    show L k - v ≤ 150
    omega)
  omega
theorem ip_lt_zero {L : Nat → Nat} {n : Nat} (hL : ∀ j, j < n → L j ≤ 150) : fb_sm (fun c => L c - 150) n = 0 := by
  have e : fb_sm (fun c => L c - 150) n = fb_sm (fun _ => 0) n := fb_sm_cong fun k hk => by have := hL k hk; omega
  rw [e, fb_sm_const, Nat.mul_zero]
theorem ip_aw_end {L : Nat → Nat} {n units lo hi k : Nat} (hk : k ≤ 9) (hlh : lo ≤ hi ∧ hi ≤ 150) (h1 : fb_sm (ip_mn L lo) n ≤ units) (h2 : hi = 150 ∨ units < fb_sm (ip_mn L (hi + 1)) n) (h3 : hi - lo ≤ ip_hv 150 k) (hx : 9 ≤ k ∨ hi ≤ lo) : ip_awl L n units lo := by
  have e : hi = lo := by
    rcases hx with q | q
    · rw [show k = 9 by omega, ip_hv_9] at h3; omega
    · omega
  rw [e] at h2
  exact ⟨by omega, h1, h2⟩
theorem ip_lo_end {L : Nat → Nat} {n units lo hi k : Nat} (hk : k ≤ 9) (hlh : lo ≤ hi ∧ hi ≤ 150) (h1 : fb_sm (fun c => L c - hi) n ≤ units) (h2 : lo = 0 ∨ units < fb_sm (fun c => L c - (lo - 1)) n) (h3 : hi - lo ≤ ip_hv 150 k) (hx : 9 ≤ k ∨ hi ≤ lo) : ip_lol L n units lo := by
  have e : hi = lo := by
    rcases hx with q | q
    · rw [show k = 9 by omega, ip_hv_9] at h3; omega
    · omega
  rw [e] at h1
  exact ⟨by omega, h1, h2⟩
theorem ip_aw_iff (L : Nat → Nat) (low rest c : Nat) : ip_aw L low rest c = (if L c < low then L c else low) + if low < L c ∧ fb_ct (ip_ab L low) c < rest then 1 else 0 := by
  unfold ip_aw
  have : (ip_ab L low c = true) = (low < L c) := by simp [ip_ab]
  simp only [this]
  rfl
theorem ip_ab_ct (L : Nat → Nat) (low i : Nat) : fb_ct (ip_ab L low) (i + 1) = fb_ct (ip_ab L low) i + if low < L i then 1 else 0 := by
  rw [fb_ct_succ]
  have : (ip_ab L low i = true) = (low < L i) := by simp [ip_ab]
  simp only [this]
theorem ip_lo_iff (L : Nat → Nat) (low rest c : Nat) : ip_lo L low rest c = (L c - low) + if (low ≤ L c ∧ 0 < L c ∧ 0 < low) ∧ fb_ct (ip_lq L low) c < rest then 1 else 0 := by
  unfold ip_lo
  have : (ip_lq L low c = true) = (low ≤ L c ∧ 0 < L c ∧ 0 < low) := by simp [ip_lq]
  simp only [this]
theorem ip_lq_ct (L : Nat → Nat) (low i : Nat) : fb_ct (ip_lq L low) (i + 1) = fb_ct (ip_lq L low) i + if low ≤ L i ∧ 0 < L i ∧ 0 < low then 1 else 0 := by
  rw [fb_ct_succ]
  have : (ip_lq L low i = true) = (low ≤ L i ∧ 0 < L i ∧ 0 < low) := by simp [ip_lq]
  simp only [this]
theorem ip_qu_in {W R : Nat → Nat} {r P S c : Nat} (h : R c = r) (hS : 0 < S) : ip_qu W R r P S c = P * W c / S := if_pos ⟨h, hS⟩
theorem ip_qu_out {W R : Nat → Nat} {r P S c : Nat} (h : ¬ (R c = r ∧ 0 < S)) : ip_qu W R r P S c = 0 := if_neg h
def ip_qv (W R G : Nat → Nat) (r P S c : Nat) : Nat := if R c = r ∧ 0 < S then P * W c / S else G c
theorem ip_qv_in {W R G : Nat → Nat} {r P S c : Nat} (h : R c = r) (hS : 0 < S) : ip_qv W R G r P S c = P * W c / S := if_pos ⟨h, hS⟩
theorem ip_qv_out {W R G : Nat → Nat} {r P S c : Nat} (h : ¬ (R c = r ∧ 0 < S)) : ip_qv W R G r P S c = G c := if_neg h
theorem ip_qin_t {W R G : Nat → Nat} {r c : Nat} (h : R c = r ∧ G c < W c) : ip_qin W R G r c = true := by simp [ip_qin, h]
theorem ip_qin_f {W R G : Nat → Nat} {r c : Nat} (h : ¬ (R c = r ∧ G c < W c)) : ip_qin W R G r c = false := decide_eq_false h
theorem ip_qin_of {W R G : Nat → Nat} {r c : Nat} (h : ip_qin W R G r c = true) : R c = r ∧ G c < W c := of_decide_eq_true h
theorem ip_qbe_t {W G : Nat → Nat} {c b : Nat} (h : W b * (G c + 1) < W c * (G b + 1)) : ip_qbe W G c b = true := decide_eq_true h
theorem ip_qbe_f {W G : Nat → Nat} {c b : Nat} (h : ¬ W b * (G c + 1) < W c * (G b + 1)) : ip_qbe W G c b = false := decide_eq_false h
theorem ip_qs_start {W R G Gv : Nat → Nat} {r P S n x : Nat} (hn : n ≤ 8) (hS : S = ip_rs R r W n) (hP : P ≤ S) (h0 : ∀ j, j < n → R j = r → G j = 0) (ex : x = P - fb_sm (ip_qu W R r P S) n) (eG : Gv = ip_fl (ip_qv W R G r P S) G n) :
    ip_I R r ip_shN W ip_zer W n Gv ∧ ip_rs R r Gv n + x = P ∧ x ≤ 8 ∧ ∀ j, (n ≤ j ∨ R j ≠ r) → Gv j = G j := by
  have hf : ∀ j, (n ≤ j ∨ R j ≠ r) → Gv j = G j := fun j hj => by
    rw [eG]
    by_cases q : j < n
    · rw [ip_fl_in q]; exact if_neg (by omega)
    · rw [ip_fl_out (by omega)]
  rcases Nat.eq_zero_or_pos S with q | q
  · have hz : ∀ c, c < n → R c = r → Gv c = 0 := fun c hc rc => by
      rw [eG, ip_fl_in hc]
      have : ip_qv W R G r P S c = G c := if_neg (by omega)
      rw [this]; exact h0 c hc rc
    have e1 : ip_rs R r Gv n = 0 := ip_rs_zero hz
    refine ⟨⟨fun c hc rc => ?_, fun c d hc _ rc _ h1 _ => ?_⟩, by omega, by omega, hf⟩
    · rw [hz c hc rc]; exact ⟨Nat.le_refl _, Nat.zero_le _⟩
    · rw [hz c hc rc] at h1; exact absurd h1 (Nat.lt_irrefl _)
  · have hv : ∀ c, c < n → R c = r → Gv c = P * W c / S := fun c hc rc => by
      rw [eG, ip_fl_in hc]; exact if_pos ⟨rc, q⟩
    have e1 : ip_rs R r Gv n = fb_sm (ip_qu W R r P S) n := fb_sm_cong fun c hc => by
      by_cases e : R c = r
      · rw [if_pos e, hv c hc e, ip_qu_in e q]
      · rw [if_neg e, ip_qu_out (by omega)]
    have h1 := ip_qu_part (W := W) (R := R) (r := r) (P := P) (S := S) (n := n) (i := n) hS (Nat.le_refl _)
    have h2 := ip_qu_few (W := W) (R := R) (r := r) (P := P) (S := S) (n := n) hS q
    exact ⟨ip_q_I q hP hv, by omega, by omega, hf⟩
end
section
/-! ===== the pool: limits, awards, losses, quotas; printed by gen_pool2.py ===== -/
abbrev rmX0_takeLimits : Room := { frames := 0, cells := 0, slots := 0, locals := 0 }
abbrev rmX0_awarded : Room := { frames := 0, cells := 0, slots := 0, locals := 0 }
abbrev rmX0_lost : Room := { frames := 0, cells := 0, slots := 0, locals := 0 }
abbrev rmX0_isGreater : Room := { frames := 0, cells := 0, slots := 0, locals := 0 }
abbrev rmX0_award : Room := { frames := 1, cells := 0, slots := 0, locals := 23 }
abbrev rmX0_lose : Room := { frames := 1, cells := 0, slots := 0, locals := 23 }
abbrev rmX0_quotas : Room := { frames := 1, cells := 0, slots := 0, locals := 22 }
theorem cwX0_takeLimits {s : State} {args : Array Value} {Rm : Room} (hts : ∀ w ∈ lw_all, w.before args s = true) (hR : rmX0_takeLimits.frames + 1 ≤ Rm.frames ∧ 8 + (5 + 11) + rmX0_takeLimits.locals ≤ Rm.locals) : CallW Rm s args RX0 RX0 60 yX0_takeLimits cX0_takeLimits 5 none (ws_ yX0_takeLimits cX0_takeLimits 5 none) rmX0_takeLimits 0 0 2 :=
  cwV 2 hts (lw_V q116 q118 qs4 q19 q119) rfl rfl rfl (by decide +kernel) hR
theorem cwX0_awarded {s : State} {args : Array Value} {Rm : Room} (hts : ∀ w ∈ lw_all, w.before args s = true) (hR : rmX0_awarded.frames + 1 ≤ Rm.frames ∧ 8 + (4 + 11) + rmX0_awarded.locals ≤ Rm.locals) : CallW Rm s args RX0 RX0 73 yX0_awarded cX0_awarded 4 (some .int) (ws_ yX0_awarded cX0_awarded 4 (some .int)) rmX0_awarded 0 0 1 :=
  cwV 1 hts (lw_V q124 q126 qs6 q19 q127) rfl rfl rfl (by decide +kernel) hR
theorem cwX0_lost {s : State} {args : Array Value} {Rm : Room} (hts : ∀ w ∈ lw_all, w.before args s = true) (hR : rmX0_lost.frames + 1 ≤ Rm.frames ∧ 8 + (4 + 11) + rmX0_lost.locals ≤ Rm.locals) : CallW Rm s args RX0 RX0 76 yX0_lost cX0_lost 4 (some .int) (ws_ yX0_lost cX0_lost 4 (some .int)) rmX0_lost 0 0 1 :=
  cwV 1 hts (lw_V q132 q134 qs8 q19 q135) rfl rfl rfl (by decide +kernel) hR
theorem cwX0_isGreater {s : State} {args : Array Value} {Rm : Room} (hts : ∀ w ∈ lw_all, w.before args s = true) (hR : rmX0_isGreater.frames + 1 ≤ Rm.frames ∧ 8 + (3 + 11) + rmX0_isGreater.locals ≤ Rm.locals) : CallW Rm s args RX0 RX0 79 yX0_isGreater cX0_isGreater 3 (some .boolean) (ws_ yX0_isGreater cX0_isGreater 3 (some .boolean)) rmX0_isGreater 0 0 2 :=
  cwV 2 hts (lw_V q140 q142 qs10 q19 q143) rfl rfl rfl (by decide +kernel) hR
theorem cwX0_award {s : State} {args : Array Value} {Rm : Room} (hts : ∀ w ∈ lw_all, w.before args s = true) (hR : rmX0_award.frames + 1 ≤ Rm.frames ∧ 8 + (7 + 11) + rmX0_award.locals ≤ Rm.locals) : CallW Rm s args RX0 RX0 64 yX0_award cX0_award 7 none (ws_ yX0_award cX0_award 7 none) rmX0_award 0 0 1 :=
  cwV 1 hts (lw_V q120 q122 qs5 q19 q123) rfl rfl rfl (by decide +kernel) hR
theorem cwX0_lose {s : State} {args : Array Value} {Rm : Room} (hts : ∀ w ∈ lw_all, w.before args s = true) (hR : rmX0_lose.frames + 1 ≤ Rm.frames ∧ 8 + (7 + 11) + rmX0_lose.locals ≤ Rm.locals) : CallW Rm s args RX0 RX0 67 yX0_lose cX0_lose 7 none (ws_ yX0_lose cX0_lose 7 none) rmX0_lose 0 0 1 :=
  cwV 1 hts (lw_V q128 q130 qs7 q19 q131) rfl rfl rfl (by decide +kernel) hR
theorem cwX0_quotas {s : State} {args : Array Value} {Rm : Room} (hts : ∀ w ∈ lw_all, w.before args s = true) (hR : rmX0_quotas.frames + 1 ≤ Rm.frames ∧ 8 + (8 + 11) + rmX0_quotas.locals ≤ Rm.locals) : CallW Rm s args RX0 RX0 70 yX0_quotas cX0_quotas 8 none (ws_ yX0_quotas cX0_quotas 8 none) rmX0_quotas 0 0 3 :=
  cwV 3 hts (lw_V q136 q138 qs9 q19 q139) rfl rfl rfl (by decide +kernel) hR
set_option maxHeartbeats 4000000 in
set_option maxRecDepth 100000 in
theorem kX0_takeLimits (l : Launch) (D : va_G) (d : ClassId) (a : Nat → Nat) (Wa Ra Ua Ga La Ea : Nat → Nat) (n pt ov : Nat) (hI : ip_AI (Wa, Ra, Ua, n, pt)) (r h : Nat) (hr : r < 4) (hh : h < 2) (hG : ∀ j, j < n → Ra j = r → Ga j ≤ ip_ms Wa h j) : ip_Mv l yX0_takeLimits (ws_ yX0_takeLimits cX0_takeLimits 5 none) rmX0_takeLimits D d (pw a d Wa Ra Ua Ga La Ea n pt ov) [.ref (a 0), .int (nI r), .int (nI h)] (S := Unit) (fun _ => True) (fun _ => (pw a d Wa Ra Ua Ga (ip_fl (ip_tv Wa Ra Ga r h) La n) Ea n pt ov)) := by
  obtain ⟨hW, hR, hU, hn, hpt⟩ := id hI
  have hW : ∀ j, Wa j ≤ 150 := hW
  have hR : ∀ j, Ra j < 4 := hR
  have hU : ∀ j, Ua j < 4 := hU
  have hn : n ≤ 8 := hn
  have hpt : pt ≤ 1500 := hpt
  refine ip_ent_v (by decide) (Nat.le_of_ble_eq_true rfl) ?_
  intro p e s m args below meth c A Q hx hb hml hown hts hA hK hP hD hS hret ls hl
  have hown : s.vm.findClass RX0 = some m.cls := hown
  have hl : lv_has ls 5 [(0, .ref (a 0)), (1, .int (nI r)), (2, .int (nI h))] := hl
  have lp2 : ∀ (N2 : Nat) (i : Nat) (Lv : Nat → Nat), (i ≤ n) → (Lv = ip_fl (ip_tv Wa Ra Ga r h) La i) → n - i < N2 → ∀ (H : Heap) (locs : List Loc), va_P D ip_cl (pw a d Wa Ra Ua Ga Lv Ea n pt ov) H → va_D A (pw a d Wa Ra Ua Ga Lv Ea n pt ov) → va_S A s.heap H locs → ∀ (ls : Array Slot), lv_has ls 5 [(3, .int (nI i)), (0, .ref (a 0)), (1, .int (nI r)), (2, .int (nI h))] → W p l e rmX0_takeLimits s m args below meth c H locs 0 0 Q (F0 m 2 ls []) := by
    intro N2
    induction N2 with
    | zero =>
      intro i Lv _ _ hm
      exact absurd hm (Nat.not_lt_zero _)
    | succ N2 ih2 =>
      intro i Lv hi eL hm2 H locs hP hD hS ls hl
      refine lv_iload_n hx hb dX0_takeLimits_2 rfl (lv_at hl 0 rfl) ?_
      refine lv_aload_n hx hb dX0_takeLimits_3 rfl (lv_at hl 1 rfl) ?_
      refine x0_get_n hx hb hts hown hK hP dX0_takeLimits_4 ?_
      refine n_icmp_ge (tgt := 70) hx hb dX0_takeLimits_7 (by decide) (by omega) (by omega) (fun c_1 => ?_) (fun c_1 => ?_)
      · skip
        rw [eL, show i = n by omega] at hP hD
        exact hret () _ _ _ _ dX0_takeLimits_70 (trivial) hP hD hS
      · skip
        refine lv_iload_n hx hb dX0_takeLimits_10 rfl (lv_at hl 3 rfl) ?_
        refine n_if_eq (tgt := 27) hx hb dX0_takeLimits_11 (by decide) (by omega) (fun c_2 => ?_) (fun c_2 => ?_)
        · skip
          refine lv_aload_n hx hb dX0_takeLimits_27 rfl (lv_at hl 1 rfl) ?_
          refine x0_get_W hx hb hts hown hK hP dX0_takeLimits_28 ?_
          refine lv_iload_n hx hb dX0_takeLimits_31 rfl (lv_at hl 0 rfl) ?_
          refine x0_ald_W hx hb hK hP (by omega) dX0_takeLimits_32 ?_
          have b_3 := hW i
          refine lv_istore (lv' := [(4, .int (nI (Wa i))), (3, .int (nI i)), (0, .ref (a 0)), (1, .int (nI r)), (2, .int (nI h))]) hx hb dX0_takeLimits_33 hl (by decide) rfl (fun ls hl => ?_)
          refine lv_aload_n hx hb dX0_takeLimits_35 rfl (lv_at hl 2 rfl) ?_
          refine x0_get_L hx hb hts hown hK hP dX0_takeLimits_36 ?_
          refine lv_iload_n hx hb dX0_takeLimits_39 rfl (lv_at hl 1 rfl) ?_
          refine lv_aload_n hx hb dX0_takeLimits_40 rfl (lv_at hl 2 rfl) ?_
          refine x0_get_R hx hb hts hown hK hP dX0_takeLimits_41 ?_
          refine lv_iload_n hx hb dX0_takeLimits_44 rfl (lv_at hl 1 rfl) ?_
          refine x0_ald_R hx hb hK hP (by omega) dX0_takeLimits_45 ?_
          have b_4 := hR i
          refine lv_iload_n hx hb dX0_takeLimits_46 rfl (lv_at hl 3 rfl) ?_
          refine n_icmp_ne (tgt := 62) hx hb dX0_takeLimits_47 (by decide) (by omega) (by omega) (fun c_5 => ?_) (fun c_5 => ?_)
          · skip
            refine lv_iconst (v := nI 0) hx hb dX0_takeLimits_62 (by decide) ?_
            refine x0_ast_L hx hb hK hP hD hS (by omega) dX0_takeLimits_63 (fun H locs hP hD hS => ?_)
            refine lv_iinc (v := nI (i + 1)) (lv' := [(3, .int (nI (i + 1))), (4, .int (nI (Wa i))), (0, .ref (a 0)), (1, .int (nI r)), (2, .int (nI h))]) hx hb dX0_takeLimits_64 hl (k := 1) rfl (ip_inc i) (by decide) rfl (fun ls hl => ?_)
            refine lv_goto (tgt := 2) hx hb dX0_takeLimits_67 (by decide) ?_
            exact ih2 (i + 1) (ip_up Lv i 0) (by omega) (ip_fl_step eL (by unfold ip_tv ip_ms; (repeat' split) <;> omega)) (by omega) _ _ hP hD hS ls (lv_sub hl [0, 2, 3, 4] rfl)
          · skip
            refine lv_iload hx hb dX0_takeLimits_50 (lv_at hl 0 rfl) ?_
            refine lv_aload_n hx hb dX0_takeLimits_52 rfl (lv_at hl 2 rfl) ?_
            refine x0_get_G hx hb hts hown hK hP dX0_takeLimits_53 ?_
            refine lv_iload_n hx hb dX0_takeLimits_56 rfl (lv_at hl 1 rfl) ?_
            refine x0_ald_G hx hb hK hP (by omega) dX0_takeLimits_57 ?_
            refine n_isub hx hb dX0_takeLimits_58 (by have h9 := hG i (by omega) (by omega); unfold ip_ms at h9; split at h9 <;> omega) ?_
            refine lv_goto (tgt := 63) hx hb dX0_takeLimits_59 (by decide) ?_
            refine x0_ast_L hx hb hK hP hD hS (by omega) dX0_takeLimits_63 (fun H locs hP hD hS => ?_)
            refine lv_iinc (v := nI (i + 1)) (lv' := [(3, .int (nI (i + 1))), (4, .int (nI (Wa i))), (0, .ref (a 0)), (1, .int (nI r)), (2, .int (nI h))]) hx hb dX0_takeLimits_64 hl (k := 1) rfl (ip_inc i) (by decide) rfl (fun ls hl => ?_)
            refine lv_goto (tgt := 2) hx hb dX0_takeLimits_67 (by decide) ?_
            exact ih2 (i + 1) (ip_up Lv i ((Wa i) - (Ga i))) (by omega) (ip_fl_step eL (by unfold ip_tv ip_ms; (repeat' split) <;> omega)) (by omega) _ _ hP hD hS ls (lv_sub hl [0, 2, 3, 4] rfl)
        · skip
          refine lv_aload_n hx hb dX0_takeLimits_14 rfl (lv_at hl 1 rfl) ?_
          refine x0_get_W hx hb hts hown hK hP dX0_takeLimits_15 ?_
          refine lv_iload_n hx hb dX0_takeLimits_18 rfl (lv_at hl 0 rfl) ?_
          refine x0_ald_W hx hb hK hP (by omega) dX0_takeLimits_19 ?_
          have b_6 := hW i
          refine lv_iconst (v := nI 1) hx hb dX0_takeLimits_20 (by decide) ?_
          refine n_iadd hx hb dX0_takeLimits_21 ?_
          refine lv_iconst (v := nI 1) hx hb dX0_takeLimits_22 (by decide) ?_
          refine n_half hx hb dX0_takeLimits_23 (by omega) ?_
          refine lv_goto (tgt := 33) hx hb dX0_takeLimits_24 (by decide) ?_
          refine lv_istore (lv' := [(4, .int (nI (((Wa i) + 1) / 2))), (3, .int (nI i)), (0, .ref (a 0)), (1, .int (nI r)), (2, .int (nI h))]) hx hb dX0_takeLimits_33 hl (by decide) rfl (fun ls hl => ?_)
          refine lv_aload_n hx hb dX0_takeLimits_35 rfl (lv_at hl 2 rfl) ?_
          refine x0_get_L hx hb hts hown hK hP dX0_takeLimits_36 ?_
          refine lv_iload_n hx hb dX0_takeLimits_39 rfl (lv_at hl 1 rfl) ?_
          refine lv_aload_n hx hb dX0_takeLimits_40 rfl (lv_at hl 2 rfl) ?_
          refine x0_get_R hx hb hts hown hK hP dX0_takeLimits_41 ?_
          refine lv_iload_n hx hb dX0_takeLimits_44 rfl (lv_at hl 1 rfl) ?_
          refine x0_ald_R hx hb hK hP (by omega) dX0_takeLimits_45 ?_
          have b_7 := hR i
          refine lv_iload_n hx hb dX0_takeLimits_46 rfl (lv_at hl 3 rfl) ?_
          refine n_icmp_ne (tgt := 62) hx hb dX0_takeLimits_47 (by decide) (by omega) (by omega) (fun c_8 => ?_) (fun c_8 => ?_)
          · skip
            refine lv_iconst (v := nI 0) hx hb dX0_takeLimits_62 (by decide) ?_
            refine x0_ast_L hx hb hK hP hD hS (by omega) dX0_takeLimits_63 (fun H locs hP hD hS => ?_)
            refine lv_iinc (v := nI (i + 1)) (lv' := [(3, .int (nI (i + 1))), (4, .int (nI (((Wa i) + 1) / 2))), (0, .ref (a 0)), (1, .int (nI r)), (2, .int (nI h))]) hx hb dX0_takeLimits_64 hl (k := 1) rfl (ip_inc i) (by decide) rfl (fun ls hl => ?_)
            refine lv_goto (tgt := 2) hx hb dX0_takeLimits_67 (by decide) ?_
            exact ih2 (i + 1) (ip_up Lv i 0) (by omega) (ip_fl_step eL (by unfold ip_tv ip_ms; (repeat' split) <;> omega)) (by omega) _ _ hP hD hS ls (lv_sub hl [0, 2, 3, 4] rfl)
          · skip
            refine lv_iload hx hb dX0_takeLimits_50 (lv_at hl 0 rfl) ?_
            refine lv_aload_n hx hb dX0_takeLimits_52 rfl (lv_at hl 2 rfl) ?_
            refine x0_get_G hx hb hts hown hK hP dX0_takeLimits_53 ?_
            refine lv_iload_n hx hb dX0_takeLimits_56 rfl (lv_at hl 1 rfl) ?_
            refine x0_ald_G hx hb hK hP (by omega) dX0_takeLimits_57 ?_
            refine n_isub hx hb dX0_takeLimits_58 (by have h9 := hG i (by omega) (by omega); unfold ip_ms at h9; split at h9 <;> omega) ?_
            refine lv_goto (tgt := 63) hx hb dX0_takeLimits_59 (by decide) ?_
            refine x0_ast_L hx hb hK hP hD hS (by omega) dX0_takeLimits_63 (fun H locs hP hD hS => ?_)
            refine lv_iinc (v := nI (i + 1)) (lv' := [(3, .int (nI (i + 1))), (4, .int (nI (((Wa i) + 1) / 2))), (0, .ref (a 0)), (1, .int (nI r)), (2, .int (nI h))]) hx hb dX0_takeLimits_64 hl (k := 1) rfl (ip_inc i) (by decide) rfl (fun ls hl => ?_)
            refine lv_goto (tgt := 2) hx hb dX0_takeLimits_67 (by decide) ?_
            exact ih2 (i + 1) (ip_up Lv i ((((Wa i) + 1) / 2) - (Ga i))) (by omega) (ip_fl_step eL (by unfold ip_tv ip_ms; (repeat' split) <;> omega)) (by omega) _ _ hP hD hS ls (lv_sub hl [0, 2, 3, 4] rfl)
  refine lv_iconst (v := nI 0) hx hb dX0_takeLimits_0 (by decide) ?_
  refine lv_istore_n (lv' := [(3, .int (nI 0)), (0, .ref (a 0)), (1, .int (nI r)), (2, .int (nI h))]) hx hb dX0_takeLimits_1 rfl hl (by decide) rfl (fun ls hl => ?_)
  exact lp2 _ 0 La (by omega) (ip_fl_0 _ _) (Nat.lt_succ_self _) _ _ hP hD hS ls (lv_sub hl [0, 1, 2, 3] rfl)
set_option maxHeartbeats 4000000 in
set_option maxRecDepth 100000 in
theorem kX0_awarded (l : Launch) (D : va_G) (d : ClassId) (a : Nat → Nat) (Wa Ra Ua Ga La Ea : Nat → Nat) (n pt ov : Nat) (hI : ip_AI (Wa, Ra, Ua, n, pt)) (v : Nat) (hv : v ≤ 150) (hL : ∀ j, j < n → La j ≤ 150) : ip_Mi l yX0_awarded (ws_ yX0_awarded cX0_awarded 4 (some .int)) rmX0_awarded D d (pw a d Wa Ra Ua Ga La Ea n pt ov) [.ref (a 0), .int (nI v)] (S := Unit) (fun w _ => w = nI (fb_sm (ip_mn La v) n)) (fun _ => (pw a d Wa Ra Ua Ga La Ea n pt ov)) := by
  obtain ⟨hW, hR, hU, hn, hpt⟩ := id hI
  have hW : ∀ j, Wa j ≤ 150 := hW
  have hR : ∀ j, Ra j < 4 := hR
  have hU : ∀ j, Ua j < 4 := hU
  have hn : n ≤ 8 := hn
  have hpt : pt ≤ 1500 := hpt
  refine ip_ent_i (by decide) (Nat.le_of_ble_eq_true rfl) ?_
  intro p e s m args below meth c A Q hx hb hml hown hts hA hK hP hD hS hret ls hl
  have hown : s.vm.findClass RX0 = some m.cls := hown
  have hl : lv_has ls 4 [(0, .ref (a 0)), (1, .int (nI v))] := hl
  have lp4 : ∀ (N4 : Nat) (i : Nat) (x : Nat), (i ≤ n) → (x = fb_sm (ip_mn La v) i) → n - i < N4 → ∀ (H : Heap) (locs : List Loc), va_P D ip_cl (pw a d Wa Ra Ua Ga La Ea n pt ov) H → va_D A (pw a d Wa Ra Ua Ga La Ea n pt ov) → va_S A s.heap H locs → ∀ (ls : Array Slot), lv_has ls 4 [(3, .int (nI i)), (2, .int (nI x)), (0, .ref (a 0)), (1, .int (nI v))] → W p l e rmX0_awarded s m args below meth c H locs 0 0 Q (F0 m 4 ls []) := by
    intro N4
    induction N4 with
    | zero =>
      intro i x _ _ hm
      exact absurd hm (Nat.not_lt_zero _)
    | succ N4 ih4 =>
      intro i x hi he hm4 H locs hP hD hS ls hl
      refine lv_iload_n hx hb dX0_awarded_4 rfl (lv_at hl 0 rfl) ?_
      refine lv_aload_n hx hb dX0_awarded_5 rfl (lv_at hl 2 rfl) ?_
      refine x0_get_n hx hb hts hown hK hP dX0_awarded_6 ?_
      refine n_icmp_ge (tgt := 41) hx hb dX0_awarded_9 (by decide) (by omega) (by omega) (fun c_1 => ?_) (fun c_1 => ?_)
      · skip
        refine lv_iload_n hx hb dX0_awarded_41 rfl (lv_at hl 1 rfl) ?_
        exact hret () _ _ _ _ _ dX0_awarded_42 (by rw [he, show i = n by omega]) hP hD hS
      · skip
        refine lv_iload_n hx hb dX0_awarded_12 rfl (lv_at hl 1 rfl) ?_
        refine lv_aload_n hx hb dX0_awarded_13 rfl (lv_at hl 2 rfl) ?_
        refine x0_get_L hx hb hts hown hK hP dX0_awarded_14 ?_
        refine lv_iload_n hx hb dX0_awarded_17 rfl (lv_at hl 0 rfl) ?_
        refine x0_ald_L hx hb hK hP (by omega) dX0_awarded_18 ?_
        have b_2 := hL i (by omega)
        refine lv_iload_n hx hb dX0_awarded_19 rfl (lv_at hl 3 rfl) ?_
        refine n_icmp_ge (tgt := 32) hx hb dX0_awarded_20 (by decide) (by omega) (by omega) (fun c_3 => ?_) (fun c_3 => ?_)
        · skip
          refine lv_iload_n hx hb dX0_awarded_32 rfl (lv_at hl 3 rfl) ?_
          refine n_iadd hx hb dX0_awarded_33 ?_
          refine lv_istore_n (lv' := [(2, .int (nI (x + v))), (3, .int (nI i)), (0, .ref (a 0)), (1, .int (nI v))]) hx hb dX0_awarded_34 rfl hl (by decide) rfl (fun ls hl => ?_)
          refine lv_iinc (v := nI (i + 1)) (lv' := [(3, .int (nI (i + 1))), (2, .int (nI (x + v))), (0, .ref (a 0)), (1, .int (nI v))]) hx hb dX0_awarded_35 hl (k := 1) rfl (ip_inc i) (by decide) rfl (fun ls hl => ?_)
          refine lv_goto (tgt := 4) hx hb dX0_awarded_38 (by decide) ?_
          exact ih4 (i + 1) (x + v) (by omega) (by rw [fb_sm_succ]; first | (rw [ip_mn_lt (by omega)]; omega) | (rw [ip_mn_ge (by omega)]; omega)) (by omega) _ _ hP hD hS ls (lv_sub hl [0, 1, 2, 3] rfl)
        · skip
          refine lv_aload_n hx hb dX0_awarded_23 rfl (lv_at hl 2 rfl) ?_
          refine x0_get_L hx hb hts hown hK hP dX0_awarded_24 ?_
          refine lv_iload_n hx hb dX0_awarded_27 rfl (lv_at hl 0 rfl) ?_
          refine x0_ald_L hx hb hK hP (by omega) dX0_awarded_28 ?_
          have b_4 := hL i (by omega)
          refine lv_goto (tgt := 33) hx hb dX0_awarded_29 (by decide) ?_
          refine n_iadd hx hb dX0_awarded_33 ?_
          refine lv_istore_n (lv' := [(2, .int (nI (x + (La i)))), (3, .int (nI i)), (0, .ref (a 0)), (1, .int (nI v))]) hx hb dX0_awarded_34 rfl hl (by decide) rfl (fun ls hl => ?_)
          refine lv_iinc (v := nI (i + 1)) (lv' := [(3, .int (nI (i + 1))), (2, .int (nI (x + (La i)))), (0, .ref (a 0)), (1, .int (nI v))]) hx hb dX0_awarded_35 hl (k := 1) rfl (ip_inc i) (by decide) rfl (fun ls hl => ?_)
          refine lv_goto (tgt := 4) hx hb dX0_awarded_38 (by decide) ?_
          exact ih4 (i + 1) (x + (La i)) (by omega) (by rw [fb_sm_succ]; first | (rw [ip_mn_lt (by omega)]; omega) | (rw [ip_mn_ge (by omega)]; omega)) (by omega) _ _ hP hD hS ls (lv_sub hl [0, 1, 2, 3] rfl)
  refine lv_iconst (v := nI 0) hx hb dX0_awarded_0 (by decide) ?_
  refine lv_istore_n (lv' := [(2, .int (nI 0)), (0, .ref (a 0)), (1, .int (nI v))]) hx hb dX0_awarded_1 rfl hl (by decide) rfl (fun ls hl => ?_)
  refine lv_iconst (v := nI 0) hx hb dX0_awarded_2 (by decide) ?_
  refine lv_istore_n (lv' := [(3, .int (nI 0)), (2, .int (nI 0)), (0, .ref (a 0)), (1, .int (nI v))]) hx hb dX0_awarded_3 rfl hl (by decide) rfl (fun ls hl => ?_)
  exact lp4 _ 0 0 (by omega) (rfl) (Nat.lt_succ_self _) _ _ hP hD hS ls (lv_sub hl [0, 1, 2, 3] rfl)
set_option maxHeartbeats 4000000 in
set_option maxRecDepth 100000 in
theorem kX0_lost (l : Launch) (D : va_G) (d : ClassId) (a : Nat → Nat) (Wa Ra Ua Ga La Ea : Nat → Nat) (n pt ov : Nat) (hI : ip_AI (Wa, Ra, Ua, n, pt)) (v : Nat) (hv : v ≤ 150) (hL : ∀ j, j < n → La j ≤ 150) : ip_Mi l yX0_lost (ws_ yX0_lost cX0_lost 4 (some .int)) rmX0_lost D d (pw a d Wa Ra Ua Ga La Ea n pt ov) [.ref (a 0), .int (nI v)] (S := Unit) (fun w _ => w = nI (fb_sm (fun c => La c - v) n)) (fun _ => (pw a d Wa Ra Ua Ga La Ea n pt ov)) := by
  obtain ⟨hW, hR, hU, hn, hpt⟩ := id hI
  have hW : ∀ j, Wa j ≤ 150 := hW
  have hR : ∀ j, Ra j < 4 := hR
  have hU : ∀ j, Ua j < 4 := hU
  have hn : n ≤ 8 := hn
  have hpt : pt ≤ 1500 := hpt
  refine ip_ent_i (by decide) (Nat.le_of_ble_eq_true rfl) ?_
  intro p e s m args below meth c A Q hx hb hml hown hts hA hK hP hD hS hret ls hl
  have hown : s.vm.findClass RX0 = some m.cls := hown
  have hl : lv_has ls 4 [(0, .ref (a 0)), (1, .int (nI v))] := hl
  have lp4 : ∀ (N4 : Nat) (i : Nat) (x : Nat), (i ≤ n) → (x = fb_sm (fun c => La c - v) i) → n - i < N4 → ∀ (H : Heap) (locs : List Loc), va_P D ip_cl (pw a d Wa Ra Ua Ga La Ea n pt ov) H → va_D A (pw a d Wa Ra Ua Ga La Ea n pt ov) → va_S A s.heap H locs → ∀ (ls : Array Slot), lv_has ls 4 [(3, .int (nI i)), (2, .int (nI x)), (0, .ref (a 0)), (1, .int (nI v))] → W p l e rmX0_lost s m args below meth c H locs 0 0 Q (F0 m 4 ls []) := by
    intro N4
    induction N4 with
    | zero =>
      intro i x _ _ hm
      exact absurd hm (Nat.not_lt_zero _)
    | succ N4 ih4 =>
      intro i x hi he hm4 H locs hP hD hS ls hl
      refine lv_iload_n hx hb dX0_lost_4 rfl (lv_at hl 0 rfl) ?_
      refine lv_aload_n hx hb dX0_lost_5 rfl (lv_at hl 2 rfl) ?_
      refine x0_get_n hx hb hts hown hK hP dX0_lost_6 ?_
      refine n_icmp_ge (tgt := 43) hx hb dX0_lost_9 (by decide) (by omega) (by omega) (fun c_1 => ?_) (fun c_1 => ?_)
      · skip
        refine lv_iload_n hx hb dX0_lost_43 rfl (lv_at hl 1 rfl) ?_
        exact hret () _ _ _ _ _ dX0_lost_44 (by rw [he, show i = n by omega]) hP hD hS
      · skip
        refine lv_iload_n hx hb dX0_lost_12 rfl (lv_at hl 1 rfl) ?_
        refine lv_aload_n hx hb dX0_lost_13 rfl (lv_at hl 2 rfl) ?_
        refine x0_get_L hx hb hts hown hK hP dX0_lost_14 ?_
        refine lv_iload_n hx hb dX0_lost_17 rfl (lv_at hl 0 rfl) ?_
        refine x0_ald_L hx hb hK hP (by omega) dX0_lost_18 ?_
        have b_2 := hL i (by omega)
        refine lv_iload_n hx hb dX0_lost_19 rfl (lv_at hl 3 rfl) ?_
        refine n_icmp_le (tgt := 34) hx hb dX0_lost_20 (by decide) (by omega) (by omega) (fun c_3 => ?_) (fun c_3 => ?_)
        · skip
          refine lv_iconst (v := nI 0) hx hb dX0_lost_34 (by decide) ?_
          refine n_iadd hx hb dX0_lost_35 ?_
          refine lv_istore_n (lv' := [(2, .int (nI (x + 0))), (3, .int (nI i)), (0, .ref (a 0)), (1, .int (nI v))]) hx hb dX0_lost_36 rfl hl (by decide) rfl (fun ls hl => ?_)
          refine lv_iinc (v := nI (i + 1)) (lv' := [(3, .int (nI (i + 1))), (2, .int (nI (x + 0))), (0, .ref (a 0)), (1, .int (nI v))]) hx hb dX0_lost_37 hl (k := 1) rfl (ip_inc i) (by decide) rfl (fun ls hl => ?_)
          refine lv_goto (tgt := 4) hx hb dX0_lost_40 (by decide) ?_
          exact ih4 (i + 1) (x + 0) (by omega) (by simp only [fb_sm_succ]; omega) (by omega) _ _ hP hD hS ls (lv_sub hl [0, 1, 2, 3] rfl)
        · skip
          refine lv_aload_n hx hb dX0_lost_23 rfl (lv_at hl 2 rfl) ?_
          refine x0_get_L hx hb hts hown hK hP dX0_lost_24 ?_
          refine lv_iload_n hx hb dX0_lost_27 rfl (lv_at hl 0 rfl) ?_
          refine x0_ald_L hx hb hK hP (by omega) dX0_lost_28 ?_
          have b_4 := hL i (by omega)
          refine lv_iload_n hx hb dX0_lost_29 rfl (lv_at hl 3 rfl) ?_
          refine n_isub hx hb dX0_lost_30 (by omega) ?_
          refine lv_goto (tgt := 35) hx hb dX0_lost_31 (by decide) ?_
          refine n_iadd hx hb dX0_lost_35 ?_
          refine lv_istore_n (lv' := [(2, .int (nI (x + ((La i) - v)))), (3, .int (nI i)), (0, .ref (a 0)), (1, .int (nI v))]) hx hb dX0_lost_36 rfl hl (by decide) rfl (fun ls hl => ?_)
          refine lv_iinc (v := nI (i + 1)) (lv' := [(3, .int (nI (i + 1))), (2, .int (nI (x + ((La i) - v)))), (0, .ref (a 0)), (1, .int (nI v))]) hx hb dX0_lost_37 hl (k := 1) rfl (ip_inc i) (by decide) rfl (fun ls hl => ?_)
          refine lv_goto (tgt := 4) hx hb dX0_lost_40 (by decide) ?_
          exact ih4 (i + 1) (x + ((La i) - v)) (by omega) (by simp only [fb_sm_succ]; omega) (by omega) _ _ hP hD hS ls (lv_sub hl [0, 1, 2, 3] rfl)
  refine lv_iconst (v := nI 0) hx hb dX0_lost_0 (by decide) ?_
  refine lv_istore_n (lv' := [(2, .int (nI 0)), (0, .ref (a 0)), (1, .int (nI v))]) hx hb dX0_lost_1 rfl hl (by decide) rfl (fun ls hl => ?_)
  refine lv_iconst (v := nI 0) hx hb dX0_lost_2 (by decide) ?_
  refine lv_istore_n (lv' := [(3, .int (nI 0)), (2, .int (nI 0)), (0, .ref (a 0)), (1, .int (nI v))]) hx hb dX0_lost_3 rfl hl (by decide) rfl (fun ls hl => ?_)
  exact lp4 _ 0 0 (by omega) (rfl) (Nat.lt_succ_self _) _ _ hP hD hS ls (lv_sub hl [0, 1, 2, 3] rfl)
set_option maxHeartbeats 4000000 in
set_option maxRecDepth 100000 in
theorem kX0_isGreater (l : Launch) (D : va_G) (d : ClassId) (a : Nat → Nat) (Wa Ra Ua Ga La Ea : Nat → Nat) (n pt ov : Nat) (hI : ip_AI (Wa, Ra, Ua, n, pt)) (x y : Nat) (h1 : x < n) (h2 : y < n) (h3 : Ga x ≤ 150) (h4 : Ga y ≤ 150) : ip_Mi l yX0_isGreater (ws_ yX0_isGreater cX0_isGreater 3 (some .boolean)) rmX0_isGreater D d (pw a d Wa Ra Ua Ga La Ea n pt ov) [.ref (a 0), .int (nI x), .int (nI y)] (S := Unit) (fun w _ => (w = nI 1 ∧ Wa y * (Ga x + 1) < Wa x * (Ga y + 1)) ∨ (w = nI 0 ∧ ¬ Wa y * (Ga x + 1) < Wa x * (Ga y + 1))) (fun _ => (pw a d Wa Ra Ua Ga La Ea n pt ov)) := by
  obtain ⟨hW, hR, hU, hn, hpt⟩ := id hI
  have hW : ∀ j, Wa j ≤ 150 := hW
  have hR : ∀ j, Ra j < 4 := hR
  have hU : ∀ j, Ua j < 4 := hU
  have hn : n ≤ 8 := hn
  have hpt : pt ≤ 1500 := hpt
  refine ip_ent_z (by decide) (Nat.le_of_ble_eq_true rfl) ?_
  intro p e s m args below meth c A Q hx hb hml hown hts hA hK hP hD hS hret ls hl
  have hown : s.vm.findClass RX0 = some m.cls := hown
  have hl : lv_has ls 3 [(0, .ref (a 0)), (1, .int (nI x)), (2, .int (nI y))] := hl
  refine lv_aload_n hx hb dX0_isGreater_0 rfl (lv_at hl 0 rfl) ?_
  refine x0_get_W hx hb hts hown hK hP dX0_isGreater_1 ?_
  refine lv_iload_n hx hb dX0_isGreater_4 rfl (lv_at hl 1 rfl) ?_
  refine x0_ald_W hx hb hK hP (by omega) dX0_isGreater_5 ?_
  refine lv_aload_n hx hb dX0_isGreater_6 rfl (lv_at hl 0 rfl) ?_
  refine x0_get_G hx hb hts hown hK hP dX0_isGreater_7 ?_
  refine lv_iload_n hx hb dX0_isGreater_10 rfl (lv_at hl 2 rfl) ?_
  refine x0_ald_G hx hb hK hP (by omega) dX0_isGreater_11 ?_
  refine lv_iconst (v := nI 1) hx hb dX0_isGreater_12 (by decide) ?_
  refine n_iadd hx hb dX0_isGreater_13 ?_
  refine n_imul hx hb dX0_isGreater_14 ?_
  refine lv_aload_n hx hb dX0_isGreater_15 rfl (lv_at hl 0 rfl) ?_
  refine x0_get_W hx hb hts hown hK hP dX0_isGreater_16 ?_
  refine lv_iload_n hx hb dX0_isGreater_19 rfl (lv_at hl 2 rfl) ?_
  refine x0_ald_W hx hb hK hP (by omega) dX0_isGreater_20 ?_
  refine lv_aload_n hx hb dX0_isGreater_21 rfl (lv_at hl 0 rfl) ?_
  refine x0_get_G hx hb hts hown hK hP dX0_isGreater_22 ?_
  refine lv_iload_n hx hb dX0_isGreater_25 rfl (lv_at hl 1 rfl) ?_
  refine x0_ald_G hx hb hK hP (by omega) dX0_isGreater_26 ?_
  refine lv_iconst (v := nI 1) hx hb dX0_isGreater_27 (by decide) ?_
  refine n_iadd hx hb dX0_isGreater_28 ?_
  refine n_imul hx hb dX0_isGreater_29 ?_
  refine n_icmp_le (tgt := 37) hx hb dX0_isGreater_30 (by decide) (Nat.lt_of_le_of_lt (Nat.mul_le_mul (hW x) (show Ga y + 1 ≤ 151 by omega)) (by decide)) (Nat.lt_of_le_of_lt (Nat.mul_le_mul (hW y) (show Ga x + 1 ≤ 151 by omega)) (by decide)) (fun c_1 => ?_) (fun c_1 => ?_)
  · skip
    refine lv_iconst (v := nI 0) hx hb dX0_isGreater_37 (by decide) ?_
    exact hret () _ _ _ _ _ rfl dX0_isGreater_38 (Or.inr ⟨rfl, by omega⟩) hP hD hS
  · skip
    refine lv_iconst (v := nI 1) hx hb dX0_isGreater_33 (by decide) ?_
    refine lv_goto (tgt := 38) hx hb dX0_isGreater_34 (by decide) ?_
    exact hret () _ _ _ _ _ rfl dX0_isGreater_38 (Or.inl ⟨rfl, by omega⟩) hP hD hS
set_option maxHeartbeats 4000000 in
set_option maxRecDepth 100000 in
theorem kX0_award (l : Launch) (D : va_G) (d : ClassId) (a : Nat → Nat) (Wa Ra Ua Ga La Ea : Nat → Nat) (n pt ov : Nat) (hI : ip_AI (Wa, Ra, Ua, n, pt)) (units : Nat) (hu : units ≤ 2000) (hL : ∀ j, j < n → La j ≤ 150) : ip_Mv l yX0_award (ws_ yX0_award cX0_award 7 none) rmX0_award D d (pw a d Wa Ra Ua Ga La Ea n pt ov) [.ref (a 0), .int (nI units)] (S := Nat) (fun lo => ip_awl La n units lo) ((fun lo => (pw a d Wa Ra Ua (ip_fl (fun j => Ga j + ip_aw La lo (units - fb_sm (ip_mn La lo) n) j) Ga n) La Ea n pt ov))) := by
  obtain ⟨hW, hR, hU, hn, hpt⟩ := id hI
  have hW : ∀ j, Wa j ≤ 150 := hW
  have hR : ∀ j, Ra j < 4 := hR
  have hU : ∀ j, Ua j < 4 := hU
  have hn : n ≤ 8 := hn
  have hpt : pt ≤ 1500 := hpt
  refine ip_ent_v (by decide) (Nat.le_of_ble_eq_true rfl) ?_
  intro p e s m args below meth c A Q hx hb hml hown hts hA hK hP hD hS hret ls hl
  have hown : s.vm.findClass RX0 = some m.cls := hown
  have hl : lv_has ls 7 [(0, .ref (a 0)), (1, .int (nI units))] := hl
  have tl57 : ∀ (lo : Nat), (ip_awl La n units lo) → ∀ (H : Heap) (locs : List Loc), va_P D ip_cl (pw a d Wa Ra Ua Ga La Ea n pt ov) H → va_D A (pw a d Wa Ra Ua Ga La Ea n pt ov) → va_S A s.heap H locs → ∀ (ls : Array Slot), lv_has ls 7 [(2, .int (nI lo)), (0, .ref (a 0)), (1, .int (nI units))] → W p l e rmX0_award s m args below meth c H locs 0 0 Q (F0 m 57 ls []) := by
    intro lo hlo H locs hP hD hS ls hl
    have hlo1 := hlo.1
    have hlo2 := hlo.2.1
    refine lv_iload_n hx hb dX0_award_57 rfl (lv_at hl 2 rfl) ?_
    refine lv_aload_n hx hb dX0_award_58 rfl (lv_at hl 1 rfl) ?_
    refine lv_iload_n hx hb dX0_award_59 rfl (lv_at hl 0 rfl) ?_
    refine ip_callV_i (own := RX0) (C := RX0) (x := a 0) [.int (nI lo)] hx hb hml hown hts hA hK (kX0_awarded l D d a Wa Ra Ua Ga La Ea n pt ov hI lo (by omega) hL) (cwX0_awarded hts ⟨Nat.le_of_ble_eq_true rfl, Nat.le_of_ble_eq_true rfl⟩) ⟨0, _, _, rfl, rfl, rfl⟩ hP hD hS hl.1 rfl (Nat.le_of_ble_eq_true rfl) dX0_award_60 ⟨Nat.zero_le _, Nat.zero_le _⟩ (fun r_2 u_1 H locs hw_3 hP hD hS => ?_)
    subst hw_3
    have b_4 := ip_mn_bound hL hn lo
    refine n_isub hx hb dX0_award_63 (by omega) ?_
    refine lv_istore (lv' := [(4, .int (nI (units - (fb_sm (ip_mn La lo) n)))), (2, .int (nI lo)), (0, .ref (a 0)), (1, .int (nI units))]) hx hb dX0_award_64 hl (by decide) rfl (fun ls hl => ?_)
    refine lv_iconst (v := nI 0) hx hb dX0_award_66 (by decide) ?_
    refine lv_istore (lv' := [(5, .int (nI 0)), (4, .int (nI (units - (fb_sm (ip_mn La lo) n)))), (2, .int (nI lo)), (0, .ref (a 0)), (1, .int (nI units))]) hx hb dX0_award_67 hl (by decide) rfl (fun ls hl => ?_)
    have lp69 : ∀ (N69 : Nat) (i : Nat) (x : Nat) (Gv : Nat → Nat), (i ≤ n) → (x = (units - fb_sm (ip_mn La lo) n) - fb_ct (ip_ab La lo) i) → (Gv = ip_fl (fun j => Ga j + ip_aw La lo (units - fb_sm (ip_mn La lo) n) j) Ga i) → n - i < N69 → ∀ (H : Heap) (locs : List Loc), va_P D ip_cl (pw a d Wa Ra Ua Gv La Ea n pt ov) H → va_D A (pw a d Wa Ra Ua Gv La Ea n pt ov) → va_S A s.heap H locs → ∀ (ls : Array Slot), lv_has ls 7 [(5, .int (nI i)), (4, .int (nI x)), (2, .int (nI lo)), (0, .ref (a 0)), (1, .int (nI units))] → W p l e rmX0_award s m args below meth c H locs 0 0 Q (F0 m 69 ls []) := by
      intro N69
      induction N69 with
      | zero =>
        intro i x Gv _ _ _ hm
        exact absurd hm (Nat.not_lt_zero _)
      | succ N69 ih69 =>
        intro i x Gv hi ex eG hm69 H locs hP hD hS ls hl
        refine lv_iload hx hb dX0_award_69 (lv_at hl 0 rfl) ?_
        refine lv_aload_n hx hb dX0_award_71 rfl (lv_at hl 3 rfl) ?_
        refine x0_get_n hx hb hts hown hK hP dX0_award_72 ?_
        refine n_icmp_ge (tgt := 165) hx hb dX0_award_75 (by decide) (by omega) (by omega) (fun c_5 => ?_) (fun c_5 => ?_)
        · skip
          rw [eG, show i = n by omega] at hP hD
          exact hret lo _ _ _ _ dX0_award_165 (hlo) hP hD hS
        · skip
          refine lv_aload_n hx hb dX0_award_78 rfl (lv_at hl 3 rfl) ?_
          refine x0_get_L hx hb hts hown hK hP dX0_award_79 ?_
          refine lv_iload hx hb dX0_award_82 (lv_at hl 0 rfl) ?_
          refine x0_ald_L hx hb hK hP (by omega) dX0_award_84 ?_
          have b_6 := hL i (by omega)
          refine lv_iload_n hx hb dX0_award_85 rfl (lv_at hl 2 rfl) ?_
          refine n_icmp_le (tgt := 98) hx hb dX0_award_86 (by decide) (by omega) (by omega) (fun c_7 => ?_) (fun c_7 => ?_)
          · skip
            refine lv_iconst (v := nI 0) hx hb dX0_award_98 (by decide) ?_
            refine lv_istore (lv' := [(6, .int (nI 0)), (5, .int (nI i)), (4, .int (nI x)), (2, .int (nI lo)), (0, .ref (a 0)), (1, .int (nI units))]) hx hb dX0_award_99 hl (by decide) rfl (fun ls hl => ?_)
            refine lv_aload_n hx hb dX0_award_101 rfl (lv_at hl 4 rfl) ?_
            refine x0_get_G hx hb hts hown hK hP dX0_award_102 ?_
            refine lv_iload hx hb dX0_award_105 (lv_at hl 1 rfl) ?_
            refine lv_dup2_11 hx hb dX0_award_107 rfl rfl ?_
            refine x0_ald_G hx hb hK hP (by omega) dX0_award_108 ?_
            refine lv_aload_n hx hb dX0_award_109 rfl (lv_at hl 4 rfl) ?_
            refine x0_get_L hx hb hts hown hK hP dX0_award_110 ?_
            refine lv_iload hx hb dX0_award_113 (lv_at hl 1 rfl) ?_
            refine x0_ald_L hx hb hK hP (by omega) dX0_award_115 ?_
            have b_8 := hL i (by omega)
            refine lv_iload_n hx hb dX0_award_116 rfl (lv_at hl 3 rfl) ?_
            refine n_icmp_ge (tgt := 130) hx hb dX0_award_117 (by decide) (by omega) (by omega) (fun c_9 => ?_) (fun c_9 => ?_)
            · skip
              refine lv_iload_n hx hb dX0_award_130 rfl (lv_at hl 3 rfl) ?_
              refine lv_iload hx hb dX0_award_131 (lv_at hl 0 rfl) ?_
              refine n_if_eq (tgt := 140) hx hb dX0_award_133 (by decide) (by omega) (fun _ => ?_) (fun h => absurd h (by omega))
              refine lv_iconst (v := nI 0) hx hb dX0_award_140 (by decide) ?_
              refine n_iadd hx hb dX0_award_141 ?_
              refine n_iadd hx hb dX0_award_142 ?_
              refine x0_ast_G hx hb hK hP hD hS (by omega) dX0_award_143 (fun H locs hP hD hS => ?_)
              refine lv_iload hx hb dX0_award_144 (lv_at hl 2 rfl) ?_
              refine lv_iload hx hb dX0_award_146 (lv_at hl 0 rfl) ?_
              refine n_if_eq (tgt := 155) hx hb dX0_award_148 (by decide) (by omega) (fun _ => ?_) (fun h => absurd h (by omega))
              refine lv_iconst (v := nI 0) hx hb dX0_award_155 (by decide) ?_
              refine n_isub hx hb dX0_award_156 (by omega) ?_
              refine lv_istore (lv' := [(4, .int (nI (x - 0))), (6, .int (nI 0)), (5, .int (nI i)), (2, .int (nI lo)), (0, .ref (a 0)), (1, .int (nI units))]) hx hb dX0_award_157 hl (by decide) rfl (fun ls hl => ?_)
              refine lv_iinc (v := nI (i + 1)) (lv' := [(5, .int (nI (i + 1))), (4, .int (nI (x - 0))), (6, .int (nI 0)), (2, .int (nI lo)), (0, .ref (a 0)), (1, .int (nI units))]) hx hb dX0_award_159 hl (k := 2) rfl (ip_inc i) (by decide) rfl (fun ls hl => ?_)
              refine lv_goto (tgt := 69) hx hb dX0_award_162 (by decide) ?_
              exact ih69 (i + 1) (x - 0) (ip_up Gv i ((Gv i) + (lo + 0))) (by omega) (by rw [ip_ab_ct]; split <;> omega) (ip_fl_step eG (by rw [ip_fl_at eG, ip_aw_iff]; (repeat' split) <;> omega)) (by omega) _ _ hP hD hS ls (lv_sub hl [0, 1, 3, 4, 5] rfl)
            · skip
              refine lv_aload_n hx hb dX0_award_120 rfl (lv_at hl 4 rfl) ?_
              refine x0_get_L hx hb hts hown hK hP dX0_award_121 ?_
              refine lv_iload hx hb dX0_award_124 (lv_at hl 1 rfl) ?_
              refine x0_ald_L hx hb hK hP (by omega) dX0_award_126 ?_
              have b_12 := hL i (by omega)
              refine lv_goto (tgt := 131) hx hb dX0_award_127 (by decide) ?_
              refine lv_iload hx hb dX0_award_131 (lv_at hl 0 rfl) ?_
              refine n_if_eq (tgt := 140) hx hb dX0_award_133 (by decide) (by omega) (fun _ => ?_) (fun h => absurd h (by omega))
              refine lv_iconst (v := nI 0) hx hb dX0_award_140 (by decide) ?_
              refine n_iadd hx hb dX0_award_141 ?_
              refine n_iadd hx hb dX0_award_142 ?_
              refine x0_ast_G hx hb hK hP hD hS (by omega) dX0_award_143 (fun H locs hP hD hS => ?_)
              refine lv_iload hx hb dX0_award_144 (lv_at hl 2 rfl) ?_
              refine lv_iload hx hb dX0_award_146 (lv_at hl 0 rfl) ?_
              refine n_if_eq (tgt := 155) hx hb dX0_award_148 (by decide) (by omega) (fun _ => ?_) (fun h => absurd h (by omega))
              refine lv_iconst (v := nI 0) hx hb dX0_award_155 (by decide) ?_
              refine n_isub hx hb dX0_award_156 (by omega) ?_
              refine lv_istore (lv' := [(4, .int (nI (x - 0))), (6, .int (nI 0)), (5, .int (nI i)), (2, .int (nI lo)), (0, .ref (a 0)), (1, .int (nI units))]) hx hb dX0_award_157 hl (by decide) rfl (fun ls hl => ?_)
              refine lv_iinc (v := nI (i + 1)) (lv' := [(5, .int (nI (i + 1))), (4, .int (nI (x - 0))), (6, .int (nI 0)), (2, .int (nI lo)), (0, .ref (a 0)), (1, .int (nI units))]) hx hb dX0_award_159 hl (k := 2) rfl (ip_inc i) (by decide) rfl (fun ls hl => ?_)
              refine lv_goto (tgt := 69) hx hb dX0_award_162 (by decide) ?_
              exact ih69 (i + 1) (x - 0) (ip_up Gv i ((Gv i) + ((La i) + 0))) (by omega) (by rw [ip_ab_ct]; split <;> omega) (ip_fl_step eG (by rw [ip_fl_at eG, ip_aw_iff]; (repeat' split) <;> omega)) (by omega) _ _ hP hD hS ls (lv_sub hl [0, 1, 3, 4, 5] rfl)
          · skip
            refine lv_iload hx hb dX0_award_89 (lv_at hl 1 rfl) ?_
            refine n_if_le (tgt := 98) hx hb dX0_award_91 (by decide) (by omega) (fun c_15 => ?_) (fun c_15 => ?_)
            · skip
              refine lv_iconst (v := nI 0) hx hb dX0_award_98 (by decide) ?_
              refine lv_istore (lv' := [(6, .int (nI 0)), (5, .int (nI i)), (4, .int (nI x)), (2, .int (nI lo)), (0, .ref (a 0)), (1, .int (nI units))]) hx hb dX0_award_99 hl (by decide) rfl (fun ls hl => ?_)
              refine lv_aload_n hx hb dX0_award_101 rfl (lv_at hl 4 rfl) ?_
              refine x0_get_G hx hb hts hown hK hP dX0_award_102 ?_
              refine lv_iload hx hb dX0_award_105 (lv_at hl 1 rfl) ?_
              refine lv_dup2_11 hx hb dX0_award_107 rfl rfl ?_
              refine x0_ald_G hx hb hK hP (by omega) dX0_award_108 ?_
              refine lv_aload_n hx hb dX0_award_109 rfl (lv_at hl 4 rfl) ?_
              refine x0_get_L hx hb hts hown hK hP dX0_award_110 ?_
              refine lv_iload hx hb dX0_award_113 (lv_at hl 1 rfl) ?_
              refine x0_ald_L hx hb hK hP (by omega) dX0_award_115 ?_
              have b_16 := hL i (by omega)
              refine lv_iload_n hx hb dX0_award_116 rfl (lv_at hl 3 rfl) ?_
              refine n_icmp_ge (tgt := 130) hx hb dX0_award_117 (by decide) (by omega) (by omega) (fun c_17 => ?_) (fun c_17 => ?_)
              · skip
                refine lv_iload_n hx hb dX0_award_130 rfl (lv_at hl 3 rfl) ?_
                refine lv_iload hx hb dX0_award_131 (lv_at hl 0 rfl) ?_
                refine n_if_eq (tgt := 140) hx hb dX0_award_133 (by decide) (by omega) (fun _ => ?_) (fun h => absurd h (by omega))
                refine lv_iconst (v := nI 0) hx hb dX0_award_140 (by decide) ?_
                refine n_iadd hx hb dX0_award_141 ?_
                refine n_iadd hx hb dX0_award_142 ?_
                refine x0_ast_G hx hb hK hP hD hS (by omega) dX0_award_143 (fun H locs hP hD hS => ?_)
                refine lv_iload hx hb dX0_award_144 (lv_at hl 2 rfl) ?_
                refine lv_iload hx hb dX0_award_146 (lv_at hl 0 rfl) ?_
                refine n_if_eq (tgt := 155) hx hb dX0_award_148 (by decide) (by omega) (fun _ => ?_) (fun h => absurd h (by omega))
                refine lv_iconst (v := nI 0) hx hb dX0_award_155 (by decide) ?_
                refine n_isub hx hb dX0_award_156 (by omega) ?_
                refine lv_istore (lv' := [(4, .int (nI (x - 0))), (6, .int (nI 0)), (5, .int (nI i)), (2, .int (nI lo)), (0, .ref (a 0)), (1, .int (nI units))]) hx hb dX0_award_157 hl (by decide) rfl (fun ls hl => ?_)
                refine lv_iinc (v := nI (i + 1)) (lv' := [(5, .int (nI (i + 1))), (4, .int (nI (x - 0))), (6, .int (nI 0)), (2, .int (nI lo)), (0, .ref (a 0)), (1, .int (nI units))]) hx hb dX0_award_159 hl (k := 2) rfl (ip_inc i) (by decide) rfl (fun ls hl => ?_)
                refine lv_goto (tgt := 69) hx hb dX0_award_162 (by decide) ?_
                exact ih69 (i + 1) (x - 0) (ip_up Gv i ((Gv i) + (lo + 0))) (by omega) (by rw [ip_ab_ct]; split <;> omega) (ip_fl_step eG (by rw [ip_fl_at eG, ip_aw_iff]; (repeat' split) <;> omega)) (by omega) _ _ hP hD hS ls (lv_sub hl [0, 1, 3, 4, 5] rfl)
              · skip
                refine lv_aload_n hx hb dX0_award_120 rfl (lv_at hl 4 rfl) ?_
                refine x0_get_L hx hb hts hown hK hP dX0_award_121 ?_
                refine lv_iload hx hb dX0_award_124 (lv_at hl 1 rfl) ?_
                refine x0_ald_L hx hb hK hP (by omega) dX0_award_126 ?_
                have b_20 := hL i (by omega)
                refine lv_goto (tgt := 131) hx hb dX0_award_127 (by decide) ?_
                refine lv_iload hx hb dX0_award_131 (lv_at hl 0 rfl) ?_
                refine n_if_eq (tgt := 140) hx hb dX0_award_133 (by decide) (by omega) (fun _ => ?_) (fun h => absurd h (by omega))
                refine lv_iconst (v := nI 0) hx hb dX0_award_140 (by decide) ?_
                refine n_iadd hx hb dX0_award_141 ?_
                refine n_iadd hx hb dX0_award_142 ?_
                refine x0_ast_G hx hb hK hP hD hS (by omega) dX0_award_143 (fun H locs hP hD hS => ?_)
                refine lv_iload hx hb dX0_award_144 (lv_at hl 2 rfl) ?_
                refine lv_iload hx hb dX0_award_146 (lv_at hl 0 rfl) ?_
                refine n_if_eq (tgt := 155) hx hb dX0_award_148 (by decide) (by omega) (fun _ => ?_) (fun h => absurd h (by omega))
                refine lv_iconst (v := nI 0) hx hb dX0_award_155 (by decide) ?_
                refine n_isub hx hb dX0_award_156 (by omega) ?_
                refine lv_istore (lv' := [(4, .int (nI (x - 0))), (6, .int (nI 0)), (5, .int (nI i)), (2, .int (nI lo)), (0, .ref (a 0)), (1, .int (nI units))]) hx hb dX0_award_157 hl (by decide) rfl (fun ls hl => ?_)
                refine lv_iinc (v := nI (i + 1)) (lv' := [(5, .int (nI (i + 1))), (4, .int (nI (x - 0))), (6, .int (nI 0)), (2, .int (nI lo)), (0, .ref (a 0)), (1, .int (nI units))]) hx hb dX0_award_159 hl (k := 2) rfl (ip_inc i) (by decide) rfl (fun ls hl => ?_)
                refine lv_goto (tgt := 69) hx hb dX0_award_162 (by decide) ?_
                exact ih69 (i + 1) (x - 0) (ip_up Gv i ((Gv i) + ((La i) + 0))) (by omega) (by rw [ip_ab_ct]; split <;> omega) (ip_fl_step eG (by rw [ip_fl_at eG, ip_aw_iff]; (repeat' split) <;> omega)) (by omega) _ _ hP hD hS ls (lv_sub hl [0, 1, 3, 4, 5] rfl)
            · skip
              refine lv_iconst (v := nI 1) hx hb dX0_award_94 (by decide) ?_
              refine lv_goto (tgt := 99) hx hb dX0_award_95 (by decide) ?_
              refine lv_istore (lv' := [(6, .int (nI 1)), (5, .int (nI i)), (4, .int (nI x)), (2, .int (nI lo)), (0, .ref (a 0)), (1, .int (nI units))]) hx hb dX0_award_99 hl (by decide) rfl (fun ls hl => ?_)
              refine lv_aload_n hx hb dX0_award_101 rfl (lv_at hl 4 rfl) ?_
              refine x0_get_G hx hb hts hown hK hP dX0_award_102 ?_
              refine lv_iload hx hb dX0_award_105 (lv_at hl 1 rfl) ?_
              refine lv_dup2_11 hx hb dX0_award_107 rfl rfl ?_
              refine x0_ald_G hx hb hK hP (by omega) dX0_award_108 ?_
              refine lv_aload_n hx hb dX0_award_109 rfl (lv_at hl 4 rfl) ?_
              refine x0_get_L hx hb hts hown hK hP dX0_award_110 ?_
              refine lv_iload hx hb dX0_award_113 (lv_at hl 1 rfl) ?_
              refine x0_ald_L hx hb hK hP (by omega) dX0_award_115 ?_
              have b_23 := hL i (by omega)
              refine lv_iload_n hx hb dX0_award_116 rfl (lv_at hl 3 rfl) ?_
              refine n_icmp_ge (tgt := 130) hx hb dX0_award_117 (by decide) (by omega) (by omega) (fun c_24 => ?_) (fun c_24 => ?_)
              · skip
                refine lv_iload_n hx hb dX0_award_130 rfl (lv_at hl 3 rfl) ?_
                refine lv_iload hx hb dX0_award_131 (lv_at hl 0 rfl) ?_
                refine n_if_eq (tgt := 140) hx hb dX0_award_133 (by decide) (by omega) (fun h => absurd h (by omega)) (fun _ => ?_)
                refine lv_iconst (v := nI 1) hx hb dX0_award_136 (by decide) ?_
                refine lv_goto (tgt := 141) hx hb dX0_award_137 (by decide) ?_
                refine n_iadd hx hb dX0_award_141 ?_
                refine n_iadd hx hb dX0_award_142 ?_
                refine x0_ast_G hx hb hK hP hD hS (by omega) dX0_award_143 (fun H locs hP hD hS => ?_)
                refine lv_iload hx hb dX0_award_144 (lv_at hl 2 rfl) ?_
                refine lv_iload hx hb dX0_award_146 (lv_at hl 0 rfl) ?_
                refine n_if_eq (tgt := 155) hx hb dX0_award_148 (by decide) (by omega) (fun h => absurd h (by omega)) (fun _ => ?_)
                refine lv_iconst (v := nI 1) hx hb dX0_award_151 (by decide) ?_
                refine lv_goto (tgt := 156) hx hb dX0_award_152 (by decide) ?_
                refine n_isub hx hb dX0_award_156 (by omega) ?_
                refine lv_istore (lv' := [(4, .int (nI (x - 1))), (6, .int (nI 1)), (5, .int (nI i)), (2, .int (nI lo)), (0, .ref (a 0)), (1, .int (nI units))]) hx hb dX0_award_157 hl (by decide) rfl (fun ls hl => ?_)
                refine lv_iinc (v := nI (i + 1)) (lv' := [(5, .int (nI (i + 1))), (4, .int (nI (x - 1))), (6, .int (nI 1)), (2, .int (nI lo)), (0, .ref (a 0)), (1, .int (nI units))]) hx hb dX0_award_159 hl (k := 2) rfl (ip_inc i) (by decide) rfl (fun ls hl => ?_)
                refine lv_goto (tgt := 69) hx hb dX0_award_162 (by decide) ?_
                exact ih69 (i + 1) (x - 1) (ip_up Gv i ((Gv i) + (lo + 1))) (by omega) (by rw [ip_ab_ct]; split <;> omega) (ip_fl_step eG (by rw [ip_fl_at eG, ip_aw_iff]; (repeat' split) <;> omega)) (by omega) _ _ hP hD hS ls (lv_sub hl [0, 1, 3, 4, 5] rfl)
              · skip
                refine lv_aload_n hx hb dX0_award_120 rfl (lv_at hl 4 rfl) ?_
                refine x0_get_L hx hb hts hown hK hP dX0_award_121 ?_
                refine lv_iload hx hb dX0_award_124 (lv_at hl 1 rfl) ?_
                refine x0_ald_L hx hb hK hP (by omega) dX0_award_126 ?_
                have b_27 := hL i (by omega)
                refine lv_goto (tgt := 131) hx hb dX0_award_127 (by decide) ?_
                refine lv_iload hx hb dX0_award_131 (lv_at hl 0 rfl) ?_
                refine n_if_eq (tgt := 140) hx hb dX0_award_133 (by decide) (by omega) (fun h => absurd h (by omega)) (fun _ => ?_)
                refine lv_iconst (v := nI 1) hx hb dX0_award_136 (by decide) ?_
                refine lv_goto (tgt := 141) hx hb dX0_award_137 (by decide) ?_
                refine n_iadd hx hb dX0_award_141 ?_
                refine n_iadd hx hb dX0_award_142 ?_
                refine x0_ast_G hx hb hK hP hD hS (by omega) dX0_award_143 (fun H locs hP hD hS => ?_)
                refine lv_iload hx hb dX0_award_144 (lv_at hl 2 rfl) ?_
                refine lv_iload hx hb dX0_award_146 (lv_at hl 0 rfl) ?_
                refine n_if_eq (tgt := 155) hx hb dX0_award_148 (by decide) (by omega) (fun h => absurd h (by omega)) (fun _ => ?_)
                refine lv_iconst (v := nI 1) hx hb dX0_award_151 (by decide) ?_
                refine lv_goto (tgt := 156) hx hb dX0_award_152 (by decide) ?_
                refine n_isub hx hb dX0_award_156 (by omega) ?_
                refine lv_istore (lv' := [(4, .int (nI (x - 1))), (6, .int (nI 1)), (5, .int (nI i)), (2, .int (nI lo)), (0, .ref (a 0)), (1, .int (nI units))]) hx hb dX0_award_157 hl (by decide) rfl (fun ls hl => ?_)
                refine lv_iinc (v := nI (i + 1)) (lv' := [(5, .int (nI (i + 1))), (4, .int (nI (x - 1))), (6, .int (nI 1)), (2, .int (nI lo)), (0, .ref (a 0)), (1, .int (nI units))]) hx hb dX0_award_159 hl (k := 2) rfl (ip_inc i) (by decide) rfl (fun ls hl => ?_)
                refine lv_goto (tgt := 69) hx hb dX0_award_162 (by decide) ?_
                exact ih69 (i + 1) (x - 1) (ip_up Gv i ((Gv i) + ((La i) + 1))) (by omega) (by rw [ip_ab_ct]; split <;> omega) (ip_fl_step eG (by rw [ip_fl_at eG, ip_aw_iff]; (repeat' split) <;> omega)) (by omega) _ _ hP hD hS ls (lv_sub hl [0, 1, 3, 4, 5] rfl)
    exact lp69 _ 0 (units - (fb_sm (ip_mn La lo) n)) Ga (by omega) (rfl) (ip_fl_0 _ _) (Nat.lt_succ_self _) _ _ hP hD hS ls (lv_sub hl [0, 1, 2, 3, 4] rfl)
  have lp9 : ∀ (N9 : Nat) (lo : Nat) (hi : Nat) (k : Nat), (k ≤ 9) → (lo ≤ hi ∧ hi ≤ 150) → (fb_sm (ip_mn La lo) n ≤ units) → (hi = 150 ∨ units < fb_sm (ip_mn La (hi + 1)) n) → (hi - lo ≤ ip_hv 150 k) → 9 - k < N9 → ∀ (H : Heap) (locs : List Loc), va_P D ip_cl (pw a d Wa Ra Ua Ga La Ea n pt ov) H → va_D A (pw a d Wa Ra Ua Ga La Ea n pt ov) → va_S A s.heap H locs → ∀ (ls : Array Slot), lv_has ls 7 [(4, .int (nI k)), (3, .int (nI hi)), (2, .int (nI lo)), (0, .ref (a 0)), (1, .int (nI units))] → W p l e rmX0_award s m args below meth c H locs 0 0 Q (F0 m 9 ls []) := by
    intro N9
    induction N9 with
    | zero =>
      intro lo hi k _ _ _ _ _ hm
      exact absurd hm (Nat.not_lt_zero _)
    | succ N9 ih9 =>
      intro lo hi k hk hlh h1 h2 h3 hm9 H locs hP hD hS ls hl
      refine lv_iload hx hb dX0_award_9 (lv_at hl 0 rfl) ?_
      refine lv_bipush (v := nI 9) hx hb dX0_award_11 (by decide) ?_
      refine n_icmp_ge (tgt := 57) hx hb dX0_award_13 (by decide) (by omega) (by omega) (fun c_30 => ?_) (fun c_30 => ?_)
      · skip
        exact tl57 lo (ip_aw_end hk hlh h1 h2 h3 (by omega)) _ _ hP hD hS ls (lv_sub hl [2, 3, 4] rfl)
      · skip
        refine lv_iload_n hx hb dX0_award_16 rfl (lv_at hl 2 rfl) ?_
        refine lv_iload_n hx hb dX0_award_17 rfl (lv_at hl 1 rfl) ?_
        refine n_icmp_ge (tgt := 57) hx hb dX0_award_18 (by decide) (by omega) (by omega) (fun c_31 => ?_) (fun c_31 => ?_)
        · skip
          exact tl57 lo (ip_aw_end hk hlh h1 h2 h3 (by omega)) _ _ hP hD hS ls (lv_sub hl [2, 3, 4] rfl)
        · skip
          refine lv_iload_n hx hb dX0_award_21 rfl (lv_at hl 2 rfl) ?_
          refine lv_iload_n hx hb dX0_award_22 rfl (lv_at hl 1 rfl) ?_
          refine n_iadd hx hb dX0_award_23 ?_
          refine lv_iconst (v := nI 1) hx hb dX0_award_24 (by decide) ?_
          refine n_iadd hx hb dX0_award_25 ?_
          refine lv_iconst (v := nI 1) hx hb dX0_award_26 (by decide) ?_
          refine n_half hx hb dX0_award_27 (by omega) ?_
          refine lv_istore (lv' := [(5, .int (nI (((lo + hi) + 1) / 2))), (4, .int (nI k)), (3, .int (nI hi)), (2, .int (nI lo)), (0, .ref (a 0)), (1, .int (nI units))]) hx hb dX0_award_28 hl (by decide) rfl (fun ls hl => ?_)
          refine lv_aload_n hx hb dX0_award_30 rfl (lv_at hl 4 rfl) ?_
          refine lv_iload hx hb dX0_award_31 (lv_at hl 0 rfl) ?_
          refine ip_callV_i (own := RX0) (C := RX0) (x := a 0) [.int (nI (((lo + hi) + 1) / 2))] hx hb hml hown hts hA hK (kX0_awarded l D d a Wa Ra Ua Ga La Ea n pt ov hI (((lo + hi) + 1) / 2) (by omega) hL) (cwX0_awarded hts ⟨Nat.le_of_ble_eq_true rfl, Nat.le_of_ble_eq_true rfl⟩) ⟨0, _, _, rfl, rfl, rfl⟩ hP hD hS hl.1 rfl (Nat.le_of_ble_eq_true rfl) dX0_award_33 ⟨Nat.zero_le _, Nat.zero_le _⟩ (fun r_33 u_32 H locs hw_34 hP hD hS => ?_)
          subst hw_34
          have b_35 := ip_mn_bound hL hn (((lo + hi) + 1) / 2)
          refine lv_iload_n hx hb dX0_award_36 rfl (lv_at hl 5 rfl) ?_
          refine n_icmp_gt (tgt := 46) hx hb dX0_award_37 (by decide) (by omega) (by omega) (fun c_36 => ?_) (fun c_36 => ?_)
          · skip
            refine lv_iload hx hb dX0_award_46 (lv_at hl 0 rfl) ?_
            refine lv_iconst (v := nI 1) hx hb dX0_award_48 (by decide) ?_
            refine n_isub hx hb dX0_award_49 (by omega) ?_
            refine lv_istore_n (lv' := [(3, .int (nI ((((lo + hi) + 1) / 2) - 1))), (5, .int (nI (((lo + hi) + 1) / 2))), (4, .int (nI k)), (2, .int (nI lo)), (0, .ref (a 0)), (1, .int (nI units))]) hx hb dX0_award_50 rfl hl (by decide) rfl (fun ls hl => ?_)
            refine lv_iinc (v := nI (k + 1)) (lv' := [(4, .int (nI (k + 1))), (3, .int (nI ((((lo + hi) + 1) / 2) - 1))), (5, .int (nI (((lo + hi) + 1) / 2))), (2, .int (nI lo)), (0, .ref (a 0)), (1, .int (nI units))]) hx hb dX0_award_51 hl (k := 2) rfl (ip_inc k) (by decide) rfl (fun ls hl => ?_)
            refine lv_goto (tgt := 9) hx hb dX0_award_54 (by decide) ?_
            exact ih9 lo ((((lo + hi) + 1) / 2) - 1) (k + 1) (by omega) (by omega) (by omega) (by right; rw [show ((((lo + hi) + 1) / 2) - 1) + 1 = (((lo + hi) + 1) / 2) by omega]; omega) (by rw [ip_hv_succ]; omega) (by omega) _ _ hP hD hS ls (lv_sub hl [0, 1, 3, 4, 5] rfl)
          · skip
            refine lv_iload hx hb dX0_award_40 (lv_at hl 0 rfl) ?_
            refine lv_istore_n (lv' := [(2, .int (nI (((lo + hi) + 1) / 2))), (5, .int (nI (((lo + hi) + 1) / 2))), (4, .int (nI k)), (3, .int (nI hi)), (0, .ref (a 0)), (1, .int (nI units))]) hx hb dX0_award_42 rfl hl (by decide) rfl (fun ls hl => ?_)
            refine lv_goto (tgt := 51) hx hb dX0_award_43 (by decide) ?_
            refine lv_iinc (v := nI (k + 1)) (lv' := [(4, .int (nI (k + 1))), (2, .int (nI (((lo + hi) + 1) / 2))), (5, .int (nI (((lo + hi) + 1) / 2))), (3, .int (nI hi)), (0, .ref (a 0)), (1, .int (nI units))]) hx hb dX0_award_51 hl (k := 2) rfl (ip_inc k) (by decide) rfl (fun ls hl => ?_)
            refine lv_goto (tgt := 9) hx hb dX0_award_54 (by decide) ?_
            exact ih9 (((lo + hi) + 1) / 2) hi (k + 1) (by omega) (by omega) (by omega) (h2) (by rw [ip_hv_succ]; omega) (by omega) _ _ hP hD hS ls (lv_sub hl [0, 3, 1, 4, 5] rfl)
  refine lv_iconst (v := nI 0) hx hb dX0_award_0 (by decide) ?_
  refine lv_istore_n (lv' := [(2, .int (nI 0)), (0, .ref (a 0)), (1, .int (nI units))]) hx hb dX0_award_1 rfl hl (by decide) rfl (fun ls hl => ?_)
  refine lv_sipush (v := nI 150) hx hb dX0_award_2 (by decide) ?_
  refine lv_istore_n (lv' := [(3, .int (nI 150)), (2, .int (nI 0)), (0, .ref (a 0)), (1, .int (nI units))]) hx hb dX0_award_5 rfl hl (by decide) rfl (fun ls hl => ?_)
  refine lv_iconst (v := nI 0) hx hb dX0_award_6 (by decide) ?_
  refine lv_istore (lv' := [(4, .int (nI 0)), (3, .int (nI 150)), (2, .int (nI 0)), (0, .ref (a 0)), (1, .int (nI units))]) hx hb dX0_award_7 hl (by decide) rfl (fun ls hl => ?_)
  exact lp9 _ 0 150 0 (by omega) (by omega) (by rw [ip_mn_zero]; exact Nat.zero_le _) (Or.inl rfl) (by decide) (Nat.lt_succ_self _) _ _ hP hD hS ls (lv_sub hl [0, 1, 2, 3, 4] rfl)
set_option maxHeartbeats 4000000 in
set_option maxRecDepth 100000 in
theorem kX0_lose (l : Launch) (D : va_G) (d : ClassId) (a : Nat → Nat) (Wa Ra Ua Ga La Ea : Nat → Nat) (n pt ov : Nat) (hI : ip_AI (Wa, Ra, Ua, n, pt)) (units : Nat) (hu : units ≤ 2000) (hL : ∀ j, j < n → La j ≤ 150) : ip_Mv l yX0_lose (ws_ yX0_lose cX0_lose 7 none) rmX0_lose D d (pw a d Wa Ra Ua Ga La Ea n pt ov) [.ref (a 0), .int (nI units)] (S := Nat) (fun lo => ip_lol La n units lo) ((fun lo => (pw a d Wa Ra Ua (ip_fl (fun j => Ga j + ip_lo La lo (units - fb_sm (fun c => La c - lo) n) j) Ga n) La Ea n pt ov))) := by
  obtain ⟨hW, hR, hU, hn, hpt⟩ := id hI
  have hW : ∀ j, Wa j ≤ 150 := hW
  have hR : ∀ j, Ra j < 4 := hR
  have hU : ∀ j, Ua j < 4 := hU
  have hn : n ≤ 8 := hn
  have hpt : pt ≤ 1500 := hpt
  refine ip_ent_v (by decide) (Nat.le_of_ble_eq_true rfl) ?_
  intro p e s m args below meth c A Q hx hb hml hown hts hA hK hP hD hS hret ls hl
  have hown : s.vm.findClass RX0 = some m.cls := hown
  have hl : lv_has ls 7 [(0, .ref (a 0)), (1, .int (nI units))] := hl
  have tl55 : ∀ (lo : Nat), (ip_lol La n units lo) → ∀ (H : Heap) (locs : List Loc), va_P D ip_cl (pw a d Wa Ra Ua Ga La Ea n pt ov) H → va_D A (pw a d Wa Ra Ua Ga La Ea n pt ov) → va_S A s.heap H locs → ∀ (ls : Array Slot), lv_has ls 7 [(2, .int (nI lo)), (0, .ref (a 0)), (1, .int (nI units))] → W p l e rmX0_lose s m args below meth c H locs 0 0 Q (F0 m 55 ls []) := by
    intro lo hlo H locs hP hD hS ls hl
    have hlo1 := hlo.1
    have hlo2 := hlo.2.1
    refine lv_iload_n hx hb dX0_lose_55 rfl (lv_at hl 2 rfl) ?_
    refine lv_aload_n hx hb dX0_lose_56 rfl (lv_at hl 1 rfl) ?_
    refine lv_iload_n hx hb dX0_lose_57 rfl (lv_at hl 0 rfl) ?_
    refine ip_callV_i (own := RX0) (C := RX0) (x := a 0) [.int (nI lo)] hx hb hml hown hts hA hK (kX0_lost l D d a Wa Ra Ua Ga La Ea n pt ov hI lo (by omega) hL) (cwX0_lost hts ⟨Nat.le_of_ble_eq_true rfl, Nat.le_of_ble_eq_true rfl⟩) ⟨0, _, _, rfl, rfl, rfl⟩ hP hD hS hl.1 rfl (Nat.le_of_ble_eq_true rfl) dX0_lose_58 ⟨Nat.zero_le _, Nat.zero_le _⟩ (fun r_2 u_1 H locs hw_3 hP hD hS => ?_)
    subst hw_3
    have b_4 := ip_lt_bound hL hn lo
    refine n_isub hx hb dX0_lose_61 (by omega) ?_
    refine lv_istore (lv' := [(4, .int (nI (units - (fb_sm (fun c => La c - lo) n)))), (2, .int (nI lo)), (0, .ref (a 0)), (1, .int (nI units))]) hx hb dX0_lose_62 hl (by decide) rfl (fun ls hl => ?_)
    refine lv_iconst (v := nI 0) hx hb dX0_lose_64 (by decide) ?_
    refine lv_istore (lv' := [(5, .int (nI 0)), (4, .int (nI (units - (fb_sm (fun c => La c - lo) n)))), (2, .int (nI lo)), (0, .ref (a 0)), (1, .int (nI units))]) hx hb dX0_lose_65 hl (by decide) rfl (fun ls hl => ?_)
    have lp67 : ∀ (N67 : Nat) (i : Nat) (x : Nat) (Gv : Nat → Nat), (i ≤ n) → (x = (units - fb_sm (fun c => La c - lo) n) - fb_ct (ip_lq La lo) i) → (Gv = ip_fl (fun j => Ga j + ip_lo La lo (units - fb_sm (fun c => La c - lo) n) j) Ga i) → n - i < N67 → ∀ (H : Heap) (locs : List Loc), va_P D ip_cl (pw a d Wa Ra Ua Gv La Ea n pt ov) H → va_D A (pw a d Wa Ra Ua Gv La Ea n pt ov) → va_S A s.heap H locs → ∀ (ls : Array Slot), lv_has ls 7 [(5, .int (nI i)), (4, .int (nI x)), (2, .int (nI lo)), (0, .ref (a 0)), (1, .int (nI units))] → W p l e rmX0_lose s m args below meth c H locs 0 0 Q (F0 m 67 ls []) := by
      intro N67
      induction N67 with
      | zero =>
        intro i x Gv _ _ _ hm
        exact absurd hm (Nat.not_lt_zero _)
      | succ N67 ih67 =>
        intro i x Gv hi ex eG hm67 H locs hP hD hS ls hl
        refine lv_iload hx hb dX0_lose_67 (lv_at hl 0 rfl) ?_
        refine lv_aload_n hx hb dX0_lose_69 rfl (lv_at hl 3 rfl) ?_
        refine x0_get_n hx hb hts hown hK hP dX0_lose_70 ?_
        refine n_icmp_ge (tgt := 179) hx hb dX0_lose_73 (by decide) (by omega) (by omega) (fun c_5 => ?_) (fun c_5 => ?_)
        · skip
          rw [eG, show i = n by omega] at hP hD
          exact hret lo _ _ _ _ dX0_lose_179 (hlo) hP hD hS
        · skip
          refine lv_aload_n hx hb dX0_lose_76 rfl (lv_at hl 3 rfl) ?_
          refine x0_get_L hx hb hts hown hK hP dX0_lose_77 ?_
          refine lv_iload hx hb dX0_lose_80 (lv_at hl 0 rfl) ?_
          refine x0_ald_L hx hb hK hP (by omega) dX0_lose_82 ?_
          have b_6 := hL i (by omega)
          refine lv_iload_n hx hb dX0_lose_83 rfl (lv_at hl 2 rfl) ?_
          refine n_icmp_lt (tgt := 110) hx hb dX0_lose_84 (by decide) (by omega) (by omega) (fun c_7 => ?_) (fun c_7 => ?_)
          · skip
            refine lv_iconst (v := nI 0) hx hb dX0_lose_110 (by decide) ?_
            refine lv_istore (lv' := [(6, .int (nI 0)), (5, .int (nI i)), (4, .int (nI x)), (2, .int (nI lo)), (0, .ref (a 0)), (1, .int (nI units))]) hx hb dX0_lose_111 hl (by decide) rfl (fun ls hl => ?_)
            refine lv_aload_n hx hb dX0_lose_113 rfl (lv_at hl 4 rfl) ?_
            refine x0_get_G hx hb hts hown hK hP dX0_lose_114 ?_
            refine lv_iload hx hb dX0_lose_117 (lv_at hl 1 rfl) ?_
            refine lv_dup2_11 hx hb dX0_lose_119 rfl rfl ?_
            refine x0_ald_G hx hb hK hP (by omega) dX0_lose_120 ?_
            refine lv_aload_n hx hb dX0_lose_121 rfl (lv_at hl 4 rfl) ?_
            refine x0_get_L hx hb hts hown hK hP dX0_lose_122 ?_
            refine lv_iload hx hb dX0_lose_125 (lv_at hl 1 rfl) ?_
            refine x0_ald_L hx hb hK hP (by omega) dX0_lose_127 ?_
            have b_8 := hL i (by omega)
            refine lv_iload_n hx hb dX0_lose_128 rfl (lv_at hl 3 rfl) ?_
            refine n_icmp_le (tgt := 144) hx hb dX0_lose_129 (by decide) (by omega) (by omega) (fun c_9 => ?_) (fun c_9 => ?_)
            · skip
              refine lv_iconst (v := nI 0) hx hb dX0_lose_144 (by decide) ?_
              refine lv_iload hx hb dX0_lose_145 (lv_at hl 0 rfl) ?_
              refine n_if_eq (tgt := 154) hx hb dX0_lose_147 (by decide) (by omega) (fun _ => ?_) (fun h => absurd h (by omega))
              refine lv_iconst (v := nI 0) hx hb dX0_lose_154 (by decide) ?_
              refine n_iadd hx hb dX0_lose_155 ?_
              refine n_iadd hx hb dX0_lose_156 ?_
              refine x0_ast_G hx hb hK hP hD hS (by omega) dX0_lose_157 (fun H locs hP hD hS => ?_)
              refine lv_iload hx hb dX0_lose_158 (lv_at hl 2 rfl) ?_
              refine lv_iload hx hb dX0_lose_160 (lv_at hl 0 rfl) ?_
              refine n_if_eq (tgt := 169) hx hb dX0_lose_162 (by decide) (by omega) (fun _ => ?_) (fun h => absurd h (by omega))
              refine lv_iconst (v := nI 0) hx hb dX0_lose_169 (by decide) ?_
              refine n_isub hx hb dX0_lose_170 (by omega) ?_
              refine lv_istore (lv' := [(4, .int (nI (x - 0))), (6, .int (nI 0)), (5, .int (nI i)), (2, .int (nI lo)), (0, .ref (a 0)), (1, .int (nI units))]) hx hb dX0_lose_171 hl (by decide) rfl (fun ls hl => ?_)
              refine lv_iinc (v := nI (i + 1)) (lv' := [(5, .int (nI (i + 1))), (4, .int (nI (x - 0))), (6, .int (nI 0)), (2, .int (nI lo)), (0, .ref (a 0)), (1, .int (nI units))]) hx hb dX0_lose_173 hl (k := 2) rfl (ip_inc i) (by decide) rfl (fun ls hl => ?_)
              refine lv_goto (tgt := 67) hx hb dX0_lose_176 (by decide) ?_
              exact ih67 (i + 1) (x - 0) (ip_up Gv i ((Gv i) + (0 + 0))) (by omega) (by rw [ip_lq_ct]; split <;> omega) (ip_fl_step eG (by rw [ip_fl_at eG, ip_lo_iff]; (repeat' split) <;> omega)) (by omega) _ _ hP hD hS ls (lv_sub hl [0, 1, 3, 4, 5] rfl)
            · skip
              refine lv_aload_n hx hb dX0_lose_132 rfl (lv_at hl 4 rfl) ?_
              refine x0_get_L hx hb hts hown hK hP dX0_lose_133 ?_
              refine lv_iload hx hb dX0_lose_136 (lv_at hl 1 rfl) ?_
              refine x0_ald_L hx hb hK hP (by omega) dX0_lose_138 ?_
              have b_12 := hL i (by omega)
              refine lv_iload_n hx hb dX0_lose_139 rfl (lv_at hl 3 rfl) ?_
              refine n_isub hx hb dX0_lose_140 (by omega) ?_
              refine lv_goto (tgt := 145) hx hb dX0_lose_141 (by decide) ?_
              refine lv_iload hx hb dX0_lose_145 (lv_at hl 0 rfl) ?_
              refine n_if_eq (tgt := 154) hx hb dX0_lose_147 (by decide) (by omega) (fun _ => ?_) (fun h => absurd h (by omega))
              refine lv_iconst (v := nI 0) hx hb dX0_lose_154 (by decide) ?_
              refine n_iadd hx hb dX0_lose_155 ?_
              refine n_iadd hx hb dX0_lose_156 ?_
              refine x0_ast_G hx hb hK hP hD hS (by omega) dX0_lose_157 (fun H locs hP hD hS => ?_)
              refine lv_iload hx hb dX0_lose_158 (lv_at hl 2 rfl) ?_
              refine lv_iload hx hb dX0_lose_160 (lv_at hl 0 rfl) ?_
              refine n_if_eq (tgt := 169) hx hb dX0_lose_162 (by decide) (by omega) (fun _ => ?_) (fun h => absurd h (by omega))
              refine lv_iconst (v := nI 0) hx hb dX0_lose_169 (by decide) ?_
              refine n_isub hx hb dX0_lose_170 (by omega) ?_
              refine lv_istore (lv' := [(4, .int (nI (x - 0))), (6, .int (nI 0)), (5, .int (nI i)), (2, .int (nI lo)), (0, .ref (a 0)), (1, .int (nI units))]) hx hb dX0_lose_171 hl (by decide) rfl (fun ls hl => ?_)
              refine lv_iinc (v := nI (i + 1)) (lv' := [(5, .int (nI (i + 1))), (4, .int (nI (x - 0))), (6, .int (nI 0)), (2, .int (nI lo)), (0, .ref (a 0)), (1, .int (nI units))]) hx hb dX0_lose_173 hl (k := 2) rfl (ip_inc i) (by decide) rfl (fun ls hl => ?_)
              refine lv_goto (tgt := 67) hx hb dX0_lose_176 (by decide) ?_
              exact ih67 (i + 1) (x - 0) (ip_up Gv i ((Gv i) + (((La i) - lo) + 0))) (by omega) (by rw [ip_lq_ct]; split <;> omega) (ip_fl_step eG (by rw [ip_fl_at eG, ip_lo_iff]; (repeat' split) <;> omega)) (by omega) _ _ hP hD hS ls (lv_sub hl [0, 1, 3, 4, 5] rfl)
          · skip
            refine lv_aload_n hx hb dX0_lose_87 rfl (lv_at hl 3 rfl) ?_
            refine x0_get_L hx hb hts hown hK hP dX0_lose_88 ?_
            refine lv_iload hx hb dX0_lose_91 (lv_at hl 0 rfl) ?_
            refine x0_ald_L hx hb hK hP (by omega) dX0_lose_93 ?_
            have b_15 := hL i (by omega)
            refine n_if_le (tgt := 110) hx hb dX0_lose_94 (by decide) (by omega) (fun c_16 => ?_) (fun c_16 => ?_)
            · skip
              refine lv_iconst (v := nI 0) hx hb dX0_lose_110 (by decide) ?_
              refine lv_istore (lv' := [(6, .int (nI 0)), (5, .int (nI i)), (4, .int (nI x)), (2, .int (nI lo)), (0, .ref (a 0)), (1, .int (nI units))]) hx hb dX0_lose_111 hl (by decide) rfl (fun ls hl => ?_)
              refine lv_aload_n hx hb dX0_lose_113 rfl (lv_at hl 4 rfl) ?_
              refine x0_get_G hx hb hts hown hK hP dX0_lose_114 ?_
              refine lv_iload hx hb dX0_lose_117 (lv_at hl 1 rfl) ?_
              refine lv_dup2_11 hx hb dX0_lose_119 rfl rfl ?_
              refine x0_ald_G hx hb hK hP (by omega) dX0_lose_120 ?_
              refine lv_aload_n hx hb dX0_lose_121 rfl (lv_at hl 4 rfl) ?_
              refine x0_get_L hx hb hts hown hK hP dX0_lose_122 ?_
              refine lv_iload hx hb dX0_lose_125 (lv_at hl 1 rfl) ?_
              refine x0_ald_L hx hb hK hP (by omega) dX0_lose_127 ?_
              have b_17 := hL i (by omega)
              refine lv_iload_n hx hb dX0_lose_128 rfl (lv_at hl 3 rfl) ?_
              refine n_icmp_le (tgt := 144) hx hb dX0_lose_129 (by decide) (by omega) (by omega) (fun c_18 => ?_) (fun c_18 => ?_)
              · skip
                refine lv_iconst (v := nI 0) hx hb dX0_lose_144 (by decide) ?_
                refine lv_iload hx hb dX0_lose_145 (lv_at hl 0 rfl) ?_
                refine n_if_eq (tgt := 154) hx hb dX0_lose_147 (by decide) (by omega) (fun _ => ?_) (fun h => absurd h (by omega))
                refine lv_iconst (v := nI 0) hx hb dX0_lose_154 (by decide) ?_
                refine n_iadd hx hb dX0_lose_155 ?_
                refine n_iadd hx hb dX0_lose_156 ?_
                refine x0_ast_G hx hb hK hP hD hS (by omega) dX0_lose_157 (fun H locs hP hD hS => ?_)
                refine lv_iload hx hb dX0_lose_158 (lv_at hl 2 rfl) ?_
                refine lv_iload hx hb dX0_lose_160 (lv_at hl 0 rfl) ?_
                refine n_if_eq (tgt := 169) hx hb dX0_lose_162 (by decide) (by omega) (fun _ => ?_) (fun h => absurd h (by omega))
                refine lv_iconst (v := nI 0) hx hb dX0_lose_169 (by decide) ?_
                refine n_isub hx hb dX0_lose_170 (by omega) ?_
                refine lv_istore (lv' := [(4, .int (nI (x - 0))), (6, .int (nI 0)), (5, .int (nI i)), (2, .int (nI lo)), (0, .ref (a 0)), (1, .int (nI units))]) hx hb dX0_lose_171 hl (by decide) rfl (fun ls hl => ?_)
                refine lv_iinc (v := nI (i + 1)) (lv' := [(5, .int (nI (i + 1))), (4, .int (nI (x - 0))), (6, .int (nI 0)), (2, .int (nI lo)), (0, .ref (a 0)), (1, .int (nI units))]) hx hb dX0_lose_173 hl (k := 2) rfl (ip_inc i) (by decide) rfl (fun ls hl => ?_)
                refine lv_goto (tgt := 67) hx hb dX0_lose_176 (by decide) ?_
                exact ih67 (i + 1) (x - 0) (ip_up Gv i ((Gv i) + (0 + 0))) (by omega) (by rw [ip_lq_ct]; split <;> omega) (ip_fl_step eG (by rw [ip_fl_at eG, ip_lo_iff]; (repeat' split) <;> omega)) (by omega) _ _ hP hD hS ls (lv_sub hl [0, 1, 3, 4, 5] rfl)
              · skip
                refine lv_aload_n hx hb dX0_lose_132 rfl (lv_at hl 4 rfl) ?_
                refine x0_get_L hx hb hts hown hK hP dX0_lose_133 ?_
                refine lv_iload hx hb dX0_lose_136 (lv_at hl 1 rfl) ?_
                refine x0_ald_L hx hb hK hP (by omega) dX0_lose_138 ?_
                have b_21 := hL i (by omega)
                refine lv_iload_n hx hb dX0_lose_139 rfl (lv_at hl 3 rfl) ?_
                refine n_isub hx hb dX0_lose_140 (by omega) ?_
                refine lv_goto (tgt := 145) hx hb dX0_lose_141 (by decide) ?_
                refine lv_iload hx hb dX0_lose_145 (lv_at hl 0 rfl) ?_
                refine n_if_eq (tgt := 154) hx hb dX0_lose_147 (by decide) (by omega) (fun _ => ?_) (fun h => absurd h (by omega))
                refine lv_iconst (v := nI 0) hx hb dX0_lose_154 (by decide) ?_
                refine n_iadd hx hb dX0_lose_155 ?_
                refine n_iadd hx hb dX0_lose_156 ?_
                refine x0_ast_G hx hb hK hP hD hS (by omega) dX0_lose_157 (fun H locs hP hD hS => ?_)
                refine lv_iload hx hb dX0_lose_158 (lv_at hl 2 rfl) ?_
                refine lv_iload hx hb dX0_lose_160 (lv_at hl 0 rfl) ?_
                refine n_if_eq (tgt := 169) hx hb dX0_lose_162 (by decide) (by omega) (fun _ => ?_) (fun h => absurd h (by omega))
                refine lv_iconst (v := nI 0) hx hb dX0_lose_169 (by decide) ?_
                refine n_isub hx hb dX0_lose_170 (by omega) ?_
                refine lv_istore (lv' := [(4, .int (nI (x - 0))), (6, .int (nI 0)), (5, .int (nI i)), (2, .int (nI lo)), (0, .ref (a 0)), (1, .int (nI units))]) hx hb dX0_lose_171 hl (by decide) rfl (fun ls hl => ?_)
                refine lv_iinc (v := nI (i + 1)) (lv' := [(5, .int (nI (i + 1))), (4, .int (nI (x - 0))), (6, .int (nI 0)), (2, .int (nI lo)), (0, .ref (a 0)), (1, .int (nI units))]) hx hb dX0_lose_173 hl (k := 2) rfl (ip_inc i) (by decide) rfl (fun ls hl => ?_)
                refine lv_goto (tgt := 67) hx hb dX0_lose_176 (by decide) ?_
                exact ih67 (i + 1) (x - 0) (ip_up Gv i ((Gv i) + (((La i) - lo) + 0))) (by omega) (by rw [ip_lq_ct]; split <;> omega) (ip_fl_step eG (by rw [ip_fl_at eG, ip_lo_iff]; (repeat' split) <;> omega)) (by omega) _ _ hP hD hS ls (lv_sub hl [0, 1, 3, 4, 5] rfl)
            · skip
              refine lv_iload_n hx hb dX0_lose_97 rfl (lv_at hl 2 rfl) ?_
              refine n_if_le (tgt := 110) hx hb dX0_lose_98 (by decide) (by omega) (fun c_24 => ?_) (fun c_24 => ?_)
              · skip
                refine lv_iconst (v := nI 0) hx hb dX0_lose_110 (by decide) ?_
                refine lv_istore (lv' := [(6, .int (nI 0)), (5, .int (nI i)), (4, .int (nI x)), (2, .int (nI lo)), (0, .ref (a 0)), (1, .int (nI units))]) hx hb dX0_lose_111 hl (by decide) rfl (fun ls hl => ?_)
                refine lv_aload_n hx hb dX0_lose_113 rfl (lv_at hl 4 rfl) ?_
                refine x0_get_G hx hb hts hown hK hP dX0_lose_114 ?_
                refine lv_iload hx hb dX0_lose_117 (lv_at hl 1 rfl) ?_
                refine lv_dup2_11 hx hb dX0_lose_119 rfl rfl ?_
                refine x0_ald_G hx hb hK hP (by omega) dX0_lose_120 ?_
                refine lv_aload_n hx hb dX0_lose_121 rfl (lv_at hl 4 rfl) ?_
                refine x0_get_L hx hb hts hown hK hP dX0_lose_122 ?_
                refine lv_iload hx hb dX0_lose_125 (lv_at hl 1 rfl) ?_
                refine x0_ald_L hx hb hK hP (by omega) dX0_lose_127 ?_
                have b_25 := hL i (by omega)
                refine lv_iload_n hx hb dX0_lose_128 rfl (lv_at hl 3 rfl) ?_
                refine n_icmp_le (tgt := 144) hx hb dX0_lose_129 (by decide) (by omega) (by omega) (fun c_26 => ?_) (fun c_26 => ?_)
                · skip
                  refine lv_iconst (v := nI 0) hx hb dX0_lose_144 (by decide) ?_
                  refine lv_iload hx hb dX0_lose_145 (lv_at hl 0 rfl) ?_
                  refine n_if_eq (tgt := 154) hx hb dX0_lose_147 (by decide) (by omega) (fun _ => ?_) (fun h => absurd h (by omega))
                  refine lv_iconst (v := nI 0) hx hb dX0_lose_154 (by decide) ?_
                  refine n_iadd hx hb dX0_lose_155 ?_
                  refine n_iadd hx hb dX0_lose_156 ?_
                  refine x0_ast_G hx hb hK hP hD hS (by omega) dX0_lose_157 (fun H locs hP hD hS => ?_)
                  refine lv_iload hx hb dX0_lose_158 (lv_at hl 2 rfl) ?_
                  refine lv_iload hx hb dX0_lose_160 (lv_at hl 0 rfl) ?_
                  refine n_if_eq (tgt := 169) hx hb dX0_lose_162 (by decide) (by omega) (fun _ => ?_) (fun h => absurd h (by omega))
                  refine lv_iconst (v := nI 0) hx hb dX0_lose_169 (by decide) ?_
                  refine n_isub hx hb dX0_lose_170 (by omega) ?_
                  refine lv_istore (lv' := [(4, .int (nI (x - 0))), (6, .int (nI 0)), (5, .int (nI i)), (2, .int (nI lo)), (0, .ref (a 0)), (1, .int (nI units))]) hx hb dX0_lose_171 hl (by decide) rfl (fun ls hl => ?_)
                  refine lv_iinc (v := nI (i + 1)) (lv' := [(5, .int (nI (i + 1))), (4, .int (nI (x - 0))), (6, .int (nI 0)), (2, .int (nI lo)), (0, .ref (a 0)), (1, .int (nI units))]) hx hb dX0_lose_173 hl (k := 2) rfl (ip_inc i) (by decide) rfl (fun ls hl => ?_)
                  refine lv_goto (tgt := 67) hx hb dX0_lose_176 (by decide) ?_
                  exact ih67 (i + 1) (x - 0) (ip_up Gv i ((Gv i) + (0 + 0))) (by omega) (by rw [ip_lq_ct]; split <;> omega) (ip_fl_step eG (by rw [ip_fl_at eG, ip_lo_iff]; (repeat' split) <;> omega)) (by omega) _ _ hP hD hS ls (lv_sub hl [0, 1, 3, 4, 5] rfl)
                · skip
                  refine lv_aload_n hx hb dX0_lose_132 rfl (lv_at hl 4 rfl) ?_
                  refine x0_get_L hx hb hts hown hK hP dX0_lose_133 ?_
                  refine lv_iload hx hb dX0_lose_136 (lv_at hl 1 rfl) ?_
                  refine x0_ald_L hx hb hK hP (by omega) dX0_lose_138 ?_
                  have b_29 := hL i (by omega)
                  refine lv_iload_n hx hb dX0_lose_139 rfl (lv_at hl 3 rfl) ?_
                  refine n_isub hx hb dX0_lose_140 (by omega) ?_
                  refine lv_goto (tgt := 145) hx hb dX0_lose_141 (by decide) ?_
                  refine lv_iload hx hb dX0_lose_145 (lv_at hl 0 rfl) ?_
                  refine n_if_eq (tgt := 154) hx hb dX0_lose_147 (by decide) (by omega) (fun _ => ?_) (fun h => absurd h (by omega))
                  refine lv_iconst (v := nI 0) hx hb dX0_lose_154 (by decide) ?_
                  refine n_iadd hx hb dX0_lose_155 ?_
                  refine n_iadd hx hb dX0_lose_156 ?_
                  refine x0_ast_G hx hb hK hP hD hS (by omega) dX0_lose_157 (fun H locs hP hD hS => ?_)
                  refine lv_iload hx hb dX0_lose_158 (lv_at hl 2 rfl) ?_
                  refine lv_iload hx hb dX0_lose_160 (lv_at hl 0 rfl) ?_
                  refine n_if_eq (tgt := 169) hx hb dX0_lose_162 (by decide) (by omega) (fun _ => ?_) (fun h => absurd h (by omega))
                  refine lv_iconst (v := nI 0) hx hb dX0_lose_169 (by decide) ?_
                  refine n_isub hx hb dX0_lose_170 (by omega) ?_
                  refine lv_istore (lv' := [(4, .int (nI (x - 0))), (6, .int (nI 0)), (5, .int (nI i)), (2, .int (nI lo)), (0, .ref (a 0)), (1, .int (nI units))]) hx hb dX0_lose_171 hl (by decide) rfl (fun ls hl => ?_)
                  refine lv_iinc (v := nI (i + 1)) (lv' := [(5, .int (nI (i + 1))), (4, .int (nI (x - 0))), (6, .int (nI 0)), (2, .int (nI lo)), (0, .ref (a 0)), (1, .int (nI units))]) hx hb dX0_lose_173 hl (k := 2) rfl (ip_inc i) (by decide) rfl (fun ls hl => ?_)
                  refine lv_goto (tgt := 67) hx hb dX0_lose_176 (by decide) ?_
                  exact ih67 (i + 1) (x - 0) (ip_up Gv i ((Gv i) + (((La i) - lo) + 0))) (by omega) (by rw [ip_lq_ct]; split <;> omega) (ip_fl_step eG (by rw [ip_fl_at eG, ip_lo_iff]; (repeat' split) <;> omega)) (by omega) _ _ hP hD hS ls (lv_sub hl [0, 1, 3, 4, 5] rfl)
              · skip
                refine lv_iload hx hb dX0_lose_101 (lv_at hl 1 rfl) ?_
                refine n_if_le (tgt := 110) hx hb dX0_lose_103 (by decide) (by omega) (fun c_32 => ?_) (fun c_32 => ?_)
                · skip
                  refine lv_iconst (v := nI 0) hx hb dX0_lose_110 (by decide) ?_
                  refine lv_istore (lv' := [(6, .int (nI 0)), (5, .int (nI i)), (4, .int (nI x)), (2, .int (nI lo)), (0, .ref (a 0)), (1, .int (nI units))]) hx hb dX0_lose_111 hl (by decide) rfl (fun ls hl => ?_)
                  refine lv_aload_n hx hb dX0_lose_113 rfl (lv_at hl 4 rfl) ?_
                  refine x0_get_G hx hb hts hown hK hP dX0_lose_114 ?_
                  refine lv_iload hx hb dX0_lose_117 (lv_at hl 1 rfl) ?_
                  refine lv_dup2_11 hx hb dX0_lose_119 rfl rfl ?_
                  refine x0_ald_G hx hb hK hP (by omega) dX0_lose_120 ?_
                  refine lv_aload_n hx hb dX0_lose_121 rfl (lv_at hl 4 rfl) ?_
                  refine x0_get_L hx hb hts hown hK hP dX0_lose_122 ?_
                  refine lv_iload hx hb dX0_lose_125 (lv_at hl 1 rfl) ?_
                  refine x0_ald_L hx hb hK hP (by omega) dX0_lose_127 ?_
                  have b_33 := hL i (by omega)
                  refine lv_iload_n hx hb dX0_lose_128 rfl (lv_at hl 3 rfl) ?_
                  refine n_icmp_le (tgt := 144) hx hb dX0_lose_129 (by decide) (by omega) (by omega) (fun c_34 => ?_) (fun c_34 => ?_)
                  · skip
                    refine lv_iconst (v := nI 0) hx hb dX0_lose_144 (by decide) ?_
                    refine lv_iload hx hb dX0_lose_145 (lv_at hl 0 rfl) ?_
                    refine n_if_eq (tgt := 154) hx hb dX0_lose_147 (by decide) (by omega) (fun _ => ?_) (fun h => absurd h (by omega))
                    refine lv_iconst (v := nI 0) hx hb dX0_lose_154 (by decide) ?_
                    refine n_iadd hx hb dX0_lose_155 ?_
                    refine n_iadd hx hb dX0_lose_156 ?_
                    refine x0_ast_G hx hb hK hP hD hS (by omega) dX0_lose_157 (fun H locs hP hD hS => ?_)
                    refine lv_iload hx hb dX0_lose_158 (lv_at hl 2 rfl) ?_
                    refine lv_iload hx hb dX0_lose_160 (lv_at hl 0 rfl) ?_
                    refine n_if_eq (tgt := 169) hx hb dX0_lose_162 (by decide) (by omega) (fun _ => ?_) (fun h => absurd h (by omega))
                    refine lv_iconst (v := nI 0) hx hb dX0_lose_169 (by decide) ?_
                    refine n_isub hx hb dX0_lose_170 (by omega) ?_
                    refine lv_istore (lv' := [(4, .int (nI (x - 0))), (6, .int (nI 0)), (5, .int (nI i)), (2, .int (nI lo)), (0, .ref (a 0)), (1, .int (nI units))]) hx hb dX0_lose_171 hl (by decide) rfl (fun ls hl => ?_)
                    refine lv_iinc (v := nI (i + 1)) (lv' := [(5, .int (nI (i + 1))), (4, .int (nI (x - 0))), (6, .int (nI 0)), (2, .int (nI lo)), (0, .ref (a 0)), (1, .int (nI units))]) hx hb dX0_lose_173 hl (k := 2) rfl (ip_inc i) (by decide) rfl (fun ls hl => ?_)
                    refine lv_goto (tgt := 67) hx hb dX0_lose_176 (by decide) ?_
                    exact ih67 (i + 1) (x - 0) (ip_up Gv i ((Gv i) + (0 + 0))) (by omega) (by rw [ip_lq_ct]; split <;> omega) (ip_fl_step eG (by rw [ip_fl_at eG, ip_lo_iff]; (repeat' split) <;> omega)) (by omega) _ _ hP hD hS ls (lv_sub hl [0, 1, 3, 4, 5] rfl)
                  · skip
                    refine lv_aload_n hx hb dX0_lose_132 rfl (lv_at hl 4 rfl) ?_
                    refine x0_get_L hx hb hts hown hK hP dX0_lose_133 ?_
                    refine lv_iload hx hb dX0_lose_136 (lv_at hl 1 rfl) ?_
                    refine x0_ald_L hx hb hK hP (by omega) dX0_lose_138 ?_
                    have b_37 := hL i (by omega)
                    refine lv_iload_n hx hb dX0_lose_139 rfl (lv_at hl 3 rfl) ?_
                    refine n_isub hx hb dX0_lose_140 (by omega) ?_
                    refine lv_goto (tgt := 145) hx hb dX0_lose_141 (by decide) ?_
                    refine lv_iload hx hb dX0_lose_145 (lv_at hl 0 rfl) ?_
                    refine n_if_eq (tgt := 154) hx hb dX0_lose_147 (by decide) (by omega) (fun _ => ?_) (fun h => absurd h (by omega))
                    refine lv_iconst (v := nI 0) hx hb dX0_lose_154 (by decide) ?_
                    refine n_iadd hx hb dX0_lose_155 ?_
                    refine n_iadd hx hb dX0_lose_156 ?_
                    refine x0_ast_G hx hb hK hP hD hS (by omega) dX0_lose_157 (fun H locs hP hD hS => ?_)
                    refine lv_iload hx hb dX0_lose_158 (lv_at hl 2 rfl) ?_
                    refine lv_iload hx hb dX0_lose_160 (lv_at hl 0 rfl) ?_
                    refine n_if_eq (tgt := 169) hx hb dX0_lose_162 (by decide) (by omega) (fun _ => ?_) (fun h => absurd h (by omega))
                    refine lv_iconst (v := nI 0) hx hb dX0_lose_169 (by decide) ?_
                    refine n_isub hx hb dX0_lose_170 (by omega) ?_
                    refine lv_istore (lv' := [(4, .int (nI (x - 0))), (6, .int (nI 0)), (5, .int (nI i)), (2, .int (nI lo)), (0, .ref (a 0)), (1, .int (nI units))]) hx hb dX0_lose_171 hl (by decide) rfl (fun ls hl => ?_)
                    refine lv_iinc (v := nI (i + 1)) (lv' := [(5, .int (nI (i + 1))), (4, .int (nI (x - 0))), (6, .int (nI 0)), (2, .int (nI lo)), (0, .ref (a 0)), (1, .int (nI units))]) hx hb dX0_lose_173 hl (k := 2) rfl (ip_inc i) (by decide) rfl (fun ls hl => ?_)
                    refine lv_goto (tgt := 67) hx hb dX0_lose_176 (by decide) ?_
                    exact ih67 (i + 1) (x - 0) (ip_up Gv i ((Gv i) + (((La i) - lo) + 0))) (by omega) (by rw [ip_lq_ct]; split <;> omega) (ip_fl_step eG (by rw [ip_fl_at eG, ip_lo_iff]; (repeat' split) <;> omega)) (by omega) _ _ hP hD hS ls (lv_sub hl [0, 1, 3, 4, 5] rfl)
                · skip
                  refine lv_iconst (v := nI 1) hx hb dX0_lose_106 (by decide) ?_
                  refine lv_goto (tgt := 111) hx hb dX0_lose_107 (by decide) ?_
                  refine lv_istore (lv' := [(6, .int (nI 1)), (5, .int (nI i)), (4, .int (nI x)), (2, .int (nI lo)), (0, .ref (a 0)), (1, .int (nI units))]) hx hb dX0_lose_111 hl (by decide) rfl (fun ls hl => ?_)
                  refine lv_aload_n hx hb dX0_lose_113 rfl (lv_at hl 4 rfl) ?_
                  refine x0_get_G hx hb hts hown hK hP dX0_lose_114 ?_
                  refine lv_iload hx hb dX0_lose_117 (lv_at hl 1 rfl) ?_
                  refine lv_dup2_11 hx hb dX0_lose_119 rfl rfl ?_
                  refine x0_ald_G hx hb hK hP (by omega) dX0_lose_120 ?_
                  refine lv_aload_n hx hb dX0_lose_121 rfl (lv_at hl 4 rfl) ?_
                  refine x0_get_L hx hb hts hown hK hP dX0_lose_122 ?_
                  refine lv_iload hx hb dX0_lose_125 (lv_at hl 1 rfl) ?_
                  refine x0_ald_L hx hb hK hP (by omega) dX0_lose_127 ?_
                  have b_40 := hL i (by omega)
                  refine lv_iload_n hx hb dX0_lose_128 rfl (lv_at hl 3 rfl) ?_
                  refine n_icmp_le (tgt := 144) hx hb dX0_lose_129 (by decide) (by omega) (by omega) (fun c_41 => ?_) (fun c_41 => ?_)
                  · skip
                    refine lv_iconst (v := nI 0) hx hb dX0_lose_144 (by decide) ?_
                    refine lv_iload hx hb dX0_lose_145 (lv_at hl 0 rfl) ?_
                    refine n_if_eq (tgt := 154) hx hb dX0_lose_147 (by decide) (by omega) (fun h => absurd h (by omega)) (fun _ => ?_)
                    refine lv_iconst (v := nI 1) hx hb dX0_lose_150 (by decide) ?_
                    refine lv_goto (tgt := 155) hx hb dX0_lose_151 (by decide) ?_
                    refine n_iadd hx hb dX0_lose_155 ?_
                    refine n_iadd hx hb dX0_lose_156 ?_
                    refine x0_ast_G hx hb hK hP hD hS (by omega) dX0_lose_157 (fun H locs hP hD hS => ?_)
                    refine lv_iload hx hb dX0_lose_158 (lv_at hl 2 rfl) ?_
                    refine lv_iload hx hb dX0_lose_160 (lv_at hl 0 rfl) ?_
                    refine n_if_eq (tgt := 169) hx hb dX0_lose_162 (by decide) (by omega) (fun h => absurd h (by omega)) (fun _ => ?_)
                    refine lv_iconst (v := nI 1) hx hb dX0_lose_165 (by decide) ?_
                    refine lv_goto (tgt := 170) hx hb dX0_lose_166 (by decide) ?_
                    refine n_isub hx hb dX0_lose_170 (by omega) ?_
                    refine lv_istore (lv' := [(4, .int (nI (x - 1))), (6, .int (nI 1)), (5, .int (nI i)), (2, .int (nI lo)), (0, .ref (a 0)), (1, .int (nI units))]) hx hb dX0_lose_171 hl (by decide) rfl (fun ls hl => ?_)
                    refine lv_iinc (v := nI (i + 1)) (lv' := [(5, .int (nI (i + 1))), (4, .int (nI (x - 1))), (6, .int (nI 1)), (2, .int (nI lo)), (0, .ref (a 0)), (1, .int (nI units))]) hx hb dX0_lose_173 hl (k := 2) rfl (ip_inc i) (by decide) rfl (fun ls hl => ?_)
                    refine lv_goto (tgt := 67) hx hb dX0_lose_176 (by decide) ?_
                    exact ih67 (i + 1) (x - 1) (ip_up Gv i ((Gv i) + (0 + 1))) (by omega) (by rw [ip_lq_ct]; split <;> omega) (ip_fl_step eG (by rw [ip_fl_at eG, ip_lo_iff]; (repeat' split) <;> omega)) (by omega) _ _ hP hD hS ls (lv_sub hl [0, 1, 3, 4, 5] rfl)
                  · skip
                    refine lv_aload_n hx hb dX0_lose_132 rfl (lv_at hl 4 rfl) ?_
                    refine x0_get_L hx hb hts hown hK hP dX0_lose_133 ?_
                    refine lv_iload hx hb dX0_lose_136 (lv_at hl 1 rfl) ?_
                    refine x0_ald_L hx hb hK hP (by omega) dX0_lose_138 ?_
                    have b_44 := hL i (by omega)
                    refine lv_iload_n hx hb dX0_lose_139 rfl (lv_at hl 3 rfl) ?_
                    refine n_isub hx hb dX0_lose_140 (by omega) ?_
                    refine lv_goto (tgt := 145) hx hb dX0_lose_141 (by decide) ?_
                    refine lv_iload hx hb dX0_lose_145 (lv_at hl 0 rfl) ?_
                    refine n_if_eq (tgt := 154) hx hb dX0_lose_147 (by decide) (by omega) (fun h => absurd h (by omega)) (fun _ => ?_)
                    refine lv_iconst (v := nI 1) hx hb dX0_lose_150 (by decide) ?_
                    refine lv_goto (tgt := 155) hx hb dX0_lose_151 (by decide) ?_
                    refine n_iadd hx hb dX0_lose_155 ?_
                    refine n_iadd hx hb dX0_lose_156 ?_
                    refine x0_ast_G hx hb hK hP hD hS (by omega) dX0_lose_157 (fun H locs hP hD hS => ?_)
                    refine lv_iload hx hb dX0_lose_158 (lv_at hl 2 rfl) ?_
                    refine lv_iload hx hb dX0_lose_160 (lv_at hl 0 rfl) ?_
                    refine n_if_eq (tgt := 169) hx hb dX0_lose_162 (by decide) (by omega) (fun h => absurd h (by omega)) (fun _ => ?_)
                    refine lv_iconst (v := nI 1) hx hb dX0_lose_165 (by decide) ?_
                    refine lv_goto (tgt := 170) hx hb dX0_lose_166 (by decide) ?_
                    refine n_isub hx hb dX0_lose_170 (by omega) ?_
                    refine lv_istore (lv' := [(4, .int (nI (x - 1))), (6, .int (nI 1)), (5, .int (nI i)), (2, .int (nI lo)), (0, .ref (a 0)), (1, .int (nI units))]) hx hb dX0_lose_171 hl (by decide) rfl (fun ls hl => ?_)
                    refine lv_iinc (v := nI (i + 1)) (lv' := [(5, .int (nI (i + 1))), (4, .int (nI (x - 1))), (6, .int (nI 1)), (2, .int (nI lo)), (0, .ref (a 0)), (1, .int (nI units))]) hx hb dX0_lose_173 hl (k := 2) rfl (ip_inc i) (by decide) rfl (fun ls hl => ?_)
                    refine lv_goto (tgt := 67) hx hb dX0_lose_176 (by decide) ?_
                    exact ih67 (i + 1) (x - 1) (ip_up Gv i ((Gv i) + (((La i) - lo) + 1))) (by omega) (by rw [ip_lq_ct]; split <;> omega) (ip_fl_step eG (by rw [ip_fl_at eG, ip_lo_iff]; (repeat' split) <;> omega)) (by omega) _ _ hP hD hS ls (lv_sub hl [0, 1, 3, 4, 5] rfl)
    exact lp67 _ 0 (units - (fb_sm (fun c => La c - lo) n)) Ga (by omega) (rfl) (ip_fl_0 _ _) (Nat.lt_succ_self _) _ _ hP hD hS ls (lv_sub hl [0, 1, 2, 3, 4] rfl)
  have lp9 : ∀ (N9 : Nat) (lo : Nat) (hi : Nat) (k : Nat), (k ≤ 9) → (lo ≤ hi ∧ hi ≤ 150) → (fb_sm (fun c => La c - hi) n ≤ units) → (lo = 0 ∨ units < fb_sm (fun c => La c - (lo - 1)) n) → (hi - lo ≤ ip_hv 150 k) → 9 - k < N9 → ∀ (H : Heap) (locs : List Loc), va_P D ip_cl (pw a d Wa Ra Ua Ga La Ea n pt ov) H → va_D A (pw a d Wa Ra Ua Ga La Ea n pt ov) → va_S A s.heap H locs → ∀ (ls : Array Slot), lv_has ls 7 [(4, .int (nI k)), (3, .int (nI hi)), (2, .int (nI lo)), (0, .ref (a 0)), (1, .int (nI units))] → W p l e rmX0_lose s m args below meth c H locs 0 0 Q (F0 m 9 ls []) := by
    intro N9
    induction N9 with
    | zero =>
      intro lo hi k _ _ _ _ _ hm
      exact absurd hm (Nat.not_lt_zero _)
    | succ N9 ih9 =>
      intro lo hi k hk hlh h1 h2 h3 hm9 H locs hP hD hS ls hl
      refine lv_iload hx hb dX0_lose_9 (lv_at hl 0 rfl) ?_
      refine lv_bipush (v := nI 9) hx hb dX0_lose_11 (by decide) ?_
      refine n_icmp_ge (tgt := 55) hx hb dX0_lose_13 (by decide) (by omega) (by omega) (fun c_47 => ?_) (fun c_47 => ?_)
      · skip
        exact tl55 lo (ip_lo_end hk hlh h1 h2 h3 (by omega)) _ _ hP hD hS ls (lv_sub hl [2, 3, 4] rfl)
      · skip
        refine lv_iload_n hx hb dX0_lose_16 rfl (lv_at hl 2 rfl) ?_
        refine lv_iload_n hx hb dX0_lose_17 rfl (lv_at hl 1 rfl) ?_
        refine n_icmp_ge (tgt := 55) hx hb dX0_lose_18 (by decide) (by omega) (by omega) (fun c_48 => ?_) (fun c_48 => ?_)
        · skip
          exact tl55 lo (ip_lo_end hk hlh h1 h2 h3 (by omega)) _ _ hP hD hS ls (lv_sub hl [2, 3, 4] rfl)
        · skip
          refine lv_iload_n hx hb dX0_lose_21 rfl (lv_at hl 2 rfl) ?_
          refine lv_iload_n hx hb dX0_lose_22 rfl (lv_at hl 1 rfl) ?_
          refine n_iadd hx hb dX0_lose_23 ?_
          refine lv_iconst (v := nI 1) hx hb dX0_lose_24 (by decide) ?_
          refine n_half hx hb dX0_lose_25 (by omega) ?_
          refine lv_istore (lv' := [(5, .int (nI ((lo + hi) / 2))), (4, .int (nI k)), (3, .int (nI hi)), (2, .int (nI lo)), (0, .ref (a 0)), (1, .int (nI units))]) hx hb dX0_lose_26 hl (by decide) rfl (fun ls hl => ?_)
          refine lv_aload_n hx hb dX0_lose_28 rfl (lv_at hl 4 rfl) ?_
          refine lv_iload hx hb dX0_lose_29 (lv_at hl 0 rfl) ?_
          refine ip_callV_i (own := RX0) (C := RX0) (x := a 0) [.int (nI ((lo + hi) / 2))] hx hb hml hown hts hA hK (kX0_lost l D d a Wa Ra Ua Ga La Ea n pt ov hI ((lo + hi) / 2) (by omega) hL) (cwX0_lost hts ⟨Nat.le_of_ble_eq_true rfl, Nat.le_of_ble_eq_true rfl⟩) ⟨0, _, _, rfl, rfl, rfl⟩ hP hD hS hl.1 rfl (Nat.le_of_ble_eq_true rfl) dX0_lose_31 ⟨Nat.zero_le _, Nat.zero_le _⟩ (fun r_50 u_49 H locs hw_51 hP hD hS => ?_)
          subst hw_51
          have b_52 := ip_lt_bound hL hn ((lo + hi) / 2)
          refine lv_iload_n hx hb dX0_lose_34 rfl (lv_at hl 5 rfl) ?_
          refine n_icmp_gt (tgt := 44) hx hb dX0_lose_35 (by decide) (by omega) (by omega) (fun c_53 => ?_) (fun c_53 => ?_)
          · skip
            refine lv_iload hx hb dX0_lose_44 (lv_at hl 0 rfl) ?_
            refine lv_iconst (v := nI 1) hx hb dX0_lose_46 (by decide) ?_
            refine n_iadd hx hb dX0_lose_47 ?_
            refine lv_istore_n (lv' := [(2, .int (nI (((lo + hi) / 2) + 1))), (5, .int (nI ((lo + hi) / 2))), (4, .int (nI k)), (3, .int (nI hi)), (0, .ref (a 0)), (1, .int (nI units))]) hx hb dX0_lose_48 rfl hl (by decide) rfl (fun ls hl => ?_)
            refine lv_iinc (v := nI (k + 1)) (lv' := [(4, .int (nI (k + 1))), (2, .int (nI (((lo + hi) / 2) + 1))), (5, .int (nI ((lo + hi) / 2))), (3, .int (nI hi)), (0, .ref (a 0)), (1, .int (nI units))]) hx hb dX0_lose_49 hl (k := 2) rfl (ip_inc k) (by decide) rfl (fun ls hl => ?_)
            refine lv_goto (tgt := 9) hx hb dX0_lose_52 (by decide) ?_
            exact ih9 (((lo + hi) / 2) + 1) hi (k + 1) (by omega) (by omega) (by omega) (by right; rw [show (((lo + hi) / 2) + 1) - 1 = ((lo + hi) / 2) by omega]; omega) (by rw [ip_hv_succ]; omega) (by omega) _ _ hP hD hS ls (lv_sub hl [0, 3, 1, 4, 5] rfl)
          · skip
            refine lv_iload hx hb dX0_lose_38 (lv_at hl 0 rfl) ?_
            refine lv_istore_n (lv' := [(3, .int (nI ((lo + hi) / 2))), (5, .int (nI ((lo + hi) / 2))), (4, .int (nI k)), (2, .int (nI lo)), (0, .ref (a 0)), (1, .int (nI units))]) hx hb dX0_lose_40 rfl hl (by decide) rfl (fun ls hl => ?_)
            refine lv_goto (tgt := 49) hx hb dX0_lose_41 (by decide) ?_
            refine lv_iinc (v := nI (k + 1)) (lv' := [(4, .int (nI (k + 1))), (3, .int (nI ((lo + hi) / 2))), (5, .int (nI ((lo + hi) / 2))), (2, .int (nI lo)), (0, .ref (a 0)), (1, .int (nI units))]) hx hb dX0_lose_49 hl (k := 2) rfl (ip_inc k) (by decide) rfl (fun ls hl => ?_)
            refine lv_goto (tgt := 9) hx hb dX0_lose_52 (by decide) ?_
            exact ih9 lo ((lo + hi) / 2) (k + 1) (by omega) (by omega) (by omega) (h2) (by rw [ip_hv_succ]; omega) (by omega) _ _ hP hD hS ls (lv_sub hl [0, 1, 3, 4, 5] rfl)
  refine lv_iconst (v := nI 0) hx hb dX0_lose_0 (by decide) ?_
  refine lv_istore_n (lv' := [(2, .int (nI 0)), (0, .ref (a 0)), (1, .int (nI units))]) hx hb dX0_lose_1 rfl hl (by decide) rfl (fun ls hl => ?_)
  refine lv_sipush (v := nI 150) hx hb dX0_lose_2 (by decide) ?_
  refine lv_istore_n (lv' := [(3, .int (nI 150)), (2, .int (nI 0)), (0, .ref (a 0)), (1, .int (nI units))]) hx hb dX0_lose_5 rfl hl (by decide) rfl (fun ls hl => ?_)
  refine lv_iconst (v := nI 0) hx hb dX0_lose_6 (by decide) ?_
  refine lv_istore (lv' := [(4, .int (nI 0)), (3, .int (nI 150)), (2, .int (nI 0)), (0, .ref (a 0)), (1, .int (nI units))]) hx hb dX0_lose_7 hl (by decide) rfl (fun ls hl => ?_)
  exact lp9 _ 0 150 0 (by omega) (by omega) (by rw [ip_lt_zero hL]; exact Nat.zero_le _) (Or.inl rfl) (by decide) (Nat.lt_succ_self _) _ _ hP hD hS ls (lv_sub hl [0, 1, 2, 3, 4] rfl)
set_option maxHeartbeats 4000000 in
set_option maxRecDepth 100000 in
theorem kX0_quotas (l : Launch) (D : va_G) (d : ClassId) (a : Nat → Nat) (Wa Ra Ua Ga La Ea : Nat → Nat) (n pt ov : Nat) (hI : ip_AI (Wa, Ra, Ua, n, pt)) (r P S : Nat) (hr : r < 4) (hS' : S = ip_rs Ra r Wa n) (hPS : P ≤ S) (hG0 : ∀ j, j < n → Ra j = r → Ga j = 0) : ip_Mv l yX0_quotas (ws_ yX0_quotas cX0_quotas 8 none) rmX0_quotas D d (pw a d Wa Ra Ua Ga La Ea n pt ov) [.ref (a 0), .int (nI r), .int (nI P), .int (nI S)] (S := Nat → Nat) (fun G2 => ip_I Ra r ip_shN Wa ip_zer Wa n G2 ∧ ip_rs Ra r G2 n = P ∧ ∀ j, (n ≤ j ∨ Ra j ≠ r) → G2 j = Ga j) (fun G2 => (pw a d Wa Ra Ua G2 La Ea n pt ov)) := by
  obtain ⟨hW, hR, hU, hn, hpt⟩ := id hI
  have hW : ∀ j, Wa j ≤ 150 := hW
  have hR : ∀ j, Ra j < 4 := hR
  have hU : ∀ j, Ua j < 4 := hU
  have hn : n ≤ 8 := hn
  have hpt : pt ≤ 1500 := hpt
  refine ip_ent_v (by decide) (Nat.le_of_ble_eq_true rfl) ?_
  intro p e s m args below meth c A Q hx hb hml hown hts hA hK hP hD hS hret ls hl
  have hown : s.vm.findClass RX0 = some m.cls := hown
  have hl : lv_has ls 8 [(0, .ref (a 0)), (1, .int (nI r)), (2, .int (nI P)), (3, .int (nI S))] := hl
  have hSb : S ≤ 1200 := by rw [hS']; exact ip_rs_bound (fun c _ => hW c) hn
  have tl175 : ∀ (Gv : Nat → Nat), (ip_I Ra r ip_shN Wa ip_zer Wa n Gv) → (ip_rs Ra r Gv n = P) → (∀ j, (n ≤ j ∨ Ra j ≠ r) → Gv j = Ga j) → ∀ (H : Heap) (locs : List Loc), va_P D ip_cl (pw a d Wa Ra Ua Gv La Ea n pt ov) H → va_D A (pw a d Wa Ra Ua Gv La Ea n pt ov) → va_S A s.heap H locs → ∀ (ls : Array Slot), lv_has ls 8 [(0, .ref (a 0))] → W p l e rmX0_quotas s m args below meth c H locs 0 0 Q (F0 m 175 ls []) := by
    intro Gv hI2 hs hfr H locs hP hD hS ls hl
    exact hret Gv _ _ _ _ dX0_quotas_175 (⟨hI2, hs, hfr⟩) hP hD hS
  have lp69 : ∀ (N69 : Nat) (k : Nat) (x : Nat) (Gv : Nat → Nat), (ip_I Ra r ip_shN Wa ip_zer Wa n Gv) → (ip_rs Ra r Gv n + x = P) → (x + k ≤ 8) → (∀ j, (n ≤ j ∨ Ra j ≠ r) → Gv j = Ga j) → 8 - k < N69 → ∀ (H : Heap) (locs : List Loc), va_P D ip_cl (pw a d Wa Ra Ua Gv La Ea n pt ov) H → va_D A (pw a d Wa Ra Ua Gv La Ea n pt ov) → va_S A s.heap H locs → ∀ (ls : Array Slot), lv_has ls 8 [(5, .int (nI k)), (4, .int (nI x)), (0, .ref (a 0)), (1, .int (nI r)), (2, .int (nI P)), (3, .int (nI S))] → W p l e rmX0_quotas s m args below meth c H locs 0 0 Q (F0 m 69 ls []) := by
    intro N69
    induction N69 with
    | zero =>
      intro k x Gv _ _ _ _ hm
      exact absurd hm (Nat.not_lt_zero _)
    | succ N69 ih69 =>
      intro k x Gv hI2 hs hx8 hfr hm69 H locs hP hD hS ls hl
      refine lv_iload hx hb dX0_quotas_69 (lv_at hl 0 rfl) ?_
      refine lv_bipush (v := nI 8) hx hb dX0_quotas_71 (by decide) ?_
      refine n_icmp_ge (tgt := 175) hx hb dX0_quotas_73 (by decide) (by omega) (by omega) (fun c_1 => ?_) (fun c_1 => ?_)
      · skip
        exact tl175 Gv (hI2) (by omega) (hfr) _ _ hP hD hS ls (lv_sub hl [2] rfl)
      · skip
        refine lv_iload hx hb dX0_quotas_76 (lv_at hl 1 rfl) ?_
        refine n_if_le (tgt := 175) hx hb dX0_quotas_78 (by decide) (by omega) (fun c_2 => ?_) (fun c_2 => ?_)
        · skip
          exact tl175 Gv (hI2) (by omega) (hfr) _ _ hP hD hS ls (lv_sub hl [2] rfl)
        · skip
          refine lv_iconst (v := (-1)) hx hb dX0_quotas_81 (by decide) ?_
          refine lv_istore (lv' := [(6, .int (-1)), (5, .int (nI k)), (4, .int (nI x)), (0, .ref (a 0)), (1, .int (nI r)), (2, .int (nI P)), (3, .int (nI S))]) hx hb dX0_quotas_82 hl (by decide) rfl (fun ls hl => ?_)
          refine lv_iconst (v := nI 0) hx hb dX0_quotas_84 (by decide) ?_
          refine lv_istore (lv' := [(7, .int (nI 0)), (6, .int (-1)), (5, .int (nI k)), (4, .int (nI x)), (0, .ref (a 0)), (1, .int (nI r)), (2, .int (nI P)), (3, .int (nI S))]) hx hb dX0_quotas_85 hl (by decide) rfl (fun ls hl => ?_)
          have lp87 : ∀ (N87 : Nat) (j : Nat) (ob : Option Nat), (j ≤ n) → (ob = ip_bst (ip_qin Wa Ra Gv r) (ip_qbe Wa Gv) j) → n - j < N87 → ∀ (H : Heap) (locs : List Loc), va_P D ip_cl (pw a d Wa Ra Ua Gv La Ea n pt ov) H → va_D A (pw a d Wa Ra Ua Gv La Ea n pt ov) → va_S A s.heap H locs → ∀ (ls : Array Slot), lv_has ls 8 [(7, .int (nI j)), (6, .int (ip_oI ob)), (5, .int (nI k)), (4, .int (nI x)), (0, .ref (a 0)), (1, .int (nI r)), (2, .int (nI P)), (3, .int (nI S))] → W p l e rmX0_quotas s m args below meth c H locs 0 0 Q (F0 m 87 ls []) := by
            intro N87
            induction N87 with
            | zero =>
              intro j ob _ _ hm
              exact absurd hm (Nat.not_lt_zero _)
            | succ N87 ih87 =>
              intro j ob hj hob hm87 H locs hP hD hS ls hl
              refine lv_iload hx hb dX0_quotas_87 (lv_at hl 0 rfl) ?_
              refine lv_aload_n hx hb dX0_quotas_89 rfl (lv_at hl 4 rfl) ?_
              refine x0_get_n hx hb hts hown hK hP dX0_quotas_90 ?_
              refine n_icmp_ge (tgt := 150) hx hb dX0_quotas_93 (by decide) (by omega) (by omega) (fun c_3 => ?_) (fun c_3 => ?_)
              · skip
                obtain ⟨bq, e1, e2, e3, e4, e5⟩ := ip_q_next hI2 (by omega)
                rw [show j = n by omega, e1] at hob
                subst hob
                have hl : lv_has ls 8 [(7, .int (nI j)), (6, .int (nI bq)), (5, .int (nI k)), (4, .int (nI x)), (0, .ref (a 0)), (1, .int (nI r)), (2, .int (nI P)), (3, .int (nI S))] := hl
                refine lv_iload hx hb dX0_quotas_150 (lv_at hl 1 rfl) ?_
                refine n_if_lt (tgt := 166) hx hb dX0_quotas_152 (by decide) (by omega) (fun h => h.elim) (fun _ => ?_)
                refine lv_aload_n hx hb dX0_quotas_155 rfl (lv_at hl 4 rfl) ?_
                refine x0_get_G hx hb hts hown hK hP dX0_quotas_156 ?_
                refine lv_iload hx hb dX0_quotas_159 (lv_at hl 1 rfl) ?_
                refine lv_dup2_11 hx hb dX0_quotas_161 rfl rfl ?_
                refine x0_ald_G hx hb hK hP (by omega) dX0_quotas_162 ?_
                refine lv_iconst (v := nI 1) hx hb dX0_quotas_163 (by decide) ?_
                refine n_iadd hx hb dX0_quotas_164 ?_
                refine x0_ast_G hx hb hK hP hD hS (by omega) dX0_quotas_165 (fun H locs hP hD hS => ?_)
                refine lv_iinc (v := nI (x - 1)) (lv' := [(4, .int (nI (x - 1))), (7, .int (nI j)), (6, .int (nI bq)), (5, .int (nI k)), (0, .ref (a 0)), (1, .int (nI r)), (2, .int (nI P)), (3, .int (nI S))]) hx hb dX0_quotas_166 hl (k := 3) rfl (ip_dec (by omega)) (by decide) rfl (fun ls hl => ?_)
                refine lv_iinc (v := nI (k + 1)) (lv' := [(5, .int (nI (k + 1))), (4, .int (nI (x - 1))), (7, .int (nI j)), (6, .int (nI bq)), (0, .ref (a 0)), (1, .int (nI r)), (2, .int (nI P)), (3, .int (nI S))]) hx hb dX0_quotas_169 hl (k := 3) rfl (ip_inc k) (by decide) rfl (fun ls hl => ?_)
                refine lv_goto (tgt := 69) hx hb dX0_quotas_172 (by decide) ?_
                exact ih69 (k + 1) (x - 1) (ip_up Gv bq ((Gv bq) + 1)) (e5) (by rw [ip_rs_up e2 e3]; omega) (by omega) (fun q hq => by rw [ip_up_n (fun z => by rw [z] at hq; omega)]; exact hfr q hq) (by omega) _ _ hP hD hS ls (lv_sub hl [0, 1, 4, 5, 6, 7] rfl)
              · skip
                refine lv_aload_n hx hb dX0_quotas_96 rfl (lv_at hl 4 rfl) ?_
                refine x0_get_R hx hb hts hown hK hP dX0_quotas_97 ?_
                refine lv_iload hx hb dX0_quotas_100 (lv_at hl 0 rfl) ?_
                refine x0_ald_R hx hb hK hP (by omega) dX0_quotas_102 ?_
                have b_5 := hR j
                refine lv_iload_n hx hb dX0_quotas_103 rfl (lv_at hl 5 rfl) ?_
                refine n_icmp_ne (tgt := 144) hx hb dX0_quotas_104 (by decide) (by omega) (by omega) (fun c_6 => ?_) (fun c_6 => ?_)
                · skip
                  refine lv_iinc (v := nI (j + 1)) (lv' := [(7, .int (nI (j + 1))), (6, .int (ip_oI ob)), (5, .int (nI k)), (4, .int (nI x)), (0, .ref (a 0)), (1, .int (nI r)), (2, .int (nI P)), (3, .int (nI S))]) hx hb dX0_quotas_144 hl (k := 0) rfl (ip_inc j) (by decide) rfl (fun ls hl => ?_)
                  refine lv_goto (tgt := 87) hx hb dX0_quotas_147 (by decide) ?_
                  exact ih87 (j + 1) ob (by omega) (by first | (rw [ip_bst_out (ip_qin_f (by omega))]; exact hob) | (rw [ip_bst_new (ip_qin_t (by omega)) hob.symm]) | (rw [ip_bst_yes (ip_qin_t (by omega)) hob.symm (ip_qbe_t hgr)]) | (rw [ip_bst_no (ip_qin_t (by omega)) hob.symm (ip_qbe_f hgr)])) (by omega) _ _ hP hD hS ls (lv_sub hl [0, 1, 2, 3, 4, 5, 6, 7] rfl)
                · skip
                  refine lv_aload_n hx hb dX0_quotas_107 rfl (lv_at hl 4 rfl) ?_
                  refine x0_get_G hx hb hts hown hK hP dX0_quotas_108 ?_
                  refine lv_iload hx hb dX0_quotas_111 (lv_at hl 0 rfl) ?_
                  refine x0_ald_G hx hb hK hP (by omega) dX0_quotas_113 ?_
                  have b_7 := (hI2.1 j (by omega) (by omega)).2
                  refine lv_aload_n hx hb dX0_quotas_114 rfl (lv_at hl 4 rfl) ?_
                  refine x0_get_W hx hb hts hown hK hP dX0_quotas_115 ?_
                  refine lv_iload hx hb dX0_quotas_118 (lv_at hl 0 rfl) ?_
                  refine x0_ald_W hx hb hK hP (by omega) dX0_quotas_120 ?_
                  have b_8 := hW j
                  refine n_icmp_ge (tgt := 144) hx hb dX0_quotas_121 (by decide) (by omega) (by omega) (fun c_9 => ?_) (fun c_9 => ?_)
                  · skip
                    refine lv_iinc (v := nI (j + 1)) (lv' := [(7, .int (nI (j + 1))), (6, .int (ip_oI ob)), (5, .int (nI k)), (4, .int (nI x)), (0, .ref (a 0)), (1, .int (nI r)), (2, .int (nI P)), (3, .int (nI S))]) hx hb dX0_quotas_144 hl (k := 0) rfl (ip_inc j) (by decide) rfl (fun ls hl => ?_)
                    refine lv_goto (tgt := 87) hx hb dX0_quotas_147 (by decide) ?_
                    exact ih87 (j + 1) ob (by omega) (by first | (rw [ip_bst_out (ip_qin_f (by omega))]; exact hob) | (rw [ip_bst_new (ip_qin_t (by omega)) hob.symm]) | (rw [ip_bst_yes (ip_qin_t (by omega)) hob.symm (ip_qbe_t hgr)]) | (rw [ip_bst_no (ip_qin_t (by omega)) hob.symm (ip_qbe_f hgr)])) (by omega) _ _ hP hD hS ls (lv_sub hl [0, 1, 2, 3, 4, 5, 6, 7] rfl)
                  · skip
                    rcases ob with _ | bb_10
                    · have hl : lv_has ls 8 [(7, .int (nI j)), (6, .int (-1)), (5, .int (nI k)), (4, .int (nI x)), (0, .ref (a 0)), (1, .int (nI r)), (2, .int (nI P)), (3, .int (nI S))] := hl
                      refine lv_iload hx hb dX0_quotas_124 (lv_at hl 1 rfl) ?_
                      refine z_if_lt (tgt := 140) hx hb dX0_quotas_126 (by decide) (fun _ => ?_) (fun h => absurd h (by decide))
                      refine lv_iload hx hb dX0_quotas_140 (lv_at hl 0 rfl) ?_
                      refine lv_istore (lv' := [(6, .int (nI j)), (7, .int (nI j)), (5, .int (nI k)), (4, .int (nI x)), (0, .ref (a 0)), (1, .int (nI r)), (2, .int (nI P)), (3, .int (nI S))]) hx hb dX0_quotas_142 hl (by decide) rfl (fun ls hl => ?_)
                      refine lv_iinc (v := nI (j + 1)) (lv' := [(7, .int (nI (j + 1))), (6, .int (nI j)), (5, .int (nI k)), (4, .int (nI x)), (0, .ref (a 0)), (1, .int (nI r)), (2, .int (nI P)), (3, .int (nI S))]) hx hb dX0_quotas_144 hl (k := 1) rfl (ip_inc j) (by decide) rfl (fun ls hl => ?_)
                      refine lv_goto (tgt := 87) hx hb dX0_quotas_147 (by decide) ?_
                      exact ih87 (j + 1) (some j) (by omega) (by first | (rw [ip_bst_out (ip_qin_f (by omega))]; exact hob) | (rw [ip_bst_new (ip_qin_t (by omega)) hob.symm]) | (rw [ip_bst_yes (ip_qin_t (by omega)) hob.symm (ip_qbe_t hgr)]) | (rw [ip_bst_no (ip_qin_t (by omega)) hob.symm (ip_qbe_f hgr)])) (by omega) _ _ hP hD hS ls (lv_sub hl [0, 1, 2, 3, 4, 5, 6, 7] rfl)
                    · have hl : lv_has ls 8 [(7, .int (nI j)), (6, .int (nI bb_10)), (5, .int (nI k)), (4, .int (nI x)), (0, .ref (a 0)), (1, .int (nI r)), (2, .int (nI P)), (3, .int (nI S))] := hl
                      refine lv_iload hx hb dX0_quotas_124 (lv_at hl 1 rfl) ?_
                      have hlb := ip_bst_lt hob.symm
                      have hqb := ip_qin_of hlb.2
                      have hwb := hW bb_10
                      refine n_if_lt (tgt := 140) hx hb dX0_quotas_126 (by decide) (by omega) (fun h => h.elim) (fun _ => ?_)
                      refine lv_aload_n hx hb dX0_quotas_129 rfl (lv_at hl 4 rfl) ?_
                      refine lv_iload hx hb dX0_quotas_130 (lv_at hl 0 rfl) ?_
                      refine lv_iload hx hb dX0_quotas_132 (lv_at hl 1 rfl) ?_
                      refine ip_callV_i (own := RX0) (C := RX0) (x := a 0) [.int (nI j), .int (nI bb_10)] hx hb hml hown hts hA hK (kX0_isGreater l D d a Wa Ra Ua Gv La Ea n pt ov hI j bb_10 (by omega) (by omega) (by omega) (by omega)) (cwX0_isGreater hts ⟨Nat.le_of_ble_eq_true rfl, Nat.le_of_ble_eq_true rfl⟩) ⟨0, _, _, rfl, rfl, rfl⟩ hP hD hS hl.1 rfl (Nat.le_of_ble_eq_true rfl) dX0_quotas_134 ⟨Nat.zero_le _, Nat.zero_le _⟩ (fun r_14 u_13 H locs hw_15 hP hD hS => ?_)
                      rcases hw_15 with ⟨rfl, hgr⟩ | ⟨rfl, hgr⟩
                      · skip
                        refine n_if_eq (tgt := 144) hx hb dX0_quotas_137 (by decide) (by omega) (fun h => absurd h (by omega)) (fun _ => ?_)
                        refine lv_iload hx hb dX0_quotas_140 (lv_at hl 0 rfl) ?_
                        refine lv_istore (lv' := [(6, .int (nI j)), (7, .int (nI j)), (5, .int (nI k)), (4, .int (nI x)), (0, .ref (a 0)), (1, .int (nI r)), (2, .int (nI P)), (3, .int (nI S))]) hx hb dX0_quotas_142 hl (by decide) rfl (fun ls hl => ?_)
                        refine lv_iinc (v := nI (j + 1)) (lv' := [(7, .int (nI (j + 1))), (6, .int (nI j)), (5, .int (nI k)), (4, .int (nI x)), (0, .ref (a 0)), (1, .int (nI r)), (2, .int (nI P)), (3, .int (nI S))]) hx hb dX0_quotas_144 hl (k := 1) rfl (ip_inc j) (by decide) rfl (fun ls hl => ?_)
                        refine lv_goto (tgt := 87) hx hb dX0_quotas_147 (by decide) ?_
                        exact ih87 (j + 1) (some j) (by omega) (by first | (rw [ip_bst_out (ip_qin_f (by omega))]; exact hob) | (rw [ip_bst_new (ip_qin_t (by omega)) hob.symm]) | (rw [ip_bst_yes (ip_qin_t (by omega)) hob.symm (ip_qbe_t hgr)]) | (rw [ip_bst_no (ip_qin_t (by omega)) hob.symm (ip_qbe_f hgr)])) (by omega) _ _ hP hD hS ls (lv_sub hl [0, 1, 2, 3, 4, 5, 6, 7] rfl)
                      · skip
                        refine n_if_eq (tgt := 144) hx hb dX0_quotas_137 (by decide) (by omega) (fun _ => ?_) (fun h => absurd h (by omega))
                        refine lv_iinc (v := nI (j + 1)) (lv' := [(7, .int (nI (j + 1))), (6, .int (nI bb_10)), (5, .int (nI k)), (4, .int (nI x)), (0, .ref (a 0)), (1, .int (nI r)), (2, .int (nI P)), (3, .int (nI S))]) hx hb dX0_quotas_144 hl (k := 0) rfl (ip_inc j) (by decide) rfl (fun ls hl => ?_)
                        refine lv_goto (tgt := 87) hx hb dX0_quotas_147 (by decide) ?_
                        exact ih87 (j + 1) (some bb_10) (by omega) (by first | (rw [ip_bst_out (ip_qin_f (by omega))]; exact hob) | (rw [ip_bst_new (ip_qin_t (by omega)) hob.symm]) | (rw [ip_bst_yes (ip_qin_t (by omega)) hob.symm (ip_qbe_t hgr)]) | (rw [ip_bst_no (ip_qin_t (by omega)) hob.symm (ip_qbe_f hgr)])) (by omega) _ _ hP hD hS ls (lv_sub hl [0, 1, 2, 3, 4, 5, 6, 7] rfl)
          exact lp87 _ 0 none (by omega) (rfl) (Nat.lt_succ_self _) _ _ hP hD hS ls (lv_sub hl [0, 1, 2, 3, 4, 5, 6, 7] rfl)
  have lp6 : ∀ (N6 : Nat) (i : Nat) (x : Nat) (Gv : Nat → Nat), (i ≤ n) → (x = P - fb_sm (ip_qu Wa Ra r P S) i) → (Gv = ip_fl (ip_qv Wa Ra Ga r P S) Ga i) → n - i < N6 → ∀ (H : Heap) (locs : List Loc), va_P D ip_cl (pw a d Wa Ra Ua Gv La Ea n pt ov) H → va_D A (pw a d Wa Ra Ua Gv La Ea n pt ov) → va_S A s.heap H locs → ∀ (ls : Array Slot), lv_has ls 8 [(5, .int (nI i)), (4, .int (nI x)), (0, .ref (a 0)), (1, .int (nI r)), (2, .int (nI P)), (3, .int (nI S))] → W p l e rmX0_quotas s m args below meth c H locs 0 0 Q (F0 m 6 ls []) := by
    intro N6
    induction N6 with
    | zero =>
      intro i x Gv _ _ _ hm
      exact absurd hm (Nat.not_lt_zero _)
    | succ N6 ih6 =>
      intro i x Gv hi ex eG hm6 H locs hP hD hS ls hl
      refine lv_iload hx hb dX0_quotas_6 (lv_at hl 0 rfl) ?_
      refine lv_aload_n hx hb dX0_quotas_8 rfl (lv_at hl 2 rfl) ?_
      refine x0_get_n hx hb hts hown hK hP dX0_quotas_9 ?_
      refine n_icmp_ge (tgt := 66) hx hb dX0_quotas_12 (by decide) (by omega) (by omega) (fun c_18 => ?_) (fun c_18 => ?_)
      · skip
        obtain ⟨z1, z2, z3, z4⟩ := ip_qs_start (x := x) (Gv := Gv) hn hS' hPS hG0 (by rw [ex, show i = n by omega]) (by rw [eG, show i = n by omega])
        refine lv_iconst (v := nI 0) hx hb dX0_quotas_66 (by decide) ?_
        refine lv_istore (lv' := [(5, .int (nI 0)), (4, .int (nI x)), (0, .ref (a 0)), (1, .int (nI r)), (2, .int (nI P)), (3, .int (nI S))]) hx hb dX0_quotas_67 hl (by decide) rfl (fun ls hl => ?_)
        exact lp69 _ 0 x Gv (z1) (z2) (by omega) (z4) (Nat.lt_succ_self _) _ _ hP hD hS ls (lv_sub hl [0, 1, 2, 3, 4, 5] rfl)
      · skip
        refine lv_aload_n hx hb dX0_quotas_15 rfl (lv_at hl 2 rfl) ?_
        refine x0_get_R hx hb hts hown hK hP dX0_quotas_16 ?_
        refine lv_iload hx hb dX0_quotas_19 (lv_at hl 0 rfl) ?_
        refine x0_ald_R hx hb hK hP (by omega) dX0_quotas_21 ?_
        have b_19 := hR i
        refine lv_iload_n hx hb dX0_quotas_22 rfl (lv_at hl 3 rfl) ?_
        refine n_icmp_ne (tgt := 60) hx hb dX0_quotas_23 (by decide) (by omega) (by omega) (fun c_20 => ?_) (fun c_20 => ?_)
        · skip
          refine lv_iinc (v := nI (i + 1)) (lv' := [(5, .int (nI (i + 1))), (4, .int (nI x)), (0, .ref (a 0)), (1, .int (nI r)), (2, .int (nI P)), (3, .int (nI S))]) hx hb dX0_quotas_60 hl (k := 0) rfl (ip_inc i) (by decide) rfl (fun ls hl => ?_)
          refine lv_goto (tgt := 6) hx hb dX0_quotas_63 (by decide) ?_
          exact ih6 (i + 1) x Gv (by omega) (by rw [fb_sm_succ]; first | (rw [ip_qu_in (by omega) (by omega)]; generalize P * Wa i / S = z; omega) | (rw [ip_qu_out (by omega)]; omega)) (ip_fl_skip eG (ip_qv_out (by omega))) (by omega) _ _ hP hD hS ls (lv_sub hl [0, 1, 2, 3, 4, 5] rfl)
        · skip
          refine lv_iload_n hx hb dX0_quotas_26 rfl (lv_at hl 5 rfl) ?_
          refine n_if_le (tgt := 60) hx hb dX0_quotas_27 (by decide) (by omega) (fun c_21 => ?_) (fun c_21 => ?_)
          · skip
            refine lv_iinc (v := nI (i + 1)) (lv' := [(5, .int (nI (i + 1))), (4, .int (nI x)), (0, .ref (a 0)), (1, .int (nI r)), (2, .int (nI P)), (3, .int (nI S))]) hx hb dX0_quotas_60 hl (k := 0) rfl (ip_inc i) (by decide) rfl (fun ls hl => ?_)
            refine lv_goto (tgt := 6) hx hb dX0_quotas_63 (by decide) ?_
            exact ih6 (i + 1) x Gv (by omega) (by rw [fb_sm_succ]; first | (rw [ip_qu_in (by omega) (by omega)]; generalize P * Wa i / S = z; omega) | (rw [ip_qu_out (by omega)]; omega)) (ip_fl_skip eG (ip_qv_out (by omega))) (by omega) _ _ hP hD hS ls (lv_sub hl [0, 1, 2, 3, 4, 5] rfl)
          · skip
            refine lv_aload_n hx hb dX0_quotas_30 rfl (lv_at hl 2 rfl) ?_
            refine x0_get_G hx hb hts hown hK hP dX0_quotas_31 ?_
            refine lv_iload hx hb dX0_quotas_34 (lv_at hl 0 rfl) ?_
            refine lv_iload_n hx hb dX0_quotas_36 rfl (lv_at hl 4 rfl) ?_
            refine lv_aload_n hx hb dX0_quotas_37 rfl (lv_at hl 2 rfl) ?_
            refine x0_get_W hx hb hts hown hK hP dX0_quotas_38 ?_
            refine lv_iload hx hb dX0_quotas_41 (lv_at hl 0 rfl) ?_
            refine x0_ald_W hx hb hK hP (by omega) dX0_quotas_43 ?_
            have b_22 := hW i
            refine n_imul hx hb dX0_quotas_44 ?_
            refine lv_iload_n hx hb dX0_quotas_45 rfl (lv_at hl 5 rfl) ?_
            refine n_idiv hx hb dX0_quotas_46 (Nat.lt_of_le_of_lt (Nat.mul_le_mul (show P ≤ 1200 by omega) (hW i)) (by decide)) (by omega) (by omega) ?_
            refine x0_ast_G hx hb hK hP hD hS (by omega) dX0_quotas_47 (fun H locs hP hD hS => ?_)
            refine lv_iload hx hb dX0_quotas_48 (lv_at hl 1 rfl) ?_
            refine lv_aload_n hx hb dX0_quotas_50 rfl (lv_at hl 2 rfl) ?_
            refine x0_get_G hx hb hts hown hK hP dX0_quotas_51 ?_
            refine lv_iload hx hb dX0_quotas_54 (lv_at hl 0 rfl) ?_
            refine x0_ald_G hx hb hK hP (by omega) dX0_quotas_56 ?_
            rw [ip_up_s]
            refine n_isub hx hb dX0_quotas_57 (by have h9 := ip_qu_part (W := Wa) (R := Ra) (r := r) (P := P) (n := n) (i := i + 1) hS' (by omega); rw [fb_sm_succ, ip_qu_in (by omega) (by omega)] at h9; omega) ?_
            refine lv_istore (lv' := [(4, .int (nI (x - ((P * (Wa i)) / S)))), (5, .int (nI i)), (0, .ref (a 0)), (1, .int (nI r)), (2, .int (nI P)), (3, .int (nI S))]) hx hb dX0_quotas_58 hl (by decide) rfl (fun ls hl => ?_)
            refine lv_iinc (v := nI (i + 1)) (lv' := [(5, .int (nI (i + 1))), (4, .int (nI (x - ((P * (Wa i)) / S)))), (0, .ref (a 0)), (1, .int (nI r)), (2, .int (nI P)), (3, .int (nI S))]) hx hb dX0_quotas_60 hl (k := 1) rfl (ip_inc i) (by decide) rfl (fun ls hl => ?_)
            refine lv_goto (tgt := 6) hx hb dX0_quotas_63 (by decide) ?_
            exact ih6 (i + 1) (x - ((P * (Wa i)) / S)) (ip_up Gv i ((P * (Wa i)) / S)) (by omega) (by rw [fb_sm_succ]; first | (rw [ip_qu_in (by omega) (by omega)]; generalize P * Wa i / S = z; omega) | (rw [ip_qu_out (by omega)]; omega)) (ip_fl_step eG (ip_qv_in (by omega) (by omega)).symm) (by omega) _ _ hP hD hS ls (lv_sub hl [0, 1, 2, 3, 4, 5] rfl)
  refine lv_iload_n hx hb dX0_quotas_0 rfl (lv_at hl 2 rfl) ?_
  refine lv_istore (lv' := [(4, .int (nI P)), (0, .ref (a 0)), (1, .int (nI r)), (2, .int (nI P)), (3, .int (nI S))]) hx hb dX0_quotas_1 hl (by decide) rfl (fun ls hl => ?_)
  refine lv_iconst (v := nI 0) hx hb dX0_quotas_3 (by decide) ?_
  refine lv_istore (lv' := [(5, .int (nI 0)), (4, .int (nI P)), (0, .ref (a 0)), (1, .int (nI r)), (2, .int (nI P)), (3, .int (nI S))]) hx hb dX0_quotas_4 hl (by decide) rfl (fun ls hl => ?_)
  exact lp6 _ 0 P Ga (by omega) (rfl) (ip_fl_0 _ _) (Nat.lt_succ_self _) _ _ hP hD hS ls (lv_sub hl [0, 1, 2, 3, 4, 5] rfl)
end
section
/-! ===== pure: one rank's allocation out of the pool's steps ===== -/
theorem ip_aw_zero {L : Nat → Nat} {lo rest c : Nat} (h : L c = 0) : ip_aw L lo rest c = 0 := by rw [ip_aw_iff, h]; (repeat' split) <;> omega
theorem ip_lo_zero {L : Nat → Nat} {lo rest c : Nat} (h : L c = 0) : ip_lo L lo rest c = 0 := by rw [ip_lo_iff, h]; (repeat' split) <;> omega
theorem ip_ms_0 (W : Nat → Nat) : ip_ms W 0 = W := funext fun _ => if_pos rfl
theorem ip_ms_1 (W : Nat → Nat) : ip_ms W 1 = ip_hN W := funext fun _ => if_neg (by decide)
theorem ip_tl_bound {W R G L0 : Nat → Nat} {r h n : Nat} (hW : ∀ j, W j ≤ 150) : ∀ j, j < n → ip_fl (ip_tv W R G r h) L0 n j ≤ 150 := fun j hj => by
  rw [ip_fl_in hj]
  have h1 := hW j
  have h2 := ip_ms_le W h j
  unfold ip_tv
  split <;> omega
theorem ip_aw_rank {W R G L0 L G' : Nat → Nat} {r n h units lo : Nat} (hW : ∀ j, W j ≤ 150) (h0 : ∀ j, j < n → R j = r → G j = 0) (hu : units ≤ ip_rs R r (ip_ms W h) n) (eL : L = ip_fl (ip_tv W R G r h) L0 n) (ha : ip_awl L n units lo) (eG : G' = ip_fl (fun j => G j + ip_aw L lo (units - fb_sm (ip_mn L lo) n) j) G n) :
    ip_I R r ip_eqN ip_one ip_zer (ip_ms W h) n G' ∧ ip_rs R r G' n = units ∧ ∀ j, (n ≤ j ∨ R j ≠ r) → G' j = G j := by
  have hL : ∀ c, c < n → L c = if R c = r then ip_ms W h c else 0 := fun c hc => by
    rw [eL, ip_fl_in hc]
    unfold ip_tv
    by_cases e : R c = r
    · rw [if_pos e, if_pos e, h0 c hc e, Nat.sub_zero]
    · rw [if_neg e, if_neg e]
  obtain ⟨a1, a2⟩ := ip_aw_I (G := G') ha (fun c _ => Nat.le_trans (ip_ms_le W h c) (hW c)) hL hu (fun c hc rc => by
    rw [eG, ip_fl_in hc, h0 c hc rc, Nat.zero_add])
  refine ⟨a1, a2, fun j hj => ?_⟩
  rw [eG]
  by_cases q : j < n
  · rw [ip_fl_in q]
    have e : L j = 0 := by rw [hL j q, if_neg (by omega)]
    rw [ip_aw_zero e, Nat.add_zero]
  · rw [ip_fl_out (by omega)]
theorem ip_lo_rank {W R G L0 L G' : Nat → Nat} {r n units lo : Nat} (hW : ∀ j, W j ≤ 150) (hB : ∀ j, j < n → R j = r → G j ≤ W j) (hu : ip_rs R r G n + units ≤ ip_rs R r W n) (eL : L = ip_fl (ip_tv W R G r 0) L0 n) (ha : ip_lol L n units lo) (eG : G' = ip_fl (fun j => G j + ip_lo L lo (units - fb_sm (fun c => L c - lo) n) j) G n) :
    ip_I R r (ip_loN W) ip_one G W n G' ∧ ip_rs R r G' n = ip_rs R r G n + units ∧ ∀ j, (n ≤ j ∨ R j ≠ r) → G' j = G j := by
  have hL : ∀ c, c < n → L c = if R c = r then W c - G c else 0 := fun c hc => by
    rw [eL, ip_fl_in hc]
    unfold ip_tv
    rw [ip_ms_0]
  obtain ⟨a1, a2⟩ := ip_lo_I (G := G') ha hW hB hL hu (fun c hc rc => by rw [eG, ip_fl_in hc])
  refine ⟨a1, a2, fun j hj => ?_⟩
  rw [eG]
  by_cases q : j < n
  · rw [ip_fl_in q]
    have e : L j = 0 := by rw [hL j q, if_neg (by omega)]
    rw [ip_lo_zero e, Nat.add_zero]
  · rw [ip_fl_out (by omega)]
theorem ip_ra_eq {W R U G L0 L G' : Nat → Nat} {r n P lo : Nat} (hW : ∀ j, W j ≤ 150) (q : U r = 0) (h0 : ∀ j, j < n → R j = r → G j = 0) (hu : P ≤ ip_rs R r W n) (eL : L = ip_fl (ip_tv W R G r 0) L0 n) (ha : ip_awl L n P lo) (eG : G' = ip_fl (fun j => G j + ip_aw L lo (P - fb_sm (ip_mn L lo) n) j) G n) :
    ip_RA W R U n r P G' ∧ ∀ j, (n ≤ j ∨ R j ≠ r) → G' j = G j := by
  obtain ⟨a1, a2, a3⟩ := ip_aw_rank hW h0 (by rw [ip_ms_0]; exact hu) eL ha eG
  rw [ip_ms_0] at a1
  exact ⟨⟨a2, by rw [if_pos q]; exact a1⟩, a3⟩
theorem ip_ra_lo {W R U G L0 L G' : Nat → Nat} {r n P lo : Nat} (hW : ∀ j, W j ≤ 150) (q : U r = 1) (h0 : ∀ j, j < n → R j = r → G j = 0) (hu : P ≤ ip_rs R r W n) (eL : L = ip_fl (ip_tv W R G r 0) L0 n) (ha : ip_lol L n P lo) (eG : G' = ip_fl (fun j => G j + ip_lo L lo (P - fb_sm (fun c => L c - lo) n) j) G n) :
    ip_RA W R U n r P G' ∧ ∀ j, (n ≤ j ∨ R j ≠ r) → G' j = G j := by
  have z : ip_rs R r G n = 0 := ip_rs_zero h0
  obtain ⟨a1, a2, a3⟩ := ip_lo_rank hW (fun j hj rj => by rw [h0 j hj rj]; exact Nat.zero_le _) (by omega) eL ha eG
  refine ⟨⟨by omega, ?_⟩, a3⟩
  rw [if_neg (by omega), if_pos q]
  exact ip_I_cong a1 h0 (fun _ _ _ => rfl)
theorem ip_ra_q {W R U G G' : Nat → Nat} {r n P : Nat} (q : U r = 2) (h : ip_I R r ip_shN W ip_zer W n G' ∧ ip_rs R r G' n = P ∧ ∀ j, (n ≤ j ∨ R j ≠ r) → G' j = G j) :
    ip_RA W R U n r P G' ∧ ∀ j, (n ≤ j ∨ R j ≠ r) → G' j = G j := by
  refine ⟨⟨h.2.1, ?_⟩, h.2.2⟩
  rw [if_neg (by omega), if_neg (by omega), if_pos q]
  exact h.1
theorem ip_half_1 {W R G L0 L G' : Nat → Nat} {r n S f lo : Nat} (hW : ∀ j, W j ≤ 150) (h0 : ∀ j, j < n → R j = r → G j = 0) (hS : S = ip_rs R r W n) (hf : f ≤ (S + 1) / 2) (eL : L = ip_fl (ip_tv W R G r 1) L0 n) (ha : ip_awl L n f lo) (eG : G' = ip_fl (fun j => G j + ip_aw L lo (f - fb_sm (ip_mn L lo) n) j) G n) :
    ip_I R r ip_eqN ip_one ip_zer (ip_hN W) n G' ∧ ip_rs R r G' n = f ∧ ∀ j, (n ≤ j ∨ R j ≠ r) → G' j = G j := by
  have hh := ip_rs_half R r W n
  have := ip_aw_rank hW h0 (by rw [ip_ms_1]; omega) eL ha eG
  rw [ip_ms_1] at this
  exact this
theorem ip_ra_half {W R U G L0 L G1 G2 : Nat → Nat} {r n P S f lo : Nat} (hW : ∀ j, W j ≤ 150) (q0 : U r ≠ 0) (q1 : U r ≠ 1) (q2 : U r ≠ 2) (hS : S = ip_rs R r W n) (hP : P ≤ S) (hf : f ≤ P) (hf2 : f = P ∧ P ≤ (S + 1) / 2 ∨ f = (S + 1) / 2)
    (h1 : ip_I R r ip_eqN ip_one ip_zer (ip_hN W) n G1 ∧ ip_rs R r G1 n = f ∧ ∀ j, (n ≤ j ∨ R j ≠ r) → G1 j = G j) (eL : L = ip_fl (ip_tv W R G1 r 0) L0 n) (ha : ip_lol L n (P - f) lo) (eG : G2 = ip_fl (fun j => G1 j + ip_lo L lo (P - f - fb_sm (fun c => L c - lo) n) j) G1 n) :
    ip_RA W R U n r P G2 ∧ ∀ j, (n ≤ j ∨ R j ≠ r) → G2 j = G j := by
  obtain ⟨i1, s1, f1⟩ := h1
  obtain ⟨a1, a2, a3⟩ := ip_lo_rank hW (fun j hj rj => Nat.le_trans (i1.1 j hj rj).2 (ip_hN_le W j)) (by omega) eL ha eG
  refine ⟨⟨by omega, ?_⟩, fun j hj => by rw [a3 j hj, f1 j hj]⟩
  rw [if_neg q0, if_neg q1, if_neg q2, ← hS]
  by_cases q : P ≤ (S + 1) / 2
  · rw [if_pos q]
    have e : f = P := by omega
    have eg : ∀ c, c < n → R c = r → G1 c = G2 c := ip_rs_eq (fun c hc rc => (a1.1 c hc rc).1) (by omega)
    exact ip_I_cong i1 (fun _ _ _ => rfl) eg
  · rw [if_neg q]
    exact ⟨G1, by omega, i1, a1⟩
/-- rank after rank -/
theorem ip_so_done {W R U G G2 : Nat → Nat} {n k r part : Nat} (hd : ∀ q, q < r → ip_RA W R U n q (min (k - ip_pf W R n q) (ip_rs R q W n)) G) (h : ip_RA W R U n r part G2) (hp : part = min (k - ip_pf W R n r) (ip_rs R r W n)) (hf : ∀ j, (n ≤ j ∨ R j ≠ r) → G2 j = G j) :
    ∀ q, q < r + 1 → ip_RA W R U n q (min (k - ip_pf W R n q) (ip_rs R q W n)) G2 := by
  intro q hq
  by_cases e : q = r
  · rw [e, ← hp]; exact h
  · exact ip_RA_cong (hd q (by omega)) (fun c _ rc => (hf c (Or.inr (by omega))).symm)
theorem ip_up_back (f : Nat → Nat) (k v : Nat) : ip_up (ip_up f k v) k (f k) = f := by
  funext j
  by_cases e : j = k
  · rw [e, ip_up_s]
  · rw [ip_up_n e, ip_up_n e]
theorem ip_ls_end {W R U : Nat → Nat} {n c x lo hi k : Nat} (hk : k ≤ 12) (hlh : lo ≤ hi ∧ hi ≤ 1500) (h1 : ∀ e, e < lo → ip_hd W R U n e c < x) (h2 : x ≤ ip_hd W R U n hi c) (h3 : hi - lo ≤ ip_hv 1500 k) (hx : 12 ≤ k ∨ hi ≤ lo) : ip_ls W R U n c x = lo := by
  have e : hi = lo := by
    rcases hx with q | q
    · rw [show k = 12 by omega, ip_hv_12] at h3; omega
    · omega
  rw [e] at h2
  exact ip_ls_eq (by omega) h1 h2
theorem ip_hd_top {W R U : Nat → Nat} {n pt k c : Nat} (hI : ip_AI (W, R, U, n, pt)) (hk : 1500 ≤ k) (hc : c < n) : ip_hd W R U n k c = W c := by
  obtain ⟨hW, hR, hU, hn, hpt⟩ := hI
  have h1 := ip_pf_le (n := n) hW hR hn
  exact ip_hd_full hW hR hU (by omega) c hc
end
section
/-! ===== the pool: a rank, all ranks; printed by gen_pool3.py ===== -/
abbrev rmX0_shareRank : Room := { frames := 2, cells := 0, slots := 0, locals := 49 }
abbrev rmX0_shareOut : Room := { frames := 3, cells := 0, slots := 0, locals := 74 }
theorem cwX0_shareRank {s : State} {args : Array Value} {Rm : Room} (hts : ∀ w ∈ lw_all, w.before args s = true) (hR : rmX0_shareRank.frames + 1 ≤ Rm.frames ∧ 8 + (6 + 11) + rmX0_shareRank.locals ≤ Rm.locals) : CallW Rm s args RX0 RX0 56 yX0_shareRank cX0_shareRank 6 none (ws_ yX0_shareRank cX0_shareRank 6 none) rmX0_shareRank 0 0 3 :=
  cwV 3 hts (lw_V q112 q114 qs3 q19 q115) rfl rfl rfl (by decide +kernel) hR
theorem cwX0_shareOut {s : State} {args : Array Value} {Rm : Room} (hts : ∀ w ∈ lw_all, w.before args s = true) (hR : rmX0_shareOut.frames + 1 ≤ Rm.frames ∧ 8 + (6 + 11) + rmX0_shareOut.locals ≤ Rm.locals) : CallW Rm s args RX0 RX0 45 yX0_shareOut cX0_shareOut 6 none (ws_ yX0_shareOut cX0_shareOut 6 none) rmX0_shareOut 0 0 1 :=
  cwV 1 hts (lw_V q104 q106 qs1 q19 q107) rfl rfl rfl (by decide +kernel) hR
set_option maxHeartbeats 4000000 in
set_option maxRecDepth 100000 in
/-- what P units give on rank r -/
theorem kX0_shareRank (l : Launch) (D : va_G) (d : ClassId) (a : Nat → Nat) (Wa Ra Ua Ga La Ea : Nat → Nat) (n pt ov : Nat) (hI : ip_AI (Wa, Ra, Ua, n, pt)) (r P S : Nat) (hr : r < 4) (hS' : S = ip_rs Ra r Wa n) (hPS : P ≤ S) (hG0 : ∀ j, j < n → Ra j = r → Ga j = 0) : ip_Mv l yX0_shareRank (ws_ yX0_shareRank cX0_shareRank 6 none) rmX0_shareRank D d (pw a d Wa Ra Ua Ga La Ea n pt ov) [.ref (a 0), .int (nI r), .int (nI P), .int (nI S)] (S := (Nat → Nat) × (Nat → Nat)) (fun u => ip_RA Wa Ra Ua n r P u.1 ∧ ∀ j, (n ≤ j ∨ Ra j ≠ r) → u.1 j = Ga j) (fun u => (pw a d Wa Ra Ua u.1 u.2 Ea n pt ov)) := by
  obtain ⟨hW, hR, hU, hn, hpt⟩ := id hI
  have hW : ∀ j, Wa j ≤ 150 := hW
  have hR : ∀ j, Ra j < 4 := hR
  have hU : ∀ j, Ua j < 4 := hU
  have hn : n ≤ 8 := hn
  have hpt : pt ≤ 1500 := hpt
  refine ip_ent_v (by decide) (Nat.le_of_ble_eq_true rfl) ?_
  intro p e s m args below meth c A Q hx hb hml hown hts hA hK hP hD hS hret ls hl
  have hown : s.vm.findClass RX0 = some m.cls := hown
  have hl : lv_has ls 6 [(0, .ref (a 0)), (1, .int (nI r)), (2, .int (nI P)), (3, .int (nI S))] := hl
  have hSb : S ≤ 1200 := by rw [hS']; exact ip_rs_bound (fun c _ => hW c) hn
  refine lv_aload_n hx hb dX0_shareRank_0 rfl (lv_at hl 0 rfl) ?_
  refine x0_get_U hx hb hts hown hK hP dX0_shareRank_1 ?_
  refine lv_iload_n hx hb dX0_shareRank_4 rfl (lv_at hl 1 rfl) ?_
  refine x0_ald_U hx hb hK hP (by omega) dX0_shareRank_5 ?_
  have b_1 := hU r
  refine n_if_ne (tgt := 23) hx hb dX0_shareRank_6 (by decide) (by omega) (fun c_2 => ?_) (fun c_2 => ?_)
  · skip
    refine lv_aload_n hx hb dX0_shareRank_23 rfl (lv_at hl 0 rfl) ?_
    refine x0_get_U hx hb hts hown hK hP dX0_shareRank_24 ?_
    refine lv_iload_n hx hb dX0_shareRank_27 rfl (lv_at hl 1 rfl) ?_
    refine x0_ald_U hx hb hK hP (by omega) dX0_shareRank_28 ?_
    have b_3 := hU r
    refine lv_iconst (v := nI 1) hx hb dX0_shareRank_29 (by decide) ?_
    refine n_icmp_ne (tgt := 47) hx hb dX0_shareRank_30 (by decide) (by omega) (by omega) (fun c_4 => ?_) (fun c_4 => ?_)
    · skip
      refine lv_aload_n hx hb dX0_shareRank_47 rfl (lv_at hl 0 rfl) ?_
      refine x0_get_U hx hb hts hown hK hP dX0_shareRank_48 ?_
      refine lv_iload_n hx hb dX0_shareRank_51 rfl (lv_at hl 1 rfl) ?_
      refine x0_ald_U hx hb hK hP (by omega) dX0_shareRank_52 ?_
      have b_5 := hU r
      refine lv_iconst (v := nI 2) hx hb dX0_shareRank_53 (by decide) ?_
      refine n_icmp_ne (tgt := 67) hx hb dX0_shareRank_54 (by decide) (by omega) (by omega) (fun c_6 => ?_) (fun c_6 => ?_)
      · skip
        refine lv_iload_n hx hb dX0_shareRank_67 rfl (lv_at hl 3 rfl) ?_
        refine lv_iconst (v := nI 1) hx hb dX0_shareRank_68 (by decide) ?_
        refine n_iadd hx hb dX0_shareRank_69 ?_
        refine lv_iconst (v := nI 1) hx hb dX0_shareRank_70 (by decide) ?_
        refine n_half hx hb dX0_shareRank_71 (by omega) ?_
        refine lv_istore (lv' := [(4, .int (nI ((S + 1) / 2))), (0, .ref (a 0)), (1, .int (nI r)), (2, .int (nI P)), (3, .int (nI S))]) hx hb dX0_shareRank_72 hl (by decide) rfl (fun ls hl => ?_)
        refine lv_iload_n hx hb dX0_shareRank_74 rfl (lv_at hl 3 rfl) ?_
        refine lv_iload hx hb dX0_shareRank_75 (lv_at hl 0 rfl) ?_
        refine n_icmp_ge (tgt := 84) hx hb dX0_shareRank_77 (by decide) (by omega) (by omega) (fun c_7 => ?_) (fun c_7 => ?_)
        · skip
          refine lv_iload hx hb dX0_shareRank_84 (lv_at hl 0 rfl) ?_
          refine lv_istore (lv' := [(5, .int (nI ((S + 1) / 2))), (4, .int (nI ((S + 1) / 2))), (0, .ref (a 0)), (1, .int (nI r)), (2, .int (nI P)), (3, .int (nI S))]) hx hb dX0_shareRank_86 hl (by decide) rfl (fun ls hl => ?_)
          refine lv_aload_n hx hb dX0_shareRank_88 rfl (lv_at hl 2 rfl) ?_
          refine lv_iload_n hx hb dX0_shareRank_89 rfl (lv_at hl 3 rfl) ?_
          refine lv_iconst (v := nI 1) hx hb dX0_shareRank_90 (by decide) ?_
          refine ip_callV_v (own := RX0) (C := RX0) (x := a 0) [.int (nI r), .int (nI 1)] hx hb hml hown hts hA hK (kX0_takeLimits l D d a Wa Ra Ua Ga La Ea n pt ov hI r 1 (by omega) (by omega) (fun j hj rj => by rw [hG0 j hj rj]; exact Nat.zero_le _)) (cwX0_takeLimits hts ⟨Nat.le_of_ble_eq_true rfl, Nat.le_of_ble_eq_true rfl⟩) ⟨0, _, _, rfl, rfl, rfl⟩ hP hD hS hl.1 rfl (Nat.le_of_ble_eq_true rfl) dX0_shareRank_91 ⟨Nat.zero_le _, Nat.zero_le _⟩ (fun u_9 H locs hw_11 hP hD hS => ?_)
          have eLv_8' : ∀ j, j < n → ip_fl (ip_tv Wa Ra Ga r 1) La n j ≤ 150 := ip_tl_bound hW
          generalize eLv_8 : ip_fl (ip_tv Wa Ra Ga r 1) La n = Lv_8 at hP hD eLv_8'
          refine lv_aload_n hx hb dX0_shareRank_94 rfl (lv_at hl 2 rfl) ?_
          refine lv_iload hx hb dX0_shareRank_95 (lv_at hl 0 rfl) ?_
          refine ip_callV_v (own := RX0) (C := RX0) (x := a 0) [.int (nI ((S + 1) / 2))] hx hb hml hown hts hA hK (kX0_award l D d a Wa Ra Ua Ga Lv_8 Ea n pt ov hI ((S + 1) / 2) (by omega) eLv_8') (cwX0_award hts ⟨Nat.le_of_ble_eq_true rfl, Nat.le_of_ble_eq_true rfl⟩) ⟨0, _, _, rfl, rfl, rfl⟩ hP hD hS hl.1 rfl (Nat.le_of_ble_eq_true rfl) dX0_shareRank_97 ⟨Nat.zero_le _, Nat.zero_le _⟩ (fun u_13 H locs hw_15 hP hD hS => ?_)
          generalize eGv_12 : ip_fl (fun j => Ga j + ip_aw Lv_8 u_13 ((S + 1) / 2 - fb_sm (ip_mn Lv_8 u_13) n) j) Ga n = Gv_12 at hP hD
          have z1 := ip_half_1 hW hG0 hS' (by omega) eLv_8.symm hw_15 eGv_12.symm
          refine lv_aload_n hx hb dX0_shareRank_100 rfl (lv_at hl 2 rfl) ?_
          refine lv_iload_n hx hb dX0_shareRank_101 rfl (lv_at hl 3 rfl) ?_
          refine lv_iconst (v := nI 0) hx hb dX0_shareRank_102 (by decide) ?_
          refine ip_callV_v (own := RX0) (C := RX0) (x := a 0) [.int (nI r), .int (nI 0)] hx hb hml hown hts hA hK (kX0_takeLimits l D d a Wa Ra Ua Gv_12 Lv_8 Ea n pt ov hI r 0 (by omega) (by omega) (fun j hj rj => by rw [ip_ms_0]; exact Nat.le_trans (z1.1.1 j hj rj).2 (ip_hN_le Wa j))) (cwX0_takeLimits hts ⟨Nat.le_of_ble_eq_true rfl, Nat.le_of_ble_eq_true rfl⟩) ⟨0, _, _, rfl, rfl, rfl⟩ hP hD hS hl.1 rfl (Nat.le_of_ble_eq_true rfl) dX0_shareRank_103 ⟨Nat.zero_le _, Nat.zero_le _⟩ (fun u_17 H locs hw_19 hP hD hS => ?_)
          have eLv_16' : ∀ j, j < n → ip_fl (ip_tv Wa Ra Gv_12 r 0) Lv_8 n j ≤ 150 := ip_tl_bound hW
          generalize eLv_16 : ip_fl (ip_tv Wa Ra Gv_12 r 0) Lv_8 n = Lv_16 at hP hD eLv_16'
          refine lv_aload_n hx hb dX0_shareRank_106 rfl (lv_at hl 2 rfl) ?_
          refine lv_iload_n hx hb dX0_shareRank_107 rfl (lv_at hl 4 rfl) ?_
          refine lv_iload hx hb dX0_shareRank_108 (lv_at hl 0 rfl) ?_
          refine n_isub hx hb dX0_shareRank_110 (by omega) ?_
          refine ip_callV_v (own := RX0) (C := RX0) (x := a 0) [.int (nI (P - ((S + 1) / 2)))] hx hb hml hown hts hA hK (kX0_lose l D d a Wa Ra Ua Gv_12 Lv_16 Ea n pt ov hI (P - ((S + 1) / 2)) (by omega) eLv_16') (cwX0_lose hts ⟨Nat.le_of_ble_eq_true rfl, Nat.le_of_ble_eq_true rfl⟩) ⟨0, _, _, rfl, rfl, rfl⟩ hP hD hS hl.1 rfl (Nat.le_of_ble_eq_true rfl) dX0_shareRank_111 ⟨Nat.zero_le _, Nat.zero_le _⟩ (fun u_21 H locs hw_23 hP hD hS => ?_)
          generalize eGv_20 : ip_fl (fun j => Gv_12 j + ip_lo Lv_16 u_21 (P - ((S + 1) / 2) - fb_sm (fun c => Lv_16 c - u_21) n) j) Gv_12 n = Gv_20 at hP hD
          exact hret (Gv_20, Lv_16) _ _ _ _ dX0_shareRank_114 (ip_ra_half (f := (S + 1) / 2) hW (by omega) (by omega) (by omega) hS' hPS (by omega) (by omega) z1 eLv_16.symm hw_23 eGv_20.symm) hP hD hS
        · skip
          refine lv_iload_n hx hb dX0_shareRank_80 rfl (lv_at hl 3 rfl) ?_
          refine lv_goto (tgt := 86) hx hb dX0_shareRank_81 (by decide) ?_
          refine lv_istore (lv' := [(5, .int (nI P)), (4, .int (nI ((S + 1) / 2))), (0, .ref (a 0)), (1, .int (nI r)), (2, .int (nI P)), (3, .int (nI S))]) hx hb dX0_shareRank_86 hl (by decide) rfl (fun ls hl => ?_)
          refine lv_aload_n hx hb dX0_shareRank_88 rfl (lv_at hl 2 rfl) ?_
          refine lv_iload_n hx hb dX0_shareRank_89 rfl (lv_at hl 3 rfl) ?_
          refine lv_iconst (v := nI 1) hx hb dX0_shareRank_90 (by decide) ?_
          refine ip_callV_v (own := RX0) (C := RX0) (x := a 0) [.int (nI r), .int (nI 1)] hx hb hml hown hts hA hK (kX0_takeLimits l D d a Wa Ra Ua Ga La Ea n pt ov hI r 1 (by omega) (by omega) (fun j hj rj => by rw [hG0 j hj rj]; exact Nat.zero_le _)) (cwX0_takeLimits hts ⟨Nat.le_of_ble_eq_true rfl, Nat.le_of_ble_eq_true rfl⟩) ⟨0, _, _, rfl, rfl, rfl⟩ hP hD hS hl.1 rfl (Nat.le_of_ble_eq_true rfl) dX0_shareRank_91 ⟨Nat.zero_le _, Nat.zero_le _⟩ (fun u_25 H locs hw_27 hP hD hS => ?_)
          have eLv_24' : ∀ j, j < n → ip_fl (ip_tv Wa Ra Ga r 1) La n j ≤ 150 := ip_tl_bound hW
          generalize eLv_24 : ip_fl (ip_tv Wa Ra Ga r 1) La n = Lv_24 at hP hD eLv_24'
          refine lv_aload_n hx hb dX0_shareRank_94 rfl (lv_at hl 2 rfl) ?_
          refine lv_iload hx hb dX0_shareRank_95 (lv_at hl 0 rfl) ?_
          refine ip_callV_v (own := RX0) (C := RX0) (x := a 0) [.int (nI P)] hx hb hml hown hts hA hK (kX0_award l D d a Wa Ra Ua Ga Lv_24 Ea n pt ov hI P (by omega) eLv_24') (cwX0_award hts ⟨Nat.le_of_ble_eq_true rfl, Nat.le_of_ble_eq_true rfl⟩) ⟨0, _, _, rfl, rfl, rfl⟩ hP hD hS hl.1 rfl (Nat.le_of_ble_eq_true rfl) dX0_shareRank_97 ⟨Nat.zero_le _, Nat.zero_le _⟩ (fun u_29 H locs hw_31 hP hD hS => ?_)
          generalize eGv_28 : ip_fl (fun j => Ga j + ip_aw Lv_24 u_29 (P - fb_sm (ip_mn Lv_24 u_29) n) j) Ga n = Gv_28 at hP hD
          have z1 := ip_half_1 hW hG0 hS' (by omega) eLv_24.symm hw_31 eGv_28.symm
          refine lv_aload_n hx hb dX0_shareRank_100 rfl (lv_at hl 2 rfl) ?_
          refine lv_iload_n hx hb dX0_shareRank_101 rfl (lv_at hl 3 rfl) ?_
          refine lv_iconst (v := nI 0) hx hb dX0_shareRank_102 (by decide) ?_
          refine ip_callV_v (own := RX0) (C := RX0) (x := a 0) [.int (nI r), .int (nI 0)] hx hb hml hown hts hA hK (kX0_takeLimits l D d a Wa Ra Ua Gv_28 Lv_24 Ea n pt ov hI r 0 (by omega) (by omega) (fun j hj rj => by rw [ip_ms_0]; exact Nat.le_trans (z1.1.1 j hj rj).2 (ip_hN_le Wa j))) (cwX0_takeLimits hts ⟨Nat.le_of_ble_eq_true rfl, Nat.le_of_ble_eq_true rfl⟩) ⟨0, _, _, rfl, rfl, rfl⟩ hP hD hS hl.1 rfl (Nat.le_of_ble_eq_true rfl) dX0_shareRank_103 ⟨Nat.zero_le _, Nat.zero_le _⟩ (fun u_33 H locs hw_35 hP hD hS => ?_)
          have eLv_32' : ∀ j, j < n → ip_fl (ip_tv Wa Ra Gv_28 r 0) Lv_24 n j ≤ 150 := ip_tl_bound hW
          generalize eLv_32 : ip_fl (ip_tv Wa Ra Gv_28 r 0) Lv_24 n = Lv_32 at hP hD eLv_32'
          refine lv_aload_n hx hb dX0_shareRank_106 rfl (lv_at hl 2 rfl) ?_
          refine lv_iload_n hx hb dX0_shareRank_107 rfl (lv_at hl 4 rfl) ?_
          refine lv_iload hx hb dX0_shareRank_108 (lv_at hl 0 rfl) ?_
          refine n_isub hx hb dX0_shareRank_110 (by omega) ?_
          refine ip_callV_v (own := RX0) (C := RX0) (x := a 0) [.int (nI (P - P))] hx hb hml hown hts hA hK (kX0_lose l D d a Wa Ra Ua Gv_28 Lv_32 Ea n pt ov hI (P - P) (by omega) eLv_32') (cwX0_lose hts ⟨Nat.le_of_ble_eq_true rfl, Nat.le_of_ble_eq_true rfl⟩) ⟨0, _, _, rfl, rfl, rfl⟩ hP hD hS hl.1 rfl (Nat.le_of_ble_eq_true rfl) dX0_shareRank_111 ⟨Nat.zero_le _, Nat.zero_le _⟩ (fun u_37 H locs hw_39 hP hD hS => ?_)
          generalize eGv_36 : ip_fl (fun j => Gv_28 j + ip_lo Lv_32 u_37 (P - P - fb_sm (fun c => Lv_32 c - u_37) n) j) Gv_28 n = Gv_36 at hP hD
          exact hret (Gv_36, Lv_32) _ _ _ _ dX0_shareRank_114 (ip_ra_half (f := P) hW (by omega) (by omega) (by omega) hS' hPS (by omega) (by omega) z1 eLv_32.symm hw_39 eGv_36.symm) hP hD hS
      · skip
        refine lv_aload_n hx hb dX0_shareRank_57 rfl (lv_at hl 0 rfl) ?_
        refine lv_iload_n hx hb dX0_shareRank_58 rfl (lv_at hl 1 rfl) ?_
        refine lv_iload_n hx hb dX0_shareRank_59 rfl (lv_at hl 2 rfl) ?_
        refine lv_iload_n hx hb dX0_shareRank_60 rfl (lv_at hl 3 rfl) ?_
        refine ip_callV_v (own := RX0) (C := RX0) (x := a 0) [.int (nI r), .int (nI P), .int (nI S)] hx hb hml hown hts hA hK (kX0_quotas l D d a Wa Ra Ua Ga La Ea n pt ov hI r P S (by omega) hS' hPS hG0) (cwX0_quotas hts ⟨Nat.le_of_ble_eq_true rfl, Nat.le_of_ble_eq_true rfl⟩) ⟨0, _, _, rfl, rfl, rfl⟩ hP hD hS hl.1 rfl (Nat.le_of_ble_eq_true rfl) dX0_shareRank_61 ⟨Nat.zero_le _, Nat.zero_le _⟩ (fun u_40 H locs hw_42 hP hD hS => ?_)
        refine lv_goto (tgt := 114) hx hb dX0_shareRank_64 (by decide) ?_
        exact hret (u_40, La) _ _ _ _ dX0_shareRank_114 (ip_ra_q (by omega) hw_42) hP hD hS
    · skip
      refine lv_aload_n hx hb dX0_shareRank_33 rfl (lv_at hl 0 rfl) ?_
      refine lv_iload_n hx hb dX0_shareRank_34 rfl (lv_at hl 1 rfl) ?_
      refine lv_iconst (v := nI 0) hx hb dX0_shareRank_35 (by decide) ?_
      refine ip_callV_v (own := RX0) (C := RX0) (x := a 0) [.int (nI r), .int (nI 0)] hx hb hml hown hts hA hK (kX0_takeLimits l D d a Wa Ra Ua Ga La Ea n pt ov hI r 0 (by omega) (by omega) (fun j hj rj => by rw [hG0 j hj rj]; exact Nat.zero_le _)) (cwX0_takeLimits hts ⟨Nat.le_of_ble_eq_true rfl, Nat.le_of_ble_eq_true rfl⟩) ⟨0, _, _, rfl, rfl, rfl⟩ hP hD hS hl.1 rfl (Nat.le_of_ble_eq_true rfl) dX0_shareRank_36 ⟨Nat.zero_le _, Nat.zero_le _⟩ (fun u_44 H locs hw_46 hP hD hS => ?_)
      have eLv_43' : ∀ j, j < n → ip_fl (ip_tv Wa Ra Ga r 0) La n j ≤ 150 := ip_tl_bound hW
      generalize eLv_43 : ip_fl (ip_tv Wa Ra Ga r 0) La n = Lv_43 at hP hD eLv_43'
      refine lv_aload_n hx hb dX0_shareRank_39 rfl (lv_at hl 0 rfl) ?_
      refine lv_iload_n hx hb dX0_shareRank_40 rfl (lv_at hl 2 rfl) ?_
      refine ip_callV_v (own := RX0) (C := RX0) (x := a 0) [.int (nI P)] hx hb hml hown hts hA hK (kX0_lose l D d a Wa Ra Ua Ga Lv_43 Ea n pt ov hI P (by omega) eLv_43') (cwX0_lose hts ⟨Nat.le_of_ble_eq_true rfl, Nat.le_of_ble_eq_true rfl⟩) ⟨0, _, _, rfl, rfl, rfl⟩ hP hD hS hl.1 rfl (Nat.le_of_ble_eq_true rfl) dX0_shareRank_41 ⟨Nat.zero_le _, Nat.zero_le _⟩ (fun u_48 H locs hw_50 hP hD hS => ?_)
      generalize eGv_47 : ip_fl (fun j => Ga j + ip_lo Lv_43 u_48 (P - fb_sm (fun c => Lv_43 c - u_48) n) j) Ga n = Gv_47 at hP hD
      refine lv_goto (tgt := 114) hx hb dX0_shareRank_44 (by decide) ?_
      exact hret (Gv_47, Lv_43) _ _ _ _ dX0_shareRank_114 (ip_ra_lo hW (by omega) hG0 (by omega) eLv_43.symm hw_50 eGv_47.symm) hP hD hS
  · skip
    refine lv_aload_n hx hb dX0_shareRank_9 rfl (lv_at hl 0 rfl) ?_
    refine lv_iload_n hx hb dX0_shareRank_10 rfl (lv_at hl 1 rfl) ?_
    refine lv_iconst (v := nI 0) hx hb dX0_shareRank_11 (by decide) ?_
    refine ip_callV_v (own := RX0) (C := RX0) (x := a 0) [.int (nI r), .int (nI 0)] hx hb hml hown hts hA hK (kX0_takeLimits l D d a Wa Ra Ua Ga La Ea n pt ov hI r 0 (by omega) (by omega) (fun j hj rj => by rw [hG0 j hj rj]; exact Nat.zero_le _)) (cwX0_takeLimits hts ⟨Nat.le_of_ble_eq_true rfl, Nat.le_of_ble_eq_true rfl⟩) ⟨0, _, _, rfl, rfl, rfl⟩ hP hD hS hl.1 rfl (Nat.le_of_ble_eq_true rfl) dX0_shareRank_12 ⟨Nat.zero_le _, Nat.zero_le _⟩ (fun u_52 H locs hw_54 hP hD hS => ?_)
    have eLv_51' : ∀ j, j < n → ip_fl (ip_tv Wa Ra Ga r 0) La n j ≤ 150 := ip_tl_bound hW
    generalize eLv_51 : ip_fl (ip_tv Wa Ra Ga r 0) La n = Lv_51 at hP hD eLv_51'
    refine lv_aload_n hx hb dX0_shareRank_15 rfl (lv_at hl 0 rfl) ?_
    refine lv_iload_n hx hb dX0_shareRank_16 rfl (lv_at hl 2 rfl) ?_
    refine ip_callV_v (own := RX0) (C := RX0) (x := a 0) [.int (nI P)] hx hb hml hown hts hA hK (kX0_award l D d a Wa Ra Ua Ga Lv_51 Ea n pt ov hI P (by omega) eLv_51') (cwX0_award hts ⟨Nat.le_of_ble_eq_true rfl, Nat.le_of_ble_eq_true rfl⟩) ⟨0, _, _, rfl, rfl, rfl⟩ hP hD hS hl.1 rfl (Nat.le_of_ble_eq_true rfl) dX0_shareRank_17 ⟨Nat.zero_le _, Nat.zero_le _⟩ (fun u_56 H locs hw_58 hP hD hS => ?_)
    generalize eGv_55 : ip_fl (fun j => Ga j + ip_aw Lv_51 u_56 (P - fb_sm (ip_mn Lv_51 u_56) n) j) Ga n = Gv_55 at hP hD
    refine lv_goto (tgt := 114) hx hb dX0_shareRank_20 (by decide) ?_
    exact hret (Gv_55, Lv_51) _ _ _ _ dX0_shareRank_114 (ip_ra_eq hW (by omega) hG0 (by omega) eLv_51.symm hw_58 eGv_55.symm) hP hD hS
set_option maxHeartbeats 4000000 in
set_option maxRecDepth 100000 in
/-- what k units give to all: as unit by unit -/
theorem kX0_shareOut (l : Launch) (D : va_G) (d : ClassId) (a : Nat → Nat) (Wa Ra Ua Ga La Ea : Nat → Nat) (n pt ov : Nat) (hI : ip_AI (Wa, Ra, Ua, n, pt)) (k : Nat) (hk : k ≤ 1501) : ip_Mv l yX0_shareOut (ws_ yX0_shareOut cX0_shareOut 6 none) rmX0_shareOut D d (pw a d Wa Ra Ua Ga La Ea n pt ov) [.ref (a 0), .int (nI k)] (S := (Nat → Nat) × (Nat → Nat)) (fun u => (∀ j, j < n → u.1 j = ip_hd Wa Ra Ua n k j) ∧ ∀ j, n ≤ j → u.1 j = Ga j) (fun u => (pw a d Wa Ra Ua u.1 u.2 Ea n pt (k - ip_pf Wa Ra n 4))) := by
  obtain ⟨hW, hR, hU, hn, hpt⟩ := id hI
  have hW : ∀ j, Wa j ≤ 150 := hW
  have hR : ∀ j, Ra j < 4 := hR
  have hU : ∀ j, Ua j < 4 := hU
  have hn : n ≤ 8 := hn
  have hpt : pt ≤ 1500 := hpt
  refine ip_ent_v (by decide) (Nat.le_of_ble_eq_true rfl) ?_
  intro p e s m args below meth c A Q hx hb hml hown hts hA hK hP hD hS hret ls hl
  have hown : s.vm.findClass RX0 = some m.cls := hown
  have hl : lv_has ls 6 [(0, .ref (a 0)), (1, .int (nI k))] := hl
  have lp27 : ∀ (N27 : Nat) (r : Nat) (x : Nat) (Gv : Nat → Nat) (Lv : Nat → Nat), (r ≤ 4) → (x = k - ip_pf Wa Ra n r) → (∀ q, q < r → ip_RA Wa Ra Ua n q (min (k - ip_pf Wa Ra n q) (ip_rs Ra q Wa n)) Gv) → (∀ j, j < n → r ≤ Ra j → Gv j = 0) → (∀ j, n ≤ j → Gv j = Ga j) → 4 - r < N27 → ∀ (H : Heap) (locs : List Loc), va_P D ip_cl (pw a d Wa Ra Ua Gv Lv Ea n pt ov) H → va_D A (pw a d Wa Ra Ua Gv Lv Ea n pt ov) → va_S A s.heap H locs → ∀ (ls : Array Slot), lv_has ls 6 [(3, .int (nI r)), (2, .int (nI x)), (0, .ref (a 0)), (1, .int (nI k))] → W p l e rmX0_shareOut s m args below meth c H locs 0 0 Q (F0 m 27 ls []) := by
    intro N27
    induction N27 with
    | zero =>
      intro r x Gv Lv _ _ _ _ _ hm
      exact absurd hm (Nat.not_lt_zero _)
    | succ N27 ih27 =>
      intro r x Gv Lv hr ex hdone hzero hfr hm27 H locs hP hD hS ls hl
      refine lv_iload_n hx hb dX0_shareOut_27 rfl (lv_at hl 0 rfl) ?_
      refine lv_iconst (v := nI 4) hx hb dX0_shareOut_28 (by decide) ?_
      refine n_icmp_ge (tgt := 73) hx hb dX0_shareOut_29 (by decide) (by omega) (by omega) (fun c_1 => ?_) (fun c_1 => ?_)
      · skip
        obtain rfl : r = 4 := by omega
        subst ex
        refine lv_aload_n hx hb dX0_shareOut_73 rfl (lv_at hl 2 rfl) ?_
        refine lv_iload_n hx hb dX0_shareOut_74 rfl (lv_at hl 1 rfl) ?_
        refine x0_put_ov hx hb hts hown hK hP hD hS dX0_shareOut_75 (fun H locs hP hD hS => ?_)
        exact hret (Gv, Lv) _ _ _ _ dX0_shareOut_78 (⟨ip_J_uniq hW hR hdone (ip_hd_J hW hR hU k), hfr⟩) hP hD hS
      · skip
        refine lv_aload_n hx hb dX0_shareOut_32 rfl (lv_at hl 2 rfl) ?_
        refine lv_iload_n hx hb dX0_shareOut_33 rfl (lv_at hl 0 rfl) ?_
        refine ip_callV_i (own := RX0) (C := RX0) (x := a 0) [.int (nI r)] hx hb hml hown hts hA hK (kX0_total l D d a Wa Ra Ua Gv Lv Ea n pt ov hI r (by omega)) (cwX0_total hts ⟨Nat.le_of_ble_eq_true rfl, Nat.le_of_ble_eq_true rfl⟩) ⟨0, _, _, rfl, rfl, rfl⟩ hP hD hS hl.1 rfl (Nat.le_of_ble_eq_true rfl) dX0_shareOut_34 ⟨Nat.zero_le _, Nat.zero_le _⟩ (fun r_3 u_2 H locs hw_4 hP hD hS => ?_)
        subst hw_4
        have b_5 := ip_rs_bound (R := Ra) (r := r) (G := Wa) (n := n) (fun c _ => hW c) hn
        refine lv_istore (lv' := [(4, .int (nI (ip_rs Ra r Wa n))), (3, .int (nI r)), (2, .int (nI x)), (0, .ref (a 0)), (1, .int (nI k))]) hx hb dX0_shareOut_37 hl (by decide) rfl (fun ls hl => ?_)
        refine lv_iload_n hx hb dX0_shareOut_39 rfl (lv_at hl 2 rfl) ?_
        refine lv_iload hx hb dX0_shareOut_40 (lv_at hl 0 rfl) ?_
        refine n_icmp_ge (tgt := 49) hx hb dX0_shareOut_42 (by decide) (by omega) (by omega) (fun c_6 => ?_) (fun c_6 => ?_)
        · skip
          refine lv_iload hx hb dX0_shareOut_49 (lv_at hl 0 rfl) ?_
          refine lv_istore (lv' := [(5, .int (nI (ip_rs Ra r Wa n))), (4, .int (nI (ip_rs Ra r Wa n))), (3, .int (nI r)), (2, .int (nI x)), (0, .ref (a 0)), (1, .int (nI k))]) hx hb dX0_shareOut_51 hl (by decide) rfl (fun ls hl => ?_)
          refine lv_aload_n hx hb dX0_shareOut_53 rfl (lv_at hl 4 rfl) ?_
          refine lv_iload_n hx hb dX0_shareOut_54 rfl (lv_at hl 2 rfl) ?_
          refine lv_iload hx hb dX0_shareOut_55 (lv_at hl 0 rfl) ?_
          refine lv_iload hx hb dX0_shareOut_57 (lv_at hl 1 rfl) ?_
          refine ip_callV_v (own := RX0) (C := RX0) (x := a 0) [.int (nI r), .int (nI (ip_rs Ra r Wa n)), .int (nI (ip_rs Ra r Wa n))] hx hb hml hown hts hA hK (kX0_shareRank l D d a Wa Ra Ua Gv Lv Ea n pt ov hI r (ip_rs Ra r Wa n) (ip_rs Ra r Wa n) (by omega) rfl (by omega) (fun j hj rj => hzero j hj (by omega))) (cwX0_shareRank hts ⟨Nat.le_of_ble_eq_true rfl, Nat.le_of_ble_eq_true rfl⟩) ⟨0, _, _, rfl, rfl, rfl⟩ hP hD hS hl.1 rfl (Nat.le_of_ble_eq_true rfl) dX0_shareOut_59 ⟨Nat.zero_le _, Nat.zero_le _⟩ (fun u_9 H locs hw_11 hP hD hS => ?_)
          obtain ⟨Gv_7, Lv_8⟩ := u_9
          obtain ⟨hRA, hfr2⟩ := hw_11
          have hRA : ip_RA Wa Ra Ua n r (ip_rs Ra r Wa n) Gv_7 := hRA
          have hfr2 : ∀ j, (n ≤ j ∨ Ra j ≠ r) → Gv_7 j = Gv j := hfr2
          refine lv_iload_n hx hb dX0_shareOut_62 rfl (lv_at hl 3 rfl) ?_
          refine lv_iload hx hb dX0_shareOut_63 (lv_at hl 0 rfl) ?_
          refine n_isub hx hb dX0_shareOut_65 (by omega) ?_
          refine lv_istore_n (lv' := [(2, .int (nI (x - (ip_rs Ra r Wa n)))), (5, .int (nI (ip_rs Ra r Wa n))), (4, .int (nI (ip_rs Ra r Wa n))), (3, .int (nI r)), (0, .ref (a 0)), (1, .int (nI k))]) hx hb dX0_shareOut_66 rfl hl (by decide) rfl (fun ls hl => ?_)
          refine lv_iinc (v := nI (r + 1)) (lv' := [(3, .int (nI (r + 1))), (2, .int (nI (x - (ip_rs Ra r Wa n)))), (5, .int (nI (ip_rs Ra r Wa n))), (4, .int (nI (ip_rs Ra r Wa n))), (0, .ref (a 0)), (1, .int (nI k))]) hx hb dX0_shareOut_67 hl (k := 3) rfl (ip_inc r) (by decide) rfl (fun ls hl => ?_)
          refine lv_goto (tgt := 27) hx hb dX0_shareOut_70 (by decide) ?_
          exact ih27 (r + 1) (x - (ip_rs Ra r Wa n)) Gv_7 Lv_8 (by omega) (by rw [ip_pf_succ]; omega) (ip_so_done hdone hRA (by omega) hfr2) (fun j hj hq => by rw [hfr2 j (Or.inr (by omega))]; exact hzero j hj (by omega)) (fun j hj => by rw [hfr2 j (Or.inl hj)]; exact hfr j hj) (by omega) _ _ hP hD hS ls (lv_sub hl [0, 1, 4, 5] rfl)
        · skip
          refine lv_iload_n hx hb dX0_shareOut_45 rfl (lv_at hl 2 rfl) ?_
          refine lv_goto (tgt := 51) hx hb dX0_shareOut_46 (by decide) ?_
          refine lv_istore (lv' := [(5, .int (nI x)), (4, .int (nI (ip_rs Ra r Wa n))), (3, .int (nI r)), (2, .int (nI x)), (0, .ref (a 0)), (1, .int (nI k))]) hx hb dX0_shareOut_51 hl (by decide) rfl (fun ls hl => ?_)
          refine lv_aload_n hx hb dX0_shareOut_53 rfl (lv_at hl 4 rfl) ?_
          refine lv_iload_n hx hb dX0_shareOut_54 rfl (lv_at hl 2 rfl) ?_
          refine lv_iload hx hb dX0_shareOut_55 (lv_at hl 0 rfl) ?_
          refine lv_iload hx hb dX0_shareOut_57 (lv_at hl 1 rfl) ?_
          refine ip_callV_v (own := RX0) (C := RX0) (x := a 0) [.int (nI r), .int (nI x), .int (nI (ip_rs Ra r Wa n))] hx hb hml hown hts hA hK (kX0_shareRank l D d a Wa Ra Ua Gv Lv Ea n pt ov hI r x (ip_rs Ra r Wa n) (by omega) rfl (by omega) (fun j hj rj => hzero j hj (by omega))) (cwX0_shareRank hts ⟨Nat.le_of_ble_eq_true rfl, Nat.le_of_ble_eq_true rfl⟩) ⟨0, _, _, rfl, rfl, rfl⟩ hP hD hS hl.1 rfl (Nat.le_of_ble_eq_true rfl) dX0_shareOut_59 ⟨Nat.zero_le _, Nat.zero_le _⟩ (fun u_14 H locs hw_16 hP hD hS => ?_)
          obtain ⟨Gv_12, Lv_13⟩ := u_14
          obtain ⟨hRA, hfr2⟩ := hw_16
          have hRA : ip_RA Wa Ra Ua n r x Gv_12 := hRA
          have hfr2 : ∀ j, (n ≤ j ∨ Ra j ≠ r) → Gv_12 j = Gv j := hfr2
          refine lv_iload_n hx hb dX0_shareOut_62 rfl (lv_at hl 3 rfl) ?_
          refine lv_iload hx hb dX0_shareOut_63 (lv_at hl 0 rfl) ?_
          refine n_isub hx hb dX0_shareOut_65 (by omega) ?_
          refine lv_istore_n (lv' := [(2, .int (nI (x - x))), (5, .int (nI x)), (4, .int (nI (ip_rs Ra r Wa n))), (3, .int (nI r)), (0, .ref (a 0)), (1, .int (nI k))]) hx hb dX0_shareOut_66 rfl hl (by decide) rfl (fun ls hl => ?_)
          refine lv_iinc (v := nI (r + 1)) (lv' := [(3, .int (nI (r + 1))), (2, .int (nI (x - x))), (5, .int (nI x)), (4, .int (nI (ip_rs Ra r Wa n))), (0, .ref (a 0)), (1, .int (nI k))]) hx hb dX0_shareOut_67 hl (k := 3) rfl (ip_inc r) (by decide) rfl (fun ls hl => ?_)
          refine lv_goto (tgt := 27) hx hb dX0_shareOut_70 (by decide) ?_
          exact ih27 (r + 1) (x - x) Gv_12 Lv_13 (by omega) (by rw [ip_pf_succ]; omega) (ip_so_done hdone hRA (by omega) hfr2) (fun j hj hq => by rw [hfr2 j (Or.inr (by omega))]; exact hzero j hj (by omega)) (fun j hj => by rw [hfr2 j (Or.inl hj)]; exact hfr j hj) (by omega) _ _ hP hD hS ls (lv_sub hl [0, 1, 4, 5] rfl)
  have lp4 : ∀ (N4 : Nat) (i : Nat) (Gv : Nat → Nat), (i ≤ n) → (Gv = ip_fl (fun _ => 0) Ga i) → n - i < N4 → ∀ (H : Heap) (locs : List Loc), va_P D ip_cl (pw a d Wa Ra Ua Gv La Ea n pt ov) H → va_D A (pw a d Wa Ra Ua Gv La Ea n pt ov) → va_S A s.heap H locs → ∀ (ls : Array Slot), lv_has ls 6 [(3, .int (nI i)), (2, .int (nI k)), (0, .ref (a 0)), (1, .int (nI k))] → W p l e rmX0_shareOut s m args below meth c H locs 0 0 Q (F0 m 4 ls []) := by
    intro N4
    induction N4 with
    | zero =>
      intro i Gv _ _ hm
      exact absurd hm (Nat.not_lt_zero _)
    | succ N4 ih4 =>
      intro i Gv hi eG hm4 H locs hP hD hS ls hl
      refine lv_iload_n hx hb dX0_shareOut_4 rfl (lv_at hl 0 rfl) ?_
      refine lv_aload_n hx hb dX0_shareOut_5 rfl (lv_at hl 2 rfl) ?_
      refine x0_get_n hx hb hts hown hK hP dX0_shareOut_6 ?_
      refine n_icmp_ge (tgt := 25) hx hb dX0_shareOut_9 (by decide) (by omega) (by omega) (fun c_17 => ?_) (fun c_17 => ?_)
      · skip
        refine lv_iconst (v := nI 0) hx hb dX0_shareOut_25 (by decide) ?_
        refine lv_istore_n (lv' := [(3, .int (nI 0)), (2, .int (nI k)), (0, .ref (a 0)), (1, .int (nI k))]) hx hb dX0_shareOut_26 rfl hl (by decide) rfl (fun ls hl => ?_)
        exact lp27 _ 0 k Gv La (by omega) (rfl) (fun q hq => absurd hq (Nat.not_lt_zero q)) (fun j hj _ => by rw [eG, show i = n by omega, ip_fl_in hj]) (fun j hj => by rw [eG, show i = n by omega, ip_fl_out hj]) (Nat.lt_succ_self _) _ _ hP hD hS ls (lv_sub hl [0, 1, 2, 3] rfl)
      · skip
        refine lv_aload_n hx hb dX0_shareOut_12 rfl (lv_at hl 2 rfl) ?_
        refine x0_get_G hx hb hts hown hK hP dX0_shareOut_13 ?_
        refine lv_iload_n hx hb dX0_shareOut_16 rfl (lv_at hl 0 rfl) ?_
        refine lv_iconst (v := nI 0) hx hb dX0_shareOut_17 (by decide) ?_
        refine x0_ast_G hx hb hK hP hD hS (by omega) dX0_shareOut_18 (fun H locs hP hD hS => ?_)
        refine lv_iinc (v := nI (i + 1)) (lv' := [(3, .int (nI (i + 1))), (2, .int (nI k)), (0, .ref (a 0)), (1, .int (nI k))]) hx hb dX0_shareOut_19 hl (k := 0) rfl (ip_inc i) (by decide) rfl (fun ls hl => ?_)
        refine lv_goto (tgt := 4) hx hb dX0_shareOut_22 (by decide) ?_
        exact ih4 (i + 1) (ip_up Gv i 0) (by omega) (ip_fl_step eG rfl) (by omega) _ _ hP hD hS ls (lv_sub hl [0, 1, 2, 3] rfl)
  refine lv_iload_n hx hb dX0_shareOut_0 rfl (lv_at hl 1 rfl) ?_
  refine lv_istore_n (lv' := [(2, .int (nI k)), (0, .ref (a 0)), (1, .int (nI k))]) hx hb dX0_shareOut_1 rfl hl (by decide) rfl (fun ls hl => ?_)
  refine lv_iconst (v := nI 0) hx hb dX0_shareOut_2 (by decide) ?_
  refine lv_istore_n (lv' := [(3, .int (nI 0)), (2, .int (nI k)), (0, .ref (a 0)), (1, .int (nI k))]) hx hb dX0_shareOut_3 rfl hl (by decide) rfl (fun ls hl => ?_)
  exact lp4 _ 0 Ga (by omega) (ip_fl_0 _ _) (Nat.lt_succ_self _) _ _ hP hD hS ls (lv_sub hl [0, 1, 2, 3] rfl)
end
section
/-! ===== the pool: the public methods that share out; printed by gen_pool4.py ===== -/
abbrev rmX0_share : Room := { frames := 4, cells := 0, slots := 0, locals := 99 }
abbrev rmX0_shareOf : Room := { frames := 4, cells := 0, slots := 0, locals := 99 }
abbrev rmX0_shareUnder : Room := { frames := 4, cells := 0, slots := 0, locals := 99 }
abbrev rmX0_leastEstate : Room := { frames := 4, cells := 0, slots := 0, locals := 99 }
abbrev rmX0_paid : Room := { frames := 4, cells := 0, slots := 0, locals := 99 }
abbrev rmX0_left : Room := { frames := 4, cells := 0, slots := 0, locals := 99 }
abbrev rmX0_next : Room := { frames := 4, cells := 0, slots := 0, locals := 99 }
abbrev rmX0_unpaid : Room := { frames := 4, cells := 0, slots := 0, locals := 99 }
abbrev rmX0_worst : Room := { frames := 4, cells := 0, slots := 0, locals := 99 }
set_option maxHeartbeats 4000000 in
set_option maxRecDepth 100000 in
theorem kX0_share (l : Launch) (D : va_G) (d : ClassId) (a : Nat → Nat) (Wa Ra Ua Ga La Ea : Nat → Nat) (n pt ov : Nat) (hI : ip_AI (Wa, Ra, Ua, n, pt)) (p0 : Int32)  : ip_Mi l yX0_share (ws_ yX0_share cX0_share 2 (some .int)) rmX0_share D d (pw a d Wa Ra Ua Ga La Ea n pt ov) [.ref (a 0), .int p0] (S := ip_S0) (fun v u => (v, u.1) = sp_share Wa Ra Ua n pt p0) (pwS a d) := by
  obtain ⟨hW, hR, hU, hn, hpt⟩ := id hI
  have hW : ∀ j, Wa j ≤ 150 := hW
  have hR : ∀ j, Ra j < 4 := hR
  have hU : ∀ j, Ua j < 4 := hU
  have hn : n ≤ 8 := hn
  have hpt : pt ≤ 1500 := hpt
  refine ip_ent_i (by decide) (Nat.le_of_ble_eq_true rfl) ?_
  intro p e s m args below meth c A Q hx hb hml hown hts hA hK hP hD hS hret ls hl
  have hown : s.vm.findClass RX0 = some m.cls := hown
  have hl : lv_has ls 2 [(0, .ref (a 0)), (1, .int p0)] := hl
  refine lv_aload_n hx hb dX0_share_0 rfl (lv_at hl 0 rfl) ?_
  refine lv_iload_n hx hb dX0_share_1 rfl (lv_at hl 1 rfl) ?_
  refine ip_callV_i (own := RX0) (C := RX0) (x := a 0) [.int p0] hx hb hml hown hts hA hK (kX0_isCreditor l D d a Wa Ra Ua Ga La Ea n pt ov hI p0) (cwX0_isCreditor hts ⟨Nat.le_of_ble_eq_true rfl, Nat.le_of_ble_eq_true rfl⟩) ⟨0, _, _, rfl, rfl, rfl⟩ hP hD hS hl.1 rfl (Nat.le_of_ble_eq_true rfl) dX0_share_2 ⟨Nat.zero_le _, Nat.zero_le _⟩ (fun r_2 u_1 H locs hw_3 hP hD hS => ?_)
  rcases hw_3 with ⟨rfl, hx_p0⟩ | ⟨rfl, k_p0, hk_p0, rfl, hx_p0⟩
  · skip
    refine n_if_ne (tgt := 10) hx hb dX0_share_5 (by decide) (by omega) (fun h => absurd h (by omega)) (fun _ => ?_)
    refine lv_iconst (v := (-1)) hx hb dX0_share_8 (by decide) ?_
    exact hret ((Wa, Ra, Ua, n, pt), Ga, La, Ea, ov) _ _ _ _ _ dX0_share_9 (by simp [sp_share, hx_p0]) hP hD hS
  · skip
    refine n_if_ne (tgt := 10) hx hb dX0_share_5 (by decide) (by omega) (fun _ => ?_) (fun h => absurd h (by omega))
    refine lv_aload_n hx hb dX0_share_10 rfl (lv_at hl 0 rfl) ?_
    refine lv_aload_n hx hb dX0_share_11 rfl (lv_at hl 0 rfl) ?_
    refine x0_get_pt hx hb hts hown hK hP dX0_share_12 ?_
    refine ip_callV_v (own := RX0) (C := RX0) (x := a 0) [.int (nI pt)] hx hb hml hown hts hA hK (kX0_shareOut l D d a Wa Ra Ua Ga La Ea n pt ov hI pt (by omega)) (cwX0_shareOut hts ⟨Nat.le_of_ble_eq_true rfl, Nat.le_of_ble_eq_true rfl⟩) ⟨0, _, _, rfl, rfl, rfl⟩ hP hD hS hl.1 rfl (Nat.le_of_ble_eq_true rfl) dX0_share_15 ⟨Nat.zero_le _, Nat.zero_le _⟩ (fun u_8 H locs hw_10 hP hD hS => ?_)
    obtain ⟨Gv_6, Lv_7⟩ := u_8
    obtain ⟨hg, hgf⟩ := hw_10
    have hg : ∀ j, j < n → Gv_6 j = ip_hd Wa Ra Ua n pt j := hg
    have hP : va_P D ip_cl (pw a d Wa Ra Ua Gv_6 Lv_7 Ea n pt (pt - ip_pf Wa Ra n 4)) H := hP
    have hD : va_D A (pw a d Wa Ra Ua Gv_6 Lv_7 Ea n pt (pt - ip_pf Wa Ra n 4)) := hD
    refine lv_aload_n hx hb dX0_share_18 rfl (lv_at hl 0 rfl) ?_
    refine x0_get_G hx hb hts hown hK hP dX0_share_19 ?_
    refine lv_iload_n hx hb dX0_share_22 rfl (lv_at hl 1 rfl) ?_
    refine x0_ald_G hx hb hK hP (by omega) dX0_share_23 ?_
    exact hret ((Wa, Ra, Ua, n, pt), Gv_6, Lv_7, Ea, (pt - ip_pf Wa Ra n 4)) _ _ _ _ _ dX0_share_24 (by simp [sp_share, hx_p0, hg k_p0 hk_p0]) hP hD hS
set_option maxHeartbeats 4000000 in
set_option maxRecDepth 100000 in
theorem kX0_shareOf (l : Launch) (D : va_G) (d : ClassId) (a : Nat → Nat) (Wa Ra Ua Ga La Ea : Nat → Nat) (n pt ov : Nat) (hI : ip_AI (Wa, Ra, Ua, n, pt)) (p0 q0 : Int32)  : ip_Mi l yX0_shareOf (ws_ yX0_shareOf cX0_shareOf 3 (some .int)) rmX0_shareOf D d (pw a d Wa Ra Ua Ga La Ea n pt ov) [.ref (a 0), .int p0, .int q0] (S := ip_S0) (fun v u => (v, u.1) = sp_shareOf Wa Ra Ua n pt p0 q0) (pwS a d) := by
  obtain ⟨hW, hR, hU, hn, hpt⟩ := id hI
  have hW : ∀ j, Wa j ≤ 150 := hW
  have hR : ∀ j, Ra j < 4 := hR
  have hU : ∀ j, Ua j < 4 := hU
  have hn : n ≤ 8 := hn
  have hpt : pt ≤ 1500 := hpt
  refine ip_ent_i (by decide) (Nat.le_of_ble_eq_true rfl) ?_
  intro p e s m args below meth c A Q hx hb hml hown hts hA hK hP hD hS hret ls hl
  have hown : s.vm.findClass RX0 = some m.cls := hown
  have hl : lv_has ls 3 [(0, .ref (a 0)), (1, .int p0), (2, .int q0)] := hl
  refine lv_aload_n hx hb dX0_shareOf_0 rfl (lv_at hl 0 rfl) ?_
  refine lv_iload_n hx hb dX0_shareOf_1 rfl (lv_at hl 1 rfl) ?_
  refine ip_callV_i (own := RX0) (C := RX0) (x := a 0) [.int p0] hx hb hml hown hts hA hK (kX0_isCreditor l D d a Wa Ra Ua Ga La Ea n pt ov hI p0) (cwX0_isCreditor hts ⟨Nat.le_of_ble_eq_true rfl, Nat.le_of_ble_eq_true rfl⟩) ⟨0, _, _, rfl, rfl, rfl⟩ hP hD hS hl.1 rfl (Nat.le_of_ble_eq_true rfl) dX0_shareOf_2 ⟨Nat.zero_le _, Nat.zero_le _⟩ (fun r_2 u_1 H locs hw_3 hP hD hS => ?_)
  rcases hw_3 with ⟨rfl, hx_p0⟩ | ⟨rfl, k_p0, hk_p0, rfl, hx_p0⟩
  · skip
    refine n_if_ne (tgt := 10) hx hb dX0_shareOf_5 (by decide) (by omega) (fun h => absurd h (by omega)) (fun _ => ?_)
    refine lv_iconst (v := (-1)) hx hb dX0_shareOf_8 (by decide) ?_
    exact hret ((Wa, Ra, Ua, n, pt), Ga, La, Ea, ov) _ _ _ _ _ dX0_shareOf_9 (by simp [sp_shareOf, hx_p0]) hP hD hS
  · skip
    refine n_if_ne (tgt := 10) hx hb dX0_shareOf_5 (by decide) (by omega) (fun _ => ?_) (fun h => absurd h (by omega))
    refine lv_iload_n hx hb dX0_shareOf_10 rfl (lv_at hl 2 rfl) ?_
    refine z_if_lt (tgt := 21) hx hb dX0_shareOf_11 (by decide) (fun c_6 => ?_) (fun c_6 => ?_)
    · skip
      refine lv_bipush (v := (-2)) hx hb dX0_shareOf_21 (by decide) ?_
      exact hret ((Wa, Ra, Ua, n, pt), Ga, La, Ea, ov) _ _ _ _ _ dX0_shareOf_23 (by simp [sp_shareOf, hx_p0, ip_ix_none (p := q0) (n := 1501) (by omega)]) hP hD hS
    · skip
      refine lv_iload_n hx hb dX0_shareOf_14 rfl (lv_at hl 2 rfl) ?_
      refine lv_sipush (v := nI 1500) hx hb dX0_shareOf_15 (by decide) ?_
      refine z_icmp_le (tgt := 24) hx hb dX0_shareOf_18 (by decide) (fun c_7 => ?_) (fun c_7 => ?_)
      · skip
        rw [nI_toInt (show 1500 < 2 ^ 31 by omega)] at c_7
        obtain ⟨k_q0, hk_q0, rfl, hx_q0⟩ := ip_ix_some (p := q0) (n := 1501) (by omega) (by omega)
        refine lv_aload_n hx hb dX0_shareOf_24 rfl (lv_at hl 0 rfl) ?_
        refine lv_iload_n hx hb dX0_shareOf_25 rfl (lv_at hl 2 rfl) ?_
        refine ip_callV_v (own := RX0) (C := RX0) (x := a 0) [.int (nI k_q0)] hx hb hml hown hts hA hK (kX0_shareOut l D d a Wa Ra Ua Ga La Ea n pt ov hI k_q0 (by omega)) (cwX0_shareOut hts ⟨Nat.le_of_ble_eq_true rfl, Nat.le_of_ble_eq_true rfl⟩) ⟨0, _, _, rfl, rfl, rfl⟩ hP hD hS hl.1 rfl (Nat.le_of_ble_eq_true rfl) dX0_shareOf_26 ⟨Nat.zero_le _, Nat.zero_le _⟩ (fun u_10 H locs hw_12 hP hD hS => ?_)
        obtain ⟨Gv_8, Lv_9⟩ := u_10
        obtain ⟨hg, hgf⟩ := hw_12
        have hg : ∀ j, j < n → Gv_8 j = ip_hd Wa Ra Ua n k_q0 j := hg
        have hP : va_P D ip_cl (pw a d Wa Ra Ua Gv_8 Lv_9 Ea n pt (k_q0 - ip_pf Wa Ra n 4)) H := hP
        have hD : va_D A (pw a d Wa Ra Ua Gv_8 Lv_9 Ea n pt (k_q0 - ip_pf Wa Ra n 4)) := hD
        refine lv_aload_n hx hb dX0_shareOf_29 rfl (lv_at hl 0 rfl) ?_
        refine x0_get_G hx hb hts hown hK hP dX0_shareOf_30 ?_
        refine lv_iload_n hx hb dX0_shareOf_33 rfl (lv_at hl 1 rfl) ?_
        refine x0_ald_G hx hb hK hP (by omega) dX0_shareOf_34 ?_
        exact hret ((Wa, Ra, Ua, n, pt), Gv_8, Lv_9, Ea, (k_q0 - ip_pf Wa Ra n 4)) _ _ _ _ _ dX0_shareOf_35 (by simp [sp_shareOf, hx_p0, hx_q0, hg k_p0 hk_p0]) hP hD hS
      · skip
        rw [nI_toInt (show 1500 < 2 ^ 31 by omega)] at c_7
        refine lv_bipush (v := (-2)) hx hb dX0_shareOf_21 (by decide) ?_
        exact hret ((Wa, Ra, Ua, n, pt), Ga, La, Ea, ov) _ _ _ _ _ dX0_shareOf_23 (by simp [sp_shareOf, hx_p0, ip_ix_none (p := q0) (n := 1501) (by omega)]) hP hD hS
set_option maxHeartbeats 4000000 in
set_option maxRecDepth 100000 in
theorem kX0_shareUnder (l : Launch) (D : va_G) (d : ClassId) (a : Nat → Nat) (Wa Ra Ua Ga La Ea : Nat → Nat) (n pt ov : Nat) (hI : ip_AI (Wa, Ra, Ua, n, pt)) (p0 q0 : Int32)  : ip_Mi l yX0_shareUnder (ws_ yX0_shareUnder cX0_shareUnder 5 (some .int)) rmX0_shareUnder D d (pw a d Wa Ra Ua Ga La Ea n pt ov) [.ref (a 0), .int p0, .int q0] (S := ip_S0) (fun v u => (v, u.1) = sp_shareUnder Wa Ra Ua n pt p0 q0) (pwS a d) := by
  obtain ⟨hW, hR, hU, hn, hpt⟩ := id hI
  have hW : ∀ j, Wa j ≤ 150 := hW
  have hR : ∀ j, Ra j < 4 := hR
  have hU : ∀ j, Ua j < 4 := hU
  have hn : n ≤ 8 := hn
  have hpt : pt ≤ 1500 := hpt
  refine ip_ent_i (by decide) (Nat.le_of_ble_eq_true rfl) ?_
  intro p e s m args below meth c A Q hx hb hml hown hts hA hK hP hD hS hret ls hl
  have hown : s.vm.findClass RX0 = some m.cls := hown
  have hl : lv_has ls 5 [(0, .ref (a 0)), (1, .int p0), (2, .int q0)] := hl
  refine lv_aload_n hx hb dX0_shareUnder_0 rfl (lv_at hl 0 rfl) ?_
  refine lv_iload_n hx hb dX0_shareUnder_1 rfl (lv_at hl 1 rfl) ?_
  refine ip_callV_i (own := RX0) (C := RX0) (x := a 0) [.int p0] hx hb hml hown hts hA hK (kX0_isCreditor l D d a Wa Ra Ua Ga La Ea n pt ov hI p0) (cwX0_isCreditor hts ⟨Nat.le_of_ble_eq_true rfl, Nat.le_of_ble_eq_true rfl⟩) ⟨0, _, _, rfl, rfl, rfl⟩ hP hD hS hl.1 rfl (Nat.le_of_ble_eq_true rfl) dX0_shareUnder_2 ⟨Nat.zero_le _, Nat.zero_le _⟩ (fun r_2 u_1 H locs hw_3 hP hD hS => ?_)
  rcases hw_3 with ⟨rfl, hx_p0⟩ | ⟨rfl, k_p0, hk_p0, rfl, hx_p0⟩
  · skip
    refine n_if_ne (tgt := 10) hx hb dX0_shareUnder_5 (by decide) (by omega) (fun h => absurd h (by omega)) (fun _ => ?_)
    refine lv_iconst (v := (-1)) hx hb dX0_shareUnder_8 (by decide) ?_
    exact hret ((Wa, Ra, Ua, n, pt), Ga, La, Ea, ov) _ _ _ _ _ dX0_shareUnder_9 (by simp [sp_shareUnder, hx_p0]) hP hD hS
  · skip
    refine n_if_ne (tgt := 10) hx hb dX0_shareUnder_5 (by decide) (by omega) (fun _ => ?_) (fun h => absurd h (by omega))
    refine lv_iload_n hx hb dX0_shareUnder_10 rfl (lv_at hl 2 rfl) ?_
    refine ip_callS_i (own := RX0) [.int q0] hx hb hml hown hts hA hK (kX0_isRule l D d a Wa Ra Ua Ga La Ea n pt ov hI q0) (cwX0_isRule hts ⟨Nat.le_of_ble_eq_true rfl, Nat.le_of_ble_eq_true rfl⟩) hP hD hS hl.1 rfl (Nat.le_of_ble_eq_true rfl) dX0_shareUnder_11 ⟨Nat.zero_le _, Nat.zero_le _⟩ (fun r_7 u_6 H locs hw_8 hP hD hS => ?_)
    rcases hw_8 with ⟨rfl, hx_q0⟩ | ⟨rfl, k_q0, hk_q0, rfl, hx_q0⟩
    · skip
      refine n_if_ne (tgt := 20) hx hb dX0_shareUnder_14 (by decide) (by omega) (fun h => absurd h (by omega)) (fun _ => ?_)
      refine lv_bipush (v := (-2)) hx hb dX0_shareUnder_17 (by decide) ?_
      exact hret ((Wa, Ra, Ua, n, pt), Ga, La, Ea, ov) _ _ _ _ _ dX0_shareUnder_19 (by simp [sp_shareUnder, hx_p0, hx_q0]) hP hD hS
    · skip
      refine n_if_ne (tgt := 20) hx hb dX0_shareUnder_14 (by decide) (by omega) (fun _ => ?_) (fun h => absurd h (by omega))
      refine lv_aload_n hx hb dX0_shareUnder_20 rfl (lv_at hl 0 rfl) ?_
      refine x0_get_R hx hb hts hown hK hP dX0_shareUnder_21 ?_
      refine lv_iload_n hx hb dX0_shareUnder_24 rfl (lv_at hl 1 rfl) ?_
      refine x0_ald_R hx hb hK hP (by omega) dX0_shareUnder_25 ?_
      have b_11 := hR k_p0
      refine lv_istore_n (lv' := [(3, .int (nI (Ra k_p0))), (0, .ref (a 0)), (1, .int (nI k_p0)), (2, .int (nI k_q0))]) hx hb dX0_shareUnder_26 rfl hl (by decide) rfl (fun ls hl => ?_)
      refine lv_aload_n hx hb dX0_shareUnder_27 rfl (lv_at hl 1 rfl) ?_
      refine x0_get_U hx hb hts hown hK hP dX0_shareUnder_28 ?_
      refine lv_iload_n hx hb dX0_shareUnder_31 rfl (lv_at hl 0 rfl) ?_
      refine x0_ald_U hx hb hK hP (by omega) dX0_shareUnder_32 ?_
      have b_12 := hU (Ra k_p0)
      refine lv_istore (lv' := [(4, .int (nI (Ua (Ra k_p0)))), (3, .int (nI (Ra k_p0))), (0, .ref (a 0)), (1, .int (nI k_p0)), (2, .int (nI k_q0))]) hx hb dX0_shareUnder_33 hl (by decide) rfl (fun ls hl => ?_)
      refine lv_aload_n hx hb dX0_shareUnder_35 rfl (lv_at hl 2 rfl) ?_
      refine x0_get_U hx hb hts hown hK hP dX0_shareUnder_36 ?_
      refine lv_iload_n hx hb dX0_shareUnder_39 rfl (lv_at hl 1 rfl) ?_
      refine lv_iload_n hx hb dX0_shareUnder_40 rfl (lv_at hl 4 rfl) ?_
      refine x0_ast_U hx hb hK hP hD hS (by omega) dX0_shareUnder_41 (fun H locs hP hD hS => ?_)
      refine lv_aload_n hx hb dX0_shareUnder_42 rfl (lv_at hl 2 rfl) ?_
      refine lv_aload_n hx hb dX0_shareUnder_43 rfl (lv_at hl 2 rfl) ?_
      refine x0_get_pt hx hb hts hown hK hP dX0_shareUnder_44 ?_
      refine ip_callV_v (own := RX0) (C := RX0) (x := a 0) [.int (nI pt)] hx hb hml hown hts hA hK (kX0_shareOut l D d a Wa Ra (ip_up Ua (Ra k_p0) k_q0) Ga La Ea n pt ov ⟨hW, hR, ip_up_all (P := fun x => x < 4) hU hk_q0 (Ra k_p0), hn, hpt⟩ pt (by omega)) (cwX0_shareOut hts ⟨Nat.le_of_ble_eq_true rfl, Nat.le_of_ble_eq_true rfl⟩) ⟨0, _, _, rfl, rfl, rfl⟩ hP hD hS hl.1 rfl (Nat.le_of_ble_eq_true rfl) dX0_shareUnder_47 ⟨Nat.zero_le _, Nat.zero_le _⟩ (fun u_15 H locs hw_17 hP hD hS => ?_)
      obtain ⟨Gv_13, Lv_14⟩ := u_15
      obtain ⟨hg, hgf⟩ := hw_17
      have hg : ∀ j, j < n → Gv_13 j = ip_hd Wa Ra (ip_up Ua (Ra k_p0) k_q0) n pt j := hg
      have hP : va_P D ip_cl (pw a d Wa Ra (ip_up Ua (Ra k_p0) k_q0) Gv_13 Lv_14 Ea n pt (pt - ip_pf Wa Ra n 4)) H := hP
      have hD : va_D A (pw a d Wa Ra (ip_up Ua (Ra k_p0) k_q0) Gv_13 Lv_14 Ea n pt (pt - ip_pf Wa Ra n 4)) := hD
      refine lv_aload_n hx hb dX0_shareUnder_50 rfl (lv_at hl 2 rfl) ?_
      refine x0_get_U hx hb hts hown hK hP dX0_shareUnder_51 ?_
      refine lv_iload_n hx hb dX0_shareUnder_54 rfl (lv_at hl 1 rfl) ?_
      refine lv_iload hx hb dX0_shareUnder_55 (lv_at hl 0 rfl) ?_
      refine x0_ast_U hx hb hK hP hD hS (by omega) dX0_shareUnder_57 (fun H locs hP hD hS => ?_)
      rw [ip_up_back] at hP hD
      refine lv_aload_n hx hb dX0_shareUnder_58 rfl (lv_at hl 2 rfl) ?_
      refine x0_get_G hx hb hts hown hK hP dX0_shareUnder_59 ?_
      refine lv_iload_n hx hb dX0_shareUnder_62 rfl (lv_at hl 3 rfl) ?_
      refine x0_ald_G hx hb hK hP (by omega) dX0_shareUnder_63 ?_
      exact hret ((Wa, Ra, Ua, n, pt), Gv_13, Lv_14, Ea, (pt - ip_pf Wa Ra n 4)) _ _ _ _ _ dX0_shareUnder_64 (by simp [sp_shareUnder, hx_p0, hx_q0, hg k_p0 hk_p0]) hP hD hS
set_option maxHeartbeats 4000000 in
set_option maxRecDepth 100000 in
theorem kX0_leastEstate (l : Launch) (D : va_G) (d : ClassId) (a : Nat → Nat) (Wa Ra Ua Ga La Ea : Nat → Nat) (n pt ov : Nat) (hI : ip_AI (Wa, Ra, Ua, n, pt)) (p0 q0 : Int32)  : ip_Mi l yX0_leastEstate (ws_ yX0_leastEstate cX0_leastEstate 7 (some .int)) rmX0_leastEstate D d (pw a d Wa Ra Ua Ga La Ea n pt ov) [.ref (a 0), .int p0, .int q0] (S := ip_S0) (fun v u => (v, u.1) = sp_leastEstate Wa Ra Ua n pt p0 q0) (pwS a d) := by
  obtain ⟨hW, hR, hU, hn, hpt⟩ := id hI
  have hW : ∀ j, Wa j ≤ 150 := hW
  have hR : ∀ j, Ra j < 4 := hR
  have hU : ∀ j, Ua j < 4 := hU
  have hn : n ≤ 8 := hn
  have hpt : pt ≤ 1500 := hpt
  refine ip_ent_i (by decide) (Nat.le_of_ble_eq_true rfl) ?_
  intro p e s m args below meth c A Q hx hb hml hown hts hA hK hP hD hS hret ls hl
  have hown : s.vm.findClass RX0 = some m.cls := hown
  have hl : lv_has ls 7 [(0, .ref (a 0)), (1, .int p0), (2, .int q0)] := hl
  refine lv_aload_n hx hb dX0_leastEstate_0 rfl (lv_at hl 0 rfl) ?_
  refine lv_iload_n hx hb dX0_leastEstate_1 rfl (lv_at hl 1 rfl) ?_
  refine ip_callV_i (own := RX0) (C := RX0) (x := a 0) [.int p0] hx hb hml hown hts hA hK (kX0_isCreditor l D d a Wa Ra Ua Ga La Ea n pt ov hI p0) (cwX0_isCreditor hts ⟨Nat.le_of_ble_eq_true rfl, Nat.le_of_ble_eq_true rfl⟩) ⟨0, _, _, rfl, rfl, rfl⟩ hP hD hS hl.1 rfl (Nat.le_of_ble_eq_true rfl) dX0_leastEstate_2 ⟨Nat.zero_le _, Nat.zero_le _⟩ (fun r_2 u_1 H locs hw_3 hP hD hS => ?_)
  rcases hw_3 with ⟨rfl, hx_p0⟩ | ⟨rfl, k_p0, hk_p0, rfl, hx_p0⟩
  · skip
    refine n_if_ne (tgt := 10) hx hb dX0_leastEstate_5 (by decide) (by omega) (fun h => absurd h (by omega)) (fun _ => ?_)
    refine lv_iconst (v := (-1)) hx hb dX0_leastEstate_8 (by decide) ?_
    exact hret ((Wa, Ra, Ua, n, pt), Ga, La, Ea, ov) _ _ _ _ _ dX0_leastEstate_9 (by simp [sp_leastEstate, hx_p0]) hP hD hS
  · skip
    refine n_if_ne (tgt := 10) hx hb dX0_leastEstate_5 (by decide) (by omega) (fun _ => ?_) (fun h => absurd h (by omega))
    refine lv_iload_n hx hb dX0_leastEstate_10 rfl (lv_at hl 2 rfl) ?_
    refine z_if_lt (tgt := 21) hx hb dX0_leastEstate_11 (by decide) (fun c_6 => ?_) (fun c_6 => ?_)
    · skip
      refine lv_bipush (v := (-2)) hx hb dX0_leastEstate_21 (by decide) ?_
      exact hret ((Wa, Ra, Ua, n, pt), Ga, La, Ea, ov) _ _ _ _ _ dX0_leastEstate_23 (by simp [sp_leastEstate, hx_p0, ip_ix_none (p := q0) (n := 151) (by omega)]) hP hD hS
    · skip
      refine lv_iload_n hx hb dX0_leastEstate_14 rfl (lv_at hl 2 rfl) ?_
      refine lv_sipush (v := nI 150) hx hb dX0_leastEstate_15 (by decide) ?_
      refine z_icmp_le (tgt := 24) hx hb dX0_leastEstate_18 (by decide) (fun c_7 => ?_) (fun c_7 => ?_)
      · skip
        rw [nI_toInt (show 150 < 2 ^ 31 by omega)] at c_7
        obtain ⟨k_q0, hk_q0, rfl, hx_q0⟩ := ip_ix_some (p := q0) (n := 151) (by omega) (by omega)
        refine lv_iload_n hx hb dX0_leastEstate_24 rfl (lv_at hl 2 rfl) ?_
        refine lv_aload_n hx hb dX0_leastEstate_25 rfl (lv_at hl 0 rfl) ?_
        refine x0_get_W hx hb hts hown hK hP dX0_leastEstate_26 ?_
        refine lv_iload_n hx hb dX0_leastEstate_29 rfl (lv_at hl 1 rfl) ?_
        refine x0_ald_W hx hb hK hP (by omega) dX0_leastEstate_30 ?_
        have b_8 := hW k_p0
        refine n_icmp_le (tgt := 37) hx hb dX0_leastEstate_31 (by decide) (by omega) (by omega) (fun c_9 => ?_) (fun c_9 => ?_)
        · skip
          refine lv_iconst (v := nI 0) hx hb dX0_leastEstate_37 (by decide) ?_
          refine lv_istore_n (lv' := [(3, .int (nI 0)), (0, .ref (a 0)), (1, .int (nI k_p0)), (2, .int (nI k_q0))]) hx hb dX0_leastEstate_38 rfl hl (by decide) rfl (fun ls hl => ?_)
          refine lv_sipush (v := nI 1500) hx hb dX0_leastEstate_39 (by decide) ?_
          refine lv_istore (lv' := [(4, .int (nI 1500)), (3, .int (nI 0)), (0, .ref (a 0)), (1, .int (nI k_p0)), (2, .int (nI k_q0))]) hx hb dX0_leastEstate_42 hl (by decide) rfl (fun ls hl => ?_)
          refine lv_iconst (v := nI 0) hx hb dX0_leastEstate_44 (by decide) ?_
          refine lv_istore (lv' := [(5, .int (nI 0)), (4, .int (nI 1500)), (3, .int (nI 0)), (0, .ref (a 0)), (1, .int (nI k_p0)), (2, .int (nI k_q0))]) hx hb dX0_leastEstate_45 hl (by decide) rfl (fun ls hl => ?_)
          have lp47 : ∀ (N47 : Nat) (lo : Nat) (hi : Nat) (k : Nat) (Gv : Nat → Nat) (Lv : Nat → Nat) (ovv : Nat), (k ≤ 12) → (lo ≤ hi ∧ hi ≤ 1500) → (∀ e, e < lo → ip_hd Wa Ra Ua n e k_p0 < k_q0) → (k_q0 ≤ ip_hd Wa Ra Ua n hi k_p0) → (hi - lo ≤ ip_hv 1500 k) → 12 - k < N47 → ∀ (H : Heap) (locs : List Loc), va_P D ip_cl (pw a d Wa Ra Ua Gv Lv Ea n pt ovv) H → va_D A (pw a d Wa Ra Ua Gv Lv Ea n pt ovv) → va_S A s.heap H locs → ∀ (ls : Array Slot), lv_has ls 7 [(5, .int (nI k)), (4, .int (nI hi)), (3, .int (nI lo)), (0, .ref (a 0)), (1, .int (nI k_p0)), (2, .int (nI k_q0))] → W p l e rmX0_leastEstate s m args below meth c H locs 0 0 Q (F0 m 47 ls []) := by
            intro N47
            induction N47 with
            | zero =>
              intro lo hi k Gv Lv ovv _ _ _ _ _ hm
              exact absurd hm (Nat.not_lt_zero _)
            | succ N47 ih47 =>
              intro lo hi k Gv Lv ovv hk hlh h1 h2 h3 hm47 H locs hP hD hS ls hl
              refine lv_iload hx hb dX0_leastEstate_47 (lv_at hl 0 rfl) ?_
              refine lv_bipush (v := nI 12) hx hb dX0_leastEstate_49 (by decide) ?_
              refine n_icmp_ge (tgt := 102) hx hb dX0_leastEstate_51 (by decide) (by omega) (by omega) (fun c_10 => ?_) (fun c_10 => ?_)
              · skip
                have tl102 : ∀ (lo : Nat) (Gv : Nat → Nat) (Lv : Nat → Nat) (ovv : Nat), (ip_ls Wa Ra Ua n k_p0 k_q0 = lo) → ∀ (H : Heap) (locs : List Loc), va_P D ip_cl (pw a d Wa Ra Ua Gv Lv Ea n pt ovv) H → va_D A (pw a d Wa Ra Ua Gv Lv Ea n pt ovv) → va_S A s.heap H locs → ∀ (ls : Array Slot), lv_has ls 7 [(3, .int (nI lo))] → W p l e rmX0_leastEstate s m args below meth c H locs 0 0 Q (F0 m 102 ls []) := by
                  intro lo Gv Lv ovv els H locs hP hD hS ls hl
                  refine lv_iload_n hx hb dX0_leastEstate_102 rfl (lv_at hl 0 rfl) ?_
                  exact hret ((Wa, Ra, Ua, n, pt), Gv, Lv, Ea, ovv) _ _ _ _ _ dX0_leastEstate_103 (by simp [sp_leastEstate, hx_p0, hx_q0, show ¬ Wa k_p0 < k_q0 by omega, els]) hP hD hS
                exact tl102 lo Gv Lv ovv (ip_ls_end hk hlh h1 h2 h3 (by omega)) _ _ hP hD hS ls (lv_sub hl [2] rfl)
              · skip
                refine lv_iload_n hx hb dX0_leastEstate_54 rfl (lv_at hl 2 rfl) ?_
                refine lv_iload hx hb dX0_leastEstate_55 (lv_at hl 1 rfl) ?_
                refine n_icmp_ge (tgt := 102) hx hb dX0_leastEstate_57 (by decide) (by omega) (by omega) (fun c_11 => ?_) (fun c_11 => ?_)
                · skip
                  have tl102 : ∀ (lo : Nat) (Gv : Nat → Nat) (Lv : Nat → Nat) (ovv : Nat), (ip_ls Wa Ra Ua n k_p0 k_q0 = lo) → ∀ (H : Heap) (locs : List Loc), va_P D ip_cl (pw a d Wa Ra Ua Gv Lv Ea n pt ovv) H → va_D A (pw a d Wa Ra Ua Gv Lv Ea n pt ovv) → va_S A s.heap H locs → ∀ (ls : Array Slot), lv_has ls 7 [(3, .int (nI lo))] → W p l e rmX0_leastEstate s m args below meth c H locs 0 0 Q (F0 m 102 ls []) := by
                    intro lo Gv Lv ovv els H locs hP hD hS ls hl
                    refine lv_iload_n hx hb dX0_leastEstate_102 rfl (lv_at hl 0 rfl) ?_
                    exact hret ((Wa, Ra, Ua, n, pt), Gv, Lv, Ea, ovv) _ _ _ _ _ dX0_leastEstate_103 (by simp [sp_leastEstate, hx_p0, hx_q0, show ¬ Wa k_p0 < k_q0 by omega, els]) hP hD hS
                  exact tl102 lo Gv Lv ovv (ip_ls_end hk hlh h1 h2 h3 (by omega)) _ _ hP hD hS ls (lv_sub hl [2] rfl)
                · skip
                  refine lv_iload_n hx hb dX0_leastEstate_60 rfl (lv_at hl 2 rfl) ?_
                  refine lv_iload hx hb dX0_leastEstate_61 (lv_at hl 1 rfl) ?_
                  refine n_iadd hx hb dX0_leastEstate_63 ?_
                  refine lv_iconst (v := nI 1) hx hb dX0_leastEstate_64 (by decide) ?_
                  refine n_half hx hb dX0_leastEstate_65 (by omega) ?_
                  refine lv_istore (lv' := [(6, .int (nI ((lo + hi) / 2))), (5, .int (nI k)), (4, .int (nI hi)), (3, .int (nI lo)), (0, .ref (a 0)), (1, .int (nI k_p0)), (2, .int (nI k_q0))]) hx hb dX0_leastEstate_66 hl (by decide) rfl (fun ls hl => ?_)
                  refine lv_aload_n hx hb dX0_leastEstate_68 rfl (lv_at hl 4 rfl) ?_
                  refine lv_iload hx hb dX0_leastEstate_69 (lv_at hl 0 rfl) ?_
                  refine ip_callV_v (own := RX0) (C := RX0) (x := a 0) [.int (nI ((lo + hi) / 2))] hx hb hml hown hts hA hK (kX0_shareOut l D d a Wa Ra Ua Gv Lv Ea n pt ovv hI ((lo + hi) / 2) (by omega)) (cwX0_shareOut hts ⟨Nat.le_of_ble_eq_true rfl, Nat.le_of_ble_eq_true rfl⟩) ⟨0, _, _, rfl, rfl, rfl⟩ hP hD hS hl.1 rfl (Nat.le_of_ble_eq_true rfl) dX0_leastEstate_71 ⟨Nat.zero_le _, Nat.zero_le _⟩ (fun u_14 H locs hw_16 hP hD hS => ?_)
                  obtain ⟨Gv_12, Lv_13⟩ := u_14
                  obtain ⟨hg, hgf⟩ := hw_16
                  have hg : ∀ j, j < n → Gv_12 j = ip_hd Wa Ra Ua n ((lo + hi) / 2) j := hg
                  have hP : va_P D ip_cl (pw a d Wa Ra Ua Gv_12 Lv_13 Ea n pt ((lo + hi) / 2 - ip_pf Wa Ra n 4)) H := hP
                  have hD : va_D A (pw a d Wa Ra Ua Gv_12 Lv_13 Ea n pt ((lo + hi) / 2 - ip_pf Wa Ra n 4)) := hD
                  refine lv_aload_n hx hb dX0_leastEstate_74 rfl (lv_at hl 4 rfl) ?_
                  refine x0_get_G hx hb hts hown hK hP dX0_leastEstate_75 ?_
                  refine lv_iload_n hx hb dX0_leastEstate_78 rfl (lv_at hl 5 rfl) ?_
                  refine x0_ald_G hx hb hK hP (by omega) dX0_leastEstate_79 ?_
                  have b_17 := hg k_p0 (by omega)
                  refine lv_iload_n hx hb dX0_leastEstate_80 rfl (lv_at hl 6 rfl) ?_
                  have b_h := ip_hd_le hW hR hU ((lo + hi) / 2) k_p0 hk_p0
                  have b_w := hW k_p0
                  refine n_icmp_lt (tgt := 91) hx hb dX0_leastEstate_81 (by decide) (by omega) (by omega) (fun c_18 => ?_) (fun c_18 => ?_)
                  · skip
                    refine lv_iload hx hb dX0_leastEstate_91 (lv_at hl 0 rfl) ?_
                    refine lv_iconst (v := nI 1) hx hb dX0_leastEstate_93 (by decide) ?_
                    refine n_iadd hx hb dX0_leastEstate_94 ?_
                    refine lv_istore_n (lv' := [(3, .int (nI (((lo + hi) / 2) + 1))), (6, .int (nI ((lo + hi) / 2))), (5, .int (nI k)), (4, .int (nI hi)), (0, .ref (a 0)), (1, .int (nI k_p0)), (2, .int (nI k_q0))]) hx hb dX0_leastEstate_95 rfl hl (by decide) rfl (fun ls hl => ?_)
                    refine lv_iinc (v := nI (k + 1)) (lv' := [(5, .int (nI (k + 1))), (3, .int (nI (((lo + hi) / 2) + 1))), (6, .int (nI ((lo + hi) / 2))), (4, .int (nI hi)), (0, .ref (a 0)), (1, .int (nI k_p0)), (2, .int (nI k_q0))]) hx hb dX0_leastEstate_96 hl (k := 2) rfl (ip_inc k) (by decide) rfl (fun ls hl => ?_)
                    refine lv_goto (tgt := 47) hx hb dX0_leastEstate_99 (by decide) ?_
                    exact ih47 (((lo + hi) / 2) + 1) hi (k + 1) Gv_12 Lv_13 ((lo + hi) / 2 - ip_pf Wa Ra n 4) (by omega) (by omega) (fun e he => Nat.lt_of_le_of_lt (ip_hd_mono Wa Ra Ua n k_p0 (show e ≤ ((lo + hi) / 2) by omega)) (by have h9 := hg k_p0 hk_p0; omega)) (h2) (by rw [ip_hv_succ]; omega) (by omega) _ _ hP hD hS ls (lv_sub hl [0, 3, 1, 4, 5, 6] rfl)
                  · skip
                    refine lv_iload hx hb dX0_leastEstate_84 (lv_at hl 0 rfl) ?_
                    refine lv_istore (lv' := [(4, .int (nI ((lo + hi) / 2))), (6, .int (nI ((lo + hi) / 2))), (5, .int (nI k)), (3, .int (nI lo)), (0, .ref (a 0)), (1, .int (nI k_p0)), (2, .int (nI k_q0))]) hx hb dX0_leastEstate_86 hl (by decide) rfl (fun ls hl => ?_)
                    refine lv_goto (tgt := 96) hx hb dX0_leastEstate_88 (by decide) ?_
                    refine lv_iinc (v := nI (k + 1)) (lv' := [(5, .int (nI (k + 1))), (4, .int (nI ((lo + hi) / 2))), (6, .int (nI ((lo + hi) / 2))), (3, .int (nI lo)), (0, .ref (a 0)), (1, .int (nI k_p0)), (2, .int (nI k_q0))]) hx hb dX0_leastEstate_96 hl (k := 2) rfl (ip_inc k) (by decide) rfl (fun ls hl => ?_)
                    refine lv_goto (tgt := 47) hx hb dX0_leastEstate_99 (by decide) ?_
                    exact ih47 lo ((lo + hi) / 2) (k + 1) Gv_12 Lv_13 ((lo + hi) / 2 - ip_pf Wa Ra n 4) (by omega) (by omega) (h1) (by have h9 := hg k_p0 hk_p0; omega) (by rw [ip_hv_succ]; omega) (by omega) _ _ hP hD hS ls (lv_sub hl [0, 1, 3, 4, 5, 6] rfl)
          exact lp47 _ 0 1500 0 Ga La ov (by omega) (by omega) (fun e he => absurd he (Nat.not_lt_zero e)) (by rw [ip_hd_top hI (Nat.le_refl _) hk_p0]; omega) (by decide) (Nat.lt_succ_self _) _ _ hP hD hS ls (lv_sub hl [0, 1, 2, 3, 4, 5] rfl)
        · skip
          refine lv_bipush (v := (-3)) hx hb dX0_leastEstate_34 (by decide) ?_
          exact hret ((Wa, Ra, Ua, n, pt), Ga, La, Ea, ov) _ _ _ _ _ dX0_leastEstate_36 (by simp [sp_leastEstate, hx_p0, hx_q0, show Wa k_p0 < k_q0 by omega]) hP hD hS
      · skip
        rw [nI_toInt (show 150 < 2 ^ 31 by omega)] at c_7
        refine lv_bipush (v := (-2)) hx hb dX0_leastEstate_21 (by decide) ?_
        exact hret ((Wa, Ra, Ua, n, pt), Ga, La, Ea, ov) _ _ _ _ _ dX0_leastEstate_23 (by simp [sp_leastEstate, hx_p0, ip_ix_none (p := q0) (n := 151) (by omega)]) hP hD hS
set_option maxHeartbeats 4000000 in
set_option maxRecDepth 100000 in
theorem kX0_paid (l : Launch) (D : va_G) (d : ClassId) (a : Nat → Nat) (Wa Ra Ua Ga La Ea : Nat → Nat) (n pt ov : Nat) (hI : ip_AI (Wa, Ra, Ua, n, pt)) (p0 : Int32)  : ip_Mi l yX0_paid (ws_ yX0_paid cX0_paid 4 (some .int)) rmX0_paid D d (pw a d Wa Ra Ua Ga La Ea n pt ov) [.ref (a 0), .int p0] (S := ip_S0) (fun v u => (v, u.1) = sp_paid Wa Ra Ua n pt p0) (pwS a d) := by
  obtain ⟨hW, hR, hU, hn, hpt⟩ := id hI
  have hW : ∀ j, Wa j ≤ 150 := hW
  have hR : ∀ j, Ra j < 4 := hR
  have hU : ∀ j, Ua j < 4 := hU
  have hn : n ≤ 8 := hn
  have hpt : pt ≤ 1500 := hpt
  refine ip_ent_i (by decide) (Nat.le_of_ble_eq_true rfl) ?_
  intro p e s m args below meth c A Q hx hb hml hown hts hA hK hP hD hS hret ls hl
  have hown : s.vm.findClass RX0 = some m.cls := hown
  have hl : lv_has ls 4 [(0, .ref (a 0)), (1, .int p0)] := hl
  refine lv_iload_n hx hb dX0_paid_0 rfl (lv_at hl 1 rfl) ?_
  refine ip_callS_i (own := RX0) [.int p0] hx hb hml hown hts hA hK (kX0_isRank l D d a Wa Ra Ua Ga La Ea n pt ov hI p0) (cwX0_isRank hts ⟨Nat.le_of_ble_eq_true rfl, Nat.le_of_ble_eq_true rfl⟩) hP hD hS hl.1 rfl (Nat.le_of_ble_eq_true rfl) dX0_paid_1 ⟨Nat.zero_le _, Nat.zero_le _⟩ (fun r_2 u_1 H locs hw_3 hP hD hS => ?_)
  rcases hw_3 with ⟨rfl, hx_p0⟩ | ⟨rfl, k_p0, hk_p0, rfl, hx_p0⟩
  · skip
    refine n_if_ne (tgt := 9) hx hb dX0_paid_4 (by decide) (by omega) (fun h => absurd h (by omega)) (fun _ => ?_)
    refine lv_iconst (v := (-1)) hx hb dX0_paid_7 (by decide) ?_
    exact hret ((Wa, Ra, Ua, n, pt), Ga, La, Ea, ov) _ _ _ _ _ dX0_paid_8 (by simp [sp_paid, hx_p0]) hP hD hS
  · skip
    refine n_if_ne (tgt := 9) hx hb dX0_paid_4 (by decide) (by omega) (fun _ => ?_) (fun h => absurd h (by omega))
    refine lv_aload_n hx hb dX0_paid_9 rfl (lv_at hl 0 rfl) ?_
    refine lv_aload_n hx hb dX0_paid_10 rfl (lv_at hl 0 rfl) ?_
    refine x0_get_pt hx hb hts hown hK hP dX0_paid_11 ?_
    refine ip_callV_v (own := RX0) (C := RX0) (x := a 0) [.int (nI pt)] hx hb hml hown hts hA hK (kX0_shareOut l D d a Wa Ra Ua Ga La Ea n pt ov hI pt (by omega)) (cwX0_shareOut hts ⟨Nat.le_of_ble_eq_true rfl, Nat.le_of_ble_eq_true rfl⟩) ⟨0, _, _, rfl, rfl, rfl⟩ hP hD hS hl.1 rfl (Nat.le_of_ble_eq_true rfl) dX0_paid_14 ⟨Nat.zero_le _, Nat.zero_le _⟩ (fun u_6 H locs hw_8 hP hD hS => ?_)
    obtain ⟨Gq, Lq⟩ := u_6
    obtain ⟨hg, hgf⟩ := hw_8
    have hg : ∀ j, j < n → Gq j = ip_hd Wa Ra Ua n pt j := hg
    have hP : va_P D ip_cl (pw a d Wa Ra Ua Gq Lq Ea n pt (pt - ip_pf Wa Ra n 4)) H := hP
    have hD : va_D A (pw a d Wa Ra Ua Gq Lq Ea n pt (pt - ip_pf Wa Ra n 4)) := hD
    refine lv_iconst (v := nI 0) hx hb dX0_paid_17 (by decide) ?_
    refine lv_istore_n (lv' := [(2, .int (nI 0)), (0, .ref (a 0)), (1, .int (nI k_p0))]) hx hb dX0_paid_18 rfl hl (by decide) rfl (fun ls hl => ?_)
    refine lv_iconst (v := nI 0) hx hb dX0_paid_19 (by decide) ?_
    refine lv_istore_n (lv' := [(3, .int (nI 0)), (2, .int (nI 0)), (0, .ref (a 0)), (1, .int (nI k_p0))]) hx hb dX0_paid_20 rfl hl (by decide) rfl (fun ls hl => ?_)
    have lp21 : ∀ (N21 : Nat) (i : Nat) (x : Nat), (i ≤ n) → (x = ip_rs Ra k_p0 Gq i) → n - i < N21 → ∀ (H : Heap) (locs : List Loc), va_P D ip_cl (pw a d Wa Ra Ua Gq Lq Ea n pt (pt - ip_pf Wa Ra n 4)) H → va_D A (pw a d Wa Ra Ua Gq Lq Ea n pt (pt - ip_pf Wa Ra n 4)) → va_S A s.heap H locs → ∀ (ls : Array Slot), lv_has ls 4 [(3, .int (nI i)), (2, .int (nI x)), (0, .ref (a 0)), (1, .int (nI k_p0))] → W p l e rmX0_paid s m args below meth c H locs 0 0 Q (F0 m 21 ls []) := by
      intro N21
      induction N21 with
      | zero =>
        intro i x _ _ hm
        exact absurd hm (Nat.not_lt_zero _)
      | succ N21 ih21 =>
        intro i x hi he hm21 H locs hP hD hS ls hl
        refine lv_iload_n hx hb dX0_paid_21 rfl (lv_at hl 0 rfl) ?_
        refine lv_aload_n hx hb dX0_paid_22 rfl (lv_at hl 2 rfl) ?_
        refine x0_get_n hx hb hts hown hK hP dX0_paid_23 ?_
        refine n_icmp_ge (tgt := 58) hx hb dX0_paid_26 (by decide) (by omega) (by omega) (fun c_9 => ?_) (fun c_9 => ?_)
        · skip
          refine lv_iload_n hx hb dX0_paid_58 rfl (lv_at hl 1 rfl) ?_
          exact hret ((Wa, Ra, Ua, n, pt), Gq, Lq, Ea, (pt - ip_pf Wa Ra n 4)) _ _ _ _ _ dX0_paid_59 (by rw [he, show i = n by omega, ip_rs_cong (fun c hc _ => hg c hc)]; simp [sp_paid, hx_p0]) hP hD hS
        · skip
          refine lv_iload_n hx hb dX0_paid_29 rfl (lv_at hl 1 rfl) ?_
          refine lv_aload_n hx hb dX0_paid_30 rfl (lv_at hl 2 rfl) ?_
          refine x0_get_R hx hb hts hown hK hP dX0_paid_31 ?_
          refine lv_iload_n hx hb dX0_paid_34 rfl (lv_at hl 0 rfl) ?_
          refine x0_ald_R hx hb hK hP (by omega) dX0_paid_35 ?_
          have b_10 := hR i
          refine lv_iload_n hx hb dX0_paid_36 rfl (lv_at hl 3 rfl) ?_
          refine n_icmp_ne (tgt := 49) hx hb dX0_paid_37 (by decide) (by omega) (by omega) (fun c_11 => ?_) (fun c_11 => ?_)
          · skip
            refine lv_iconst (v := nI 0) hx hb dX0_paid_49 (by decide) ?_
            refine n_iadd hx hb dX0_paid_50 ?_
            refine lv_istore_n (lv' := [(2, .int (nI (x + 0))), (3, .int (nI i)), (0, .ref (a 0)), (1, .int (nI k_p0))]) hx hb dX0_paid_51 rfl hl (by decide) rfl (fun ls hl => ?_)
            refine lv_iinc (v := nI (i + 1)) (lv' := [(3, .int (nI (i + 1))), (2, .int (nI (x + 0))), (0, .ref (a 0)), (1, .int (nI k_p0))]) hx hb dX0_paid_52 hl (k := 1) rfl (ip_inc i) (by decide) rfl (fun ls hl => ?_)
            refine lv_goto (tgt := 21) hx hb dX0_paid_55 (by decide) ?_
            exact ih21 (i + 1) (x + 0) (by omega) (by rw [ip_rs_succ]; split <;> omega) (by omega) _ _ hP hD hS ls (lv_sub hl [0, 1, 2, 3] rfl)
          · skip
            refine lv_aload_n hx hb dX0_paid_40 rfl (lv_at hl 2 rfl) ?_
            refine x0_get_G hx hb hts hown hK hP dX0_paid_41 ?_
            refine lv_iload_n hx hb dX0_paid_44 rfl (lv_at hl 0 rfl) ?_
            refine x0_ald_G hx hb hK hP (by omega) dX0_paid_45 ?_
            refine lv_goto (tgt := 50) hx hb dX0_paid_46 (by decide) ?_
            refine n_iadd hx hb dX0_paid_50 ?_
            refine lv_istore_n (lv' := [(2, .int (nI (x + (Gq i)))), (3, .int (nI i)), (0, .ref (a 0)), (1, .int (nI k_p0))]) hx hb dX0_paid_51 rfl hl (by decide) rfl (fun ls hl => ?_)
            refine lv_iinc (v := nI (i + 1)) (lv' := [(3, .int (nI (i + 1))), (2, .int (nI (x + (Gq i)))), (0, .ref (a 0)), (1, .int (nI k_p0))]) hx hb dX0_paid_52 hl (k := 1) rfl (ip_inc i) (by decide) rfl (fun ls hl => ?_)
            refine lv_goto (tgt := 21) hx hb dX0_paid_55 (by decide) ?_
            exact ih21 (i + 1) (x + (Gq i)) (by omega) (by rw [ip_rs_succ]; split <;> omega) (by omega) _ _ hP hD hS ls (lv_sub hl [0, 1, 2, 3] rfl)
    exact lp21 _ 0 0 (by omega) (rfl) (Nat.lt_succ_self _) _ _ hP hD hS ls (lv_sub hl [0, 1, 2, 3] rfl)
set_option maxHeartbeats 4000000 in
set_option maxRecDepth 100000 in
theorem kX0_left (l : Launch) (D : va_G) (d : ClassId) (a : Nat → Nat) (Wa Ra Ua Ga La Ea : Nat → Nat) (n pt ov : Nat) (hI : ip_AI (Wa, Ra, Ua, n, pt))   : ip_Mi l yX0_left (ws_ yX0_left cX0_left 1 (some .int)) rmX0_left D d (pw a d Wa Ra Ua Ga La Ea n pt ov) [.ref (a 0)] (S := ip_S0) (fun v u => (v, u.1) = sp_left Wa Ra Ua n pt) (pwS a d) := by
  obtain ⟨hW, hR, hU, hn, hpt⟩ := id hI
  have hW : ∀ j, Wa j ≤ 150 := hW
  have hR : ∀ j, Ra j < 4 := hR
  have hU : ∀ j, Ua j < 4 := hU
  have hn : n ≤ 8 := hn
  have hpt : pt ≤ 1500 := hpt
  refine ip_ent_i (by decide) (Nat.le_of_ble_eq_true rfl) ?_
  intro p e s m args below meth c A Q hx hb hml hown hts hA hK hP hD hS hret ls hl
  have hown : s.vm.findClass RX0 = some m.cls := hown
  have hl : lv_has ls 1 [(0, .ref (a 0))] := hl
  refine lv_aload_n hx hb dX0_left_0 rfl (lv_at hl 0 rfl) ?_
  refine lv_aload_n hx hb dX0_left_1 rfl (lv_at hl 0 rfl) ?_
  refine x0_get_pt hx hb hts hown hK hP dX0_left_2 ?_
  refine ip_callV_v (own := RX0) (C := RX0) (x := a 0) [.int (nI pt)] hx hb hml hown hts hA hK (kX0_shareOut l D d a Wa Ra Ua Ga La Ea n pt ov hI pt (by omega)) (cwX0_shareOut hts ⟨Nat.le_of_ble_eq_true rfl, Nat.le_of_ble_eq_true rfl⟩) ⟨0, _, _, rfl, rfl, rfl⟩ hP hD hS hl.1 rfl (Nat.le_of_ble_eq_true rfl) dX0_left_5 ⟨Nat.zero_le _, Nat.zero_le _⟩ (fun u_1 H locs hw_3 hP hD hS => ?_)
  obtain ⟨Gq, Lq⟩ := u_1
  obtain ⟨hg, hgf⟩ := hw_3
  have hg : ∀ j, j < n → Gq j = ip_hd Wa Ra Ua n pt j := hg
  have hP : va_P D ip_cl (pw a d Wa Ra Ua Gq Lq Ea n pt (pt - ip_pf Wa Ra n 4)) H := hP
  have hD : va_D A (pw a d Wa Ra Ua Gq Lq Ea n pt (pt - ip_pf Wa Ra n 4)) := hD
  refine lv_aload_n hx hb dX0_left_8 rfl (lv_at hl 0 rfl) ?_
  refine x0_get_ov hx hb hts hown hK hP dX0_left_9 ?_
  exact hret ((Wa, Ra, Ua, n, pt), Gq, Lq, Ea, (pt - ip_pf Wa Ra n 4)) _ _ _ _ _ dX0_left_12 (rfl) hP hD hS
set_option maxHeartbeats 4000000 in
set_option maxRecDepth 100000 in
theorem kX0_next (l : Launch) (D : va_G) (d : ClassId) (a : Nat → Nat) (Wa Ra Ua Ga La Ea : Nat → Nat) (n pt ov : Nat) (hI : ip_AI (Wa, Ra, Ua, n, pt))   : ip_Mi l yX0_next (ws_ yX0_next cX0_next 2 (some .int)) rmX0_next D d (pw a d Wa Ra Ua Ga La Ea n pt ov) [.ref (a 0)] (S := ip_S0) (fun v u => (v, u.1) = sp_next Wa Ra Ua n pt) (pwS a d) := by
  obtain ⟨hW, hR, hU, hn, hpt⟩ := id hI
  have hW : ∀ j, Wa j ≤ 150 := hW
  have hR : ∀ j, Ra j < 4 := hR
  have hU : ∀ j, Ua j < 4 := hU
  have hn : n ≤ 8 := hn
  have hpt : pt ≤ 1500 := hpt
  refine ip_ent_i (by decide) (Nat.le_of_ble_eq_true rfl) ?_
  intro p e s m args below meth c A Q hx hb hml hown hts hA hK hP hD hS hret ls hl
  have hown : s.vm.findClass RX0 = some m.cls := hown
  have hl : lv_has ls 2 [(0, .ref (a 0))] := hl
  refine lv_aload_n hx hb dX0_next_0 rfl (lv_at hl 0 rfl) ?_
  refine lv_aload_n hx hb dX0_next_1 rfl (lv_at hl 0 rfl) ?_
  refine x0_get_pt hx hb hts hown hK hP dX0_next_2 ?_
  refine ip_callV_v (own := RX0) (C := RX0) (x := a 0) [.int (nI pt)] hx hb hml hown hts hA hK (kX0_shareOut l D d a Wa Ra Ua Ga La Ea n pt ov hI pt (by omega)) (cwX0_shareOut hts ⟨Nat.le_of_ble_eq_true rfl, Nat.le_of_ble_eq_true rfl⟩) ⟨0, _, _, rfl, rfl, rfl⟩ hP hD hS hl.1 rfl (Nat.le_of_ble_eq_true rfl) dX0_next_5 ⟨Nat.zero_le _, Nat.zero_le _⟩ (fun u_1 H locs hw_3 hP hD hS => ?_)
  obtain ⟨Gq, Lq⟩ := u_1
  obtain ⟨hg, hgf⟩ := hw_3
  have hg : ∀ j, j < n → Gq j = ip_hd Wa Ra Ua n pt j := hg
  have hP : va_P D ip_cl (pw a d Wa Ra Ua Gq Lq Ea n pt (pt - ip_pf Wa Ra n 4)) H := hP
  have hD : va_D A (pw a d Wa Ra Ua Gq Lq Ea n pt (pt - ip_pf Wa Ra n 4)) := hD
  refine lv_iconst (v := nI 0) hx hb dX0_next_8 (by decide) ?_
  refine lv_istore_n (lv' := [(1, .int (nI 0)), (0, .ref (a 0))]) hx hb dX0_next_9 rfl hl (by decide) rfl (fun ls hl => ?_)
  have lp10 : ∀ (N10 : Nat) (i : Nat) (Ev : Nat → Nat), (i ≤ n) → (Ev = ip_fl Gq Ea i) → n - i < N10 → ∀ (H : Heap) (locs : List Loc), va_P D ip_cl (pw a d Wa Ra Ua Gq Lq Ev n pt (pt - ip_pf Wa Ra n 4)) H → va_D A (pw a d Wa Ra Ua Gq Lq Ev n pt (pt - ip_pf Wa Ra n 4)) → va_S A s.heap H locs → ∀ (ls : Array Slot), lv_has ls 2 [(1, .int (nI i)), (0, .ref (a 0))] → W p l e rmX0_next s m args below meth c H locs 0 0 Q (F0 m 10 ls []) := by
    intro N10
    induction N10 with
    | zero =>
      intro i Ev _ _ hm
      exact absurd hm (Nat.not_lt_zero _)
    | succ N10 ih10 =>
      intro i Ev hi eE hm10 H locs hP hD hS ls hl
      refine lv_iload_n hx hb dX0_next_10 rfl (lv_at hl 0 rfl) ?_
      refine lv_aload_n hx hb dX0_next_11 rfl (lv_at hl 1 rfl) ?_
      refine x0_get_n hx hb hts hown hK hP dX0_next_12 ?_
      refine n_icmp_ge (tgt := 36) hx hb dX0_next_15 (by decide) (by omega) (by omega) (fun c_4 => ?_) (fun c_4 => ?_)
      · skip
        refine lv_aload_n hx hb dX0_next_36 rfl (lv_at hl 1 rfl) ?_
        refine lv_aload_n hx hb dX0_next_37 rfl (lv_at hl 1 rfl) ?_
        refine x0_get_pt hx hb hts hown hK hP dX0_next_38 ?_
        refine lv_iconst (v := nI 1) hx hb dX0_next_41 (by decide) ?_
        refine n_iadd hx hb dX0_next_42 ?_
        refine ip_callV_v (own := RX0) (C := RX0) (x := a 0) [.int (nI (pt + 1))] hx hb hml hown hts hA hK (kX0_shareOut l D d a Wa Ra Ua Gq Lq Ev n pt (pt - ip_pf Wa Ra n 4) hI (pt + 1) (by omega)) (cwX0_shareOut hts ⟨Nat.le_of_ble_eq_true rfl, Nat.le_of_ble_eq_true rfl⟩) ⟨0, _, _, rfl, rfl, rfl⟩ hP hD hS hl.1 rfl (Nat.le_of_ble_eq_true rfl) dX0_next_43 ⟨Nat.zero_le _, Nat.zero_le _⟩ (fun u_5 H locs hw_7 hP hD hS => ?_)
        obtain ⟨Gz, Lz⟩ := u_5
        obtain ⟨hz, hzf⟩ := hw_7
        have hz : ∀ j, j < n → Gz j = ip_hd Wa Ra Ua n (pt + 1) j := hz
        have hP : va_P D ip_cl (pw a d Wa Ra Ua Gz Lz Ev n pt (pt + 1 - ip_pf Wa Ra n 4)) H := hP
        have hD : va_D A (pw a d Wa Ra Ua Gz Lz Ev n pt (pt + 1 - ip_pf Wa Ra n 4)) := hD
        refine lv_iconst (v := nI 0) hx hb dX0_next_46 (by decide) ?_
        refine lv_istore_n (lv' := [(1, .int (nI 0)), (0, .ref (a 0))]) hx hb dX0_next_47 rfl hl (by decide) rfl (fun ls hl => ?_)
        have lp48 : ∀ (N48 : Nat) (i2 : Nat), (i2 ≤ n) → (∀ j, j < i2 → ip_hd Wa Ra Ua n (pt + 1) j ≤ ip_hd Wa Ra Ua n pt j) → n - i2 < N48 → ∀ (H : Heap) (locs : List Loc), va_P D ip_cl (pw a d Wa Ra Ua Gz Lz Ev n pt (pt + 1 - ip_pf Wa Ra n 4)) H → va_D A (pw a d Wa Ra Ua Gz Lz Ev n pt (pt + 1 - ip_pf Wa Ra n 4)) → va_S A s.heap H locs → ∀ (ls : Array Slot), lv_has ls 2 [(1, .int (nI i2)), (0, .ref (a 0))] → W p l e rmX0_next s m args below meth c H locs 0 0 Q (F0 m 48 ls []) := by
          intro N48
          induction N48 with
          | zero =>
            intro i2 _ _ hm
            exact absurd hm (Nat.not_lt_zero _)
          | succ N48 ih48 =>
            intro i2 hi2 hno hm48 H locs hP hD hS ls hl
            refine lv_iload_n hx hb dX0_next_48 rfl (lv_at hl 0 rfl) ?_
            refine lv_aload_n hx hb dX0_next_49 rfl (lv_at hl 1 rfl) ?_
            refine x0_get_n hx hb hts hown hK hP dX0_next_50 ?_
            refine n_icmp_ge (tgt := 79) hx hb dX0_next_53 (by decide) (by omega) (by omega) (fun c_8 => ?_) (fun c_8 => ?_)
            · skip
              refine lv_iconst (v := (-1)) hx hb dX0_next_79 (by decide) ?_
              exact hret ((Wa, Ra, Ua, n, pt), Gz, Lz, Ev, (pt + 1 - ip_pf Wa Ra n 4)) _ _ _ _ _ dX0_next_80 (by rw [sp_next, ip_next_none (fun c hc => hno c (by omega))]; rfl) hP hD hS
            · skip
              have h_e : Ev i2 = Gq i2 := by rw [eE, show i = n by omega, ip_fl_in (by omega)]
              have h_1 := hg i2 (by omega)
              have h_2 := hz i2 (by omega)
              have h_3 := ip_hd_le hW hR hU pt i2 (show i2 < n by omega)
              have h_4 := ip_hd_le hW hR hU (pt + 1) i2 (show i2 < n by omega)
              have h_5 := hW i2
              refine lv_aload_n hx hb dX0_next_56 rfl (lv_at hl 1 rfl) ?_
              refine x0_get_G hx hb hts hown hK hP dX0_next_57 ?_
              refine lv_iload_n hx hb dX0_next_60 rfl (lv_at hl 0 rfl) ?_
              refine x0_ald_G hx hb hK hP (by omega) dX0_next_61 ?_
              refine lv_aload_n hx hb dX0_next_62 rfl (lv_at hl 1 rfl) ?_
              refine x0_get_E hx hb hts hown hK hP dX0_next_63 ?_
              refine lv_iload_n hx hb dX0_next_66 rfl (lv_at hl 0 rfl) ?_
              refine x0_ald_E hx hb hK hP (by omega) dX0_next_67 ?_
              refine n_icmp_le (tgt := 73) hx hb dX0_next_68 (by decide) (by omega) (by omega) (fun c_9 => ?_) (fun c_9 => ?_)
              · skip
                refine lv_iinc (v := nI (i2 + 1)) (lv' := [(1, .int (nI (i2 + 1))), (0, .ref (a 0))]) hx hb dX0_next_73 hl (k := 0) rfl (ip_inc i2) (by decide) rfl (fun ls hl => ?_)
                refine lv_goto (tgt := 48) hx hb dX0_next_76 (by decide) ?_
                exact ih48 (i2 + 1) (by omega) (fun j hj => (Nat.lt_or_ge j i2).elim (fun q => hno j q) (fun q => by rw [show j = i2 by omega]; omega)) (by omega) _ _ hP hD hS ls (lv_sub hl [0, 1] rfl)
              · skip
                refine lv_iload_n hx hb dX0_next_71 rfl (lv_at hl 0 rfl) ?_
                exact hret ((Wa, Ra, Ua, n, pt), Gz, Lz, Ev, (pt + 1 - ip_pf Wa Ra n 4)) _ _ _ _ _ dX0_next_72 (by rw [sp_next, ip_next_some (c := i2) (by omega)]; rfl) hP hD hS
        exact lp48 _ 0 (by omega) (fun j hj => absurd hj (Nat.not_lt_zero j)) (Nat.lt_succ_self _) _ _ hP hD hS ls (lv_sub hl [0, 1] rfl)
      · skip
        refine lv_aload_n hx hb dX0_next_18 rfl (lv_at hl 1 rfl) ?_
        refine x0_get_E hx hb hts hown hK hP dX0_next_19 ?_
        refine lv_iload_n hx hb dX0_next_22 rfl (lv_at hl 0 rfl) ?_
        refine lv_aload_n hx hb dX0_next_23 rfl (lv_at hl 1 rfl) ?_
        refine x0_get_G hx hb hts hown hK hP dX0_next_24 ?_
        refine lv_iload_n hx hb dX0_next_27 rfl (lv_at hl 0 rfl) ?_
        refine x0_ald_G hx hb hK hP (by omega) dX0_next_28 ?_
        refine x0_ast_E hx hb hK hP hD hS (by omega) dX0_next_29 (fun H locs hP hD hS => ?_)
        refine lv_iinc (v := nI (i + 1)) (lv' := [(1, .int (nI (i + 1))), (0, .ref (a 0))]) hx hb dX0_next_30 hl (k := 0) rfl (ip_inc i) (by decide) rfl (fun ls hl => ?_)
        refine lv_goto (tgt := 10) hx hb dX0_next_33 (by decide) ?_
        exact ih10 (i + 1) (ip_up Ev i (Gq i)) (by omega) (ip_fl_step eE rfl) (by omega) _ _ hP hD hS ls (lv_sub hl [0, 1] rfl)
  exact lp10 _ 0 Ea (by omega) (ip_fl_0 _ _) (Nat.lt_succ_self _) _ _ hP hD hS ls (lv_sub hl [0, 1] rfl)
theorem ip_un_cong {W G G' : Nat → Nat} {n : Nat} (h : ∀ j, j < n → G j = G' j) : fb_sm (ip_un W G) n = fb_sm (ip_un W G') n := fb_sm_cong fun k hk => by unfold ip_un; rw [h k hk]
theorem ip_mx_cong {f g : Nat → Nat} : ∀ {n : Nat}, (∀ j, j < n → f j = g j) → ip_mx f n = ip_mx g n
  | 0, _ => rfl
  | n + 1, h => by rw [ip_mx_succ, ip_mx_succ, ip_mx_cong (n := n) (fun j hj => h j (by omega)), h n (by omega)]
set_option maxHeartbeats 4000000 in
set_option maxRecDepth 100000 in
theorem kX0_unpaid (l : Launch) (D : va_G) (d : ClassId) (a : Nat → Nat) (Wa Ra Ua Ga La Ea : Nat → Nat) (n pt ov : Nat) (hI : ip_AI (Wa, Ra, Ua, n, pt))   : ip_Mi l yX0_unpaid (ws_ yX0_unpaid cX0_unpaid 3 (some .int)) rmX0_unpaid D d (pw a d Wa Ra Ua Ga La Ea n pt ov) [.ref (a 0)] (S := ip_S0) (fun v u => (v, u.1) = sp_unpaid Wa Ra Ua n pt) (pwS a d) := by
  obtain ⟨hW, hR, hU, hn, hpt⟩ := id hI
  have hW : ∀ j, Wa j ≤ 150 := hW
  have hR : ∀ j, Ra j < 4 := hR
  have hU : ∀ j, Ua j < 4 := hU
  have hn : n ≤ 8 := hn
  have hpt : pt ≤ 1500 := hpt
  refine ip_ent_i (by decide) (Nat.le_of_ble_eq_true rfl) ?_
  intro p e s m args below meth c A Q hx hb hml hown hts hA hK hP hD hS hret ls hl
  have hown : s.vm.findClass RX0 = some m.cls := hown
  have hl : lv_has ls 3 [(0, .ref (a 0))] := hl
  refine lv_aload_n hx hb dX0_unpaid_0 rfl (lv_at hl 0 rfl) ?_
  refine lv_aload_n hx hb dX0_unpaid_1 rfl (lv_at hl 0 rfl) ?_
  refine x0_get_pt hx hb hts hown hK hP dX0_unpaid_2 ?_
  refine ip_callV_v (own := RX0) (C := RX0) (x := a 0) [.int (nI pt)] hx hb hml hown hts hA hK (kX0_shareOut l D d a Wa Ra Ua Ga La Ea n pt ov hI pt (by omega)) (cwX0_shareOut hts ⟨Nat.le_of_ble_eq_true rfl, Nat.le_of_ble_eq_true rfl⟩) ⟨0, _, _, rfl, rfl, rfl⟩ hP hD hS hl.1 rfl (Nat.le_of_ble_eq_true rfl) dX0_unpaid_5 ⟨Nat.zero_le _, Nat.zero_le _⟩ (fun u_1 H locs hw_3 hP hD hS => ?_)
  obtain ⟨Gq, Lq⟩ := u_1
  obtain ⟨hg, hgf⟩ := hw_3
  have hg : ∀ j, j < n → Gq j = ip_hd Wa Ra Ua n pt j := hg
  have hP : va_P D ip_cl (pw a d Wa Ra Ua Gq Lq Ea n pt (pt - ip_pf Wa Ra n 4)) H := hP
  have hD : va_D A (pw a d Wa Ra Ua Gq Lq Ea n pt (pt - ip_pf Wa Ra n 4)) := hD
  refine lv_iconst (v := nI 0) hx hb dX0_unpaid_8 (by decide) ?_
  refine lv_istore_n (lv' := [(1, .int (nI 0)), (0, .ref (a 0))]) hx hb dX0_unpaid_9 rfl hl (by decide) rfl (fun ls hl => ?_)
  refine lv_iconst (v := nI 0) hx hb dX0_unpaid_10 (by decide) ?_
  refine lv_istore_n (lv' := [(2, .int (nI 0)), (1, .int (nI 0)), (0, .ref (a 0))]) hx hb dX0_unpaid_11 rfl hl (by decide) rfl (fun ls hl => ?_)
  have lp12 : ∀ (N12 : Nat) (i : Nat) (x : Nat), (i ≤ n) → (x = fb_sm (ip_un Wa Gq) i) → n - i < N12 → ∀ (H : Heap) (locs : List Loc), va_P D ip_cl (pw a d Wa Ra Ua Gq Lq Ea n pt (pt - ip_pf Wa Ra n 4)) H → va_D A (pw a d Wa Ra Ua Gq Lq Ea n pt (pt - ip_pf Wa Ra n 4)) → va_S A s.heap H locs → ∀ (ls : Array Slot), lv_has ls 3 [(2, .int (nI i)), (1, .int (nI x)), (0, .ref (a 0))] → W p l e rmX0_unpaid s m args below meth c H locs 0 0 Q (F0 m 12 ls []) := by
    intro N12
    induction N12 with
    | zero =>
      intro i x _ _ hm
      exact absurd hm (Nat.not_lt_zero _)
    | succ N12 ih12 =>
      intro i x hi he hm12 H locs hP hD hS ls hl
      refine lv_iload_n hx hb dX0_unpaid_12 rfl (lv_at hl 0 rfl) ?_
      refine lv_aload_n hx hb dX0_unpaid_13 rfl (lv_at hl 2 rfl) ?_
      refine x0_get_n hx hb hts hown hK hP dX0_unpaid_14 ?_
      refine n_icmp_ge (tgt := 49) hx hb dX0_unpaid_17 (by decide) (by omega) (by omega) (fun c_4 => ?_) (fun c_4 => ?_)
      · skip
        refine lv_iload_n hx hb dX0_unpaid_49 rfl (lv_at hl 1 rfl) ?_
        exact hret ((Wa, Ra, Ua, n, pt), Gq, Lq, Ea, (pt - ip_pf Wa Ra n 4)) _ _ _ _ _ dX0_unpaid_50 (by rw [he, show i = n by omega, ip_un_cong hg]; rfl) hP hD hS
      · skip
        have h_1 := hg i (by omega)
        have h_3 := ip_hd_le hW hR hU pt i (show i < n by omega)
        have h_5 := hW i
        refine lv_iload_n hx hb dX0_unpaid_20 rfl (lv_at hl 1 rfl) ?_
        refine lv_aload_n hx hb dX0_unpaid_21 rfl (lv_at hl 2 rfl) ?_
        refine x0_get_G hx hb hts hown hK hP dX0_unpaid_22 ?_
        refine lv_iload_n hx hb dX0_unpaid_25 rfl (lv_at hl 0 rfl) ?_
        refine x0_ald_G hx hb hK hP (by omega) dX0_unpaid_26 ?_
        refine lv_aload_n hx hb dX0_unpaid_27 rfl (lv_at hl 2 rfl) ?_
        refine x0_get_W hx hb hts hown hK hP dX0_unpaid_28 ?_
        refine lv_iload_n hx hb dX0_unpaid_31 rfl (lv_at hl 0 rfl) ?_
        refine x0_ald_W hx hb hK hP (by omega) dX0_unpaid_32 ?_
        refine n_icmp_ge (tgt := 40) hx hb dX0_unpaid_33 (by decide) (by omega) (by omega) (fun c_5 => ?_) (fun c_5 => ?_)
        · skip
          refine lv_iconst (v := nI 0) hx hb dX0_unpaid_40 (by decide) ?_
          refine n_iadd hx hb dX0_unpaid_41 ?_
          refine lv_istore_n (lv' := [(1, .int (nI (x + 0))), (2, .int (nI i)), (0, .ref (a 0))]) hx hb dX0_unpaid_42 rfl hl (by decide) rfl (fun ls hl => ?_)
          refine lv_iinc (v := nI (i + 1)) (lv' := [(2, .int (nI (i + 1))), (1, .int (nI (x + 0))), (0, .ref (a 0))]) hx hb dX0_unpaid_43 hl (k := 1) rfl (ip_inc i) (by decide) rfl (fun ls hl => ?_)
          refine lv_goto (tgt := 12) hx hb dX0_unpaid_46 (by decide) ?_
          exact ih12 (i + 1) (x + 0) (by omega) (by rw [fb_sm_succ, he]; unfold ip_un; split <;> omega) (by omega) _ _ hP hD hS ls (lv_sub hl [0, 1, 2] rfl)
        · skip
          refine lv_iconst (v := nI 1) hx hb dX0_unpaid_36 (by decide) ?_
          refine lv_goto (tgt := 41) hx hb dX0_unpaid_37 (by decide) ?_
          refine n_iadd hx hb dX0_unpaid_41 ?_
          refine lv_istore_n (lv' := [(1, .int (nI (x + 1))), (2, .int (nI i)), (0, .ref (a 0))]) hx hb dX0_unpaid_42 rfl hl (by decide) rfl (fun ls hl => ?_)
          refine lv_iinc (v := nI (i + 1)) (lv' := [(2, .int (nI (i + 1))), (1, .int (nI (x + 1))), (0, .ref (a 0))]) hx hb dX0_unpaid_43 hl (k := 1) rfl (ip_inc i) (by decide) rfl (fun ls hl => ?_)
          refine lv_goto (tgt := 12) hx hb dX0_unpaid_46 (by decide) ?_
          exact ih12 (i + 1) (x + 1) (by omega) (by rw [fb_sm_succ, he]; unfold ip_un; split <;> omega) (by omega) _ _ hP hD hS ls (lv_sub hl [0, 1, 2] rfl)
  exact lp12 _ 0 0 (by omega) (rfl) (Nat.lt_succ_self _) _ _ hP hD hS ls (lv_sub hl [0, 1, 2] rfl)
set_option maxHeartbeats 4000000 in
set_option maxRecDepth 100000 in
theorem kX0_worst (l : Launch) (D : va_G) (d : ClassId) (a : Nat → Nat) (Wa Ra Ua Ga La Ea : Nat → Nat) (n pt ov : Nat) (hI : ip_AI (Wa, Ra, Ua, n, pt))   : ip_Mi l yX0_worst (ws_ yX0_worst cX0_worst 4 (some .int)) rmX0_worst D d (pw a d Wa Ra Ua Ga La Ea n pt ov) [.ref (a 0)] (S := ip_S0) (fun v u => (v, u.1) = sp_worst Wa Ra Ua n pt) (pwS a d) := by
  obtain ⟨hW, hR, hU, hn, hpt⟩ := id hI
  have hW : ∀ j, Wa j ≤ 150 := hW
  have hR : ∀ j, Ra j < 4 := hR
  have hU : ∀ j, Ua j < 4 := hU
  have hn : n ≤ 8 := hn
  have hpt : pt ≤ 1500 := hpt
  refine ip_ent_i (by decide) (Nat.le_of_ble_eq_true rfl) ?_
  intro p e s m args below meth c A Q hx hb hml hown hts hA hK hP hD hS hret ls hl
  have hown : s.vm.findClass RX0 = some m.cls := hown
  have hl : lv_has ls 4 [(0, .ref (a 0))] := hl
  refine lv_aload_n hx hb dX0_worst_0 rfl (lv_at hl 0 rfl) ?_
  refine lv_aload_n hx hb dX0_worst_1 rfl (lv_at hl 0 rfl) ?_
  refine x0_get_pt hx hb hts hown hK hP dX0_worst_2 ?_
  refine ip_callV_v (own := RX0) (C := RX0) (x := a 0) [.int (nI pt)] hx hb hml hown hts hA hK (kX0_shareOut l D d a Wa Ra Ua Ga La Ea n pt ov hI pt (by omega)) (cwX0_shareOut hts ⟨Nat.le_of_ble_eq_true rfl, Nat.le_of_ble_eq_true rfl⟩) ⟨0, _, _, rfl, rfl, rfl⟩ hP hD hS hl.1 rfl (Nat.le_of_ble_eq_true rfl) dX0_worst_5 ⟨Nat.zero_le _, Nat.zero_le _⟩ (fun u_1 H locs hw_3 hP hD hS => ?_)
  obtain ⟨Gq, Lq⟩ := u_1
  obtain ⟨hg, hgf⟩ := hw_3
  have hg : ∀ j, j < n → Gq j = ip_hd Wa Ra Ua n pt j := hg
  have hP : va_P D ip_cl (pw a d Wa Ra Ua Gq Lq Ea n pt (pt - ip_pf Wa Ra n 4)) H := hP
  have hD : va_D A (pw a d Wa Ra Ua Gq Lq Ea n pt (pt - ip_pf Wa Ra n 4)) := hD
  refine lv_iconst (v := nI 0) hx hb dX0_worst_8 (by decide) ?_
  refine lv_istore_n (lv' := [(1, .int (nI 0)), (0, .ref (a 0))]) hx hb dX0_worst_9 rfl hl (by decide) rfl (fun ls hl => ?_)
  refine lv_iconst (v := nI 0) hx hb dX0_worst_10 (by decide) ?_
  refine lv_istore_n (lv' := [(2, .int (nI 0)), (1, .int (nI 0)), (0, .ref (a 0))]) hx hb dX0_worst_11 rfl hl (by decide) rfl (fun ls hl => ?_)
  have lp12 : ∀ (N12 : Nat) (i : Nat) (x : Nat), (i ≤ n) → (x ≤ 150) → (x = ip_mx (fun c => Wa c - Gq c) i) → n - i < N12 → ∀ (H : Heap) (locs : List Loc), va_P D ip_cl (pw a d Wa Ra Ua Gq Lq Ea n pt (pt - ip_pf Wa Ra n 4)) H → va_D A (pw a d Wa Ra Ua Gq Lq Ea n pt (pt - ip_pf Wa Ra n 4)) → va_S A s.heap H locs → ∀ (ls : Array Slot), lv_has ls 4 [(2, .int (nI i)), (1, .int (nI x)), (0, .ref (a 0))] → W p l e rmX0_worst s m args below meth c H locs 0 0 Q (F0 m 12 ls []) := by
    intro N12
    induction N12 with
    | zero =>
      intro i x _ _ _ hm
      exact absurd hm (Nat.not_lt_zero _)
    | succ N12 ih12 =>
      intro i x hi hb1 he hm12 H locs hP hD hS ls hl
      refine lv_iload_n hx hb dX0_worst_12 rfl (lv_at hl 0 rfl) ?_
      refine lv_aload_n hx hb dX0_worst_13 rfl (lv_at hl 2 rfl) ?_
      refine x0_get_n hx hb hts hown hK hP dX0_worst_14 ?_
      refine n_icmp_ge (tgt := 51) hx hb dX0_worst_17 (by decide) (by omega) (by omega) (fun c_4 => ?_) (fun c_4 => ?_)
      · skip
        refine lv_iload_n hx hb dX0_worst_51 rfl (lv_at hl 1 rfl) ?_
        exact hret ((Wa, Ra, Ua, n, pt), Gq, Lq, Ea, (pt - ip_pf Wa Ra n 4)) _ _ _ _ _ dX0_worst_52 (by rw [he, show i = n by omega, ip_mx_cong (g := fun c => Wa c - ip_hd Wa Ra Ua n pt c) (fun j hj => by rw [hg j hj])]; rfl) hP hD hS
      · skip
        have h_1 := hg i (by omega)
        have h_3 := ip_hd_le hW hR hU pt i (show i < n by omega)
        have h_5 := hW i
        refine lv_aload_n hx hb dX0_worst_20 rfl (lv_at hl 2 rfl) ?_
        refine x0_get_W hx hb hts hown hK hP dX0_worst_21 ?_
        refine lv_iload_n hx hb dX0_worst_24 rfl (lv_at hl 0 rfl) ?_
        refine x0_ald_W hx hb hK hP (by omega) dX0_worst_25 ?_
        refine lv_aload_n hx hb dX0_worst_26 rfl (lv_at hl 2 rfl) ?_
        refine x0_get_G hx hb hts hown hK hP dX0_worst_27 ?_
        refine lv_iload_n hx hb dX0_worst_30 rfl (lv_at hl 0 rfl) ?_
        refine x0_ald_G hx hb hK hP (by omega) dX0_worst_31 ?_
        refine n_isub hx hb dX0_worst_32 (by omega) ?_
        refine lv_istore_n (lv' := [(3, .int (nI ((Wa i) - (Gq i)))), (2, .int (nI i)), (1, .int (nI x)), (0, .ref (a 0))]) hx hb dX0_worst_33 rfl hl (by decide) rfl (fun ls hl => ?_)
        refine lv_iload_n hx hb dX0_worst_34 rfl (lv_at hl 0 rfl) ?_
        refine lv_iload_n hx hb dX0_worst_35 rfl (lv_at hl 2 rfl) ?_
        refine n_icmp_le (tgt := 43) hx hb dX0_worst_36 (by decide) (by omega) (by omega) (fun c_5 => ?_) (fun c_5 => ?_)
        · skip
          refine lv_iload_n hx hb dX0_worst_43 rfl (lv_at hl 2 rfl) ?_
          refine lv_istore_n (lv' := [(1, .int (nI x)), (3, .int (nI ((Wa i) - (Gq i)))), (2, .int (nI i)), (0, .ref (a 0))]) hx hb dX0_worst_44 rfl hl (by decide) rfl (fun ls hl => ?_)
          refine lv_iinc (v := nI (i + 1)) (lv' := [(2, .int (nI (i + 1))), (1, .int (nI x)), (3, .int (nI ((Wa i) - (Gq i)))), (0, .ref (a 0))]) hx hb dX0_worst_45 hl (k := 2) rfl (ip_inc i) (by decide) rfl (fun ls hl => ?_)
          refine lv_goto (tgt := 12) hx hb dX0_worst_48 (by decide) ?_
          exact ih12 (i + 1) x (by omega) (by omega) (by simp only [ip_mx_succ]; rw [← he]; split <;> omega) (by omega) _ _ hP hD hS ls (lv_sub hl [0, 1, 3] rfl)
        · skip
          refine lv_iload_n hx hb dX0_worst_39 rfl (lv_at hl 0 rfl) ?_
          refine lv_goto (tgt := 44) hx hb dX0_worst_40 (by decide) ?_
          refine lv_istore_n (lv' := [(1, .int (nI ((Wa i) - (Gq i)))), (3, .int (nI ((Wa i) - (Gq i)))), (2, .int (nI i)), (0, .ref (a 0))]) hx hb dX0_worst_44 rfl hl (by decide) rfl (fun ls hl => ?_)
          refine lv_iinc (v := nI (i + 1)) (lv' := [(2, .int (nI (i + 1))), (1, .int (nI ((Wa i) - (Gq i)))), (3, .int (nI ((Wa i) - (Gq i)))), (0, .ref (a 0))]) hx hb dX0_worst_45 hl (k := 2) rfl (ip_inc i) (by decide) rfl (fun ls hl => ?_)
          refine lv_goto (tgt := 12) hx hb dX0_worst_48 (by decide) ?_
          exact ih12 (i + 1) ((Wa i) - (Gq i)) (by omega) (by omega) (by simp only [ip_mx_succ]; rw [← he]; split <;> omega) (by omega) _ _ hP hD hS ls (lv_sub hl [0, 1, 3] rfl)
  exact lp12 _ 0 0 (by omega) (by omega) (rfl) (Nat.lt_succ_self _) _ _ hP hD hS ls (lv_sub hl [0, 1, 2] rfl)
end
section
/-! ===== pure: steps of the reference's loops ===== -/
theorem ip_be_1 {W G : Nat → Nat} {ru hf x y : Nat} (h : ru = 0 ∨ hf = 1) : ip_be W G ru (decide (hf = 1)) x y = decide (G x < G y) := by
  unfold ip_be
  rw [if_pos (by rcases h with q | q <;> simp [q])]
theorem ip_be_2 {W G : Nat → Nat} {ru hf x y : Nat} (h : ¬ (ru = 0 ∨ hf = 1)) (h2 : ru = 2) : ip_be W G ru (decide (hf = 1)) x y = decide (W y * (G x + 1) < W x * (G y + 1)) := by
  unfold ip_be
  rw [if_neg (by simpa using h), if_pos h2]
theorem ip_be_3 {W G : Nat → Nat} {ru hf x y : Nat} (h : ¬ (ru = 0 ∨ hf = 1)) (h2 : ru ≠ 2) : ip_be W G ru (decide (hf = 1)) x y = decide (W y - G y < W x - G x) := by
  unfold ip_be
  rw [if_neg (by simpa using h), if_neg h2]
theorem ip_in_t {W R G : Nat → Nat} {r hf c : Nat} (h : R c = r ∧ G c < W c ∧ ¬ (hf = 1 ∧ W c ≤ 2 * G c)) : ip_in W R G r (decide (hf = 1)) c = true := by
  unfold ip_in
  simp only [decide_eq_true_eq]
  exact h
theorem ip_in_f {W R G : Nat → Nat} {r hf c : Nat} (h : ¬ (R c = r ∧ G c < W c ∧ ¬ (hf = 1 ∧ W c ≤ 2 * G c))) : ip_in W R G r (decide (hf = 1)) c = false := by
  unfold ip_in
  simp only [decide_eq_true_eq]
  exact decide_eq_false h
theorem ip_hf_t {W R U G : Nat → Nat} {n r : Nat} (h : U r = 3 ∧ 2 * ip_rs R r G n < ip_rs R r W n) : decide (1 = 1) = ip_hf W R U G n r := by
  unfold ip_hf
  rw [decide_eq_true h]
  rfl
theorem ip_hf_f {W R U G : Nat → Nat} {n r : Nat} (h : ¬ (U r = 3 ∧ 2 * ip_rs R r G n < ip_rs R r W n)) : decide (0 = 1) = ip_hf W R U G n r := by
  unfold ip_hf
  rw [decide_eq_false h]
  rfl
theorem ip_m1 : ((-1) : Int32).toInt = -1 := by decide
theorem ip_hE0 (U : Nat → Nat) : ∀ x : Nat, x < 4 → (if ((-1) : Int32).toInt = (x : Int) then 0 else U x) = U x := fun x _ => by
  rw [ip_m1, if_neg (by omega)]
theorem ip_hE1 (U : Nat → Nat) {q t : Nat} (hq : q < 4) : ∀ x : Nat, x < 4 → (if (nI q).toInt = (x : Int) then t else U x) = ip_up U q t x := fun x _ => by
  rw [nI_toInt (by omega)]
  by_cases e : x = q
  · rw [if_pos (by omega), e, ip_up_s]
  · rw [if_neg (by omega), ip_up_n e]
end
section
/-! ===== the reference: checks, the plain public methods; printed by gen_model.py ===== -/
abbrev rmX1_bad : Room := { frames := 0, cells := 0, slots := 0, locals := 0 }
abbrev rmX1_badRank : Room := { frames := 0, cells := 0, slots := 0, locals := 0 }
abbrev rmX1_badClaim : Room := { frames := 0, cells := 0, slots := 0, locals := 0 }
abbrev rmX1_add : Room := { frames := 1, cells := 0, slots := 0, locals := 21 }
abbrev rmX1_remove : Room := { frames := 1, cells := 0, slots := 0, locals := 21 }
abbrev rmX1_change : Room := { frames := 1, cells := 0, slots := 0, locals := 21 }
abbrev rmX1_move : Room := { frames := 1, cells := 0, slots := 0, locals := 21 }
abbrev rmX1_rule : Room := { frames := 1, cells := 0, slots := 0, locals := 21 }
abbrev rmX1_estate : Room := { frames := 0, cells := 0, slots := 0, locals := 0 }
abbrev rmX1_creditors : Room := { frames := 0, cells := 0, slots := 0, locals := 0 }
abbrev rmX1_claimOf : Room := { frames := 1, cells := 0, slots := 0, locals := 21 }
abbrev rmX1_claims : Room := { frames := 1, cells := 0, slots := 0, locals := 21 }
abbrev ip_S1 : Type := ip_AS × (Nat → Nat)
abbrev mwS (a : Nat → Nat) (d : ClassId) (u : ip_S1) : va_W := mw a d u.1.1 u.1.2.1 u.1.2.2.1 u.2 u.1.2.2.2.1 u.1.2.2.2.2
theorem cwX1_bad {s : State} {args : Array Value} {Rm : Room} (hts : ∀ w ∈ lw_all, w.before args s = true) (hR : rmX1_bad.frames + 1 ≤ Rm.frames ∧ 8 + (2 + 11) + rmX1_bad.locals ≤ Rm.locals) : CallW Rm s args RX1 RX1 33 yX1_bad cX1_bad 2 (some .boolean) (ws_ yX1_bad cX1_bad 2 (some .boolean)) rmX1_bad 0 0 1 :=
  cwV 1 hts (lw_V q221 q223 qs13 q20 q224) rfl rfl rfl (by decide +kernel) hR
theorem cwX1_badRank {s : State} {args : Array Value} {Rm : Room} (hts : ∀ w ∈ lw_all, w.before args s = true) (hR : rmX1_badRank.frames + 1 ≤ Rm.frames ∧ 8 + (2 + 11) + rmX1_badRank.locals ≤ Rm.locals) : CallW Rm s args RX1 RX1 30 yX1_badRank cX1_badRank 2 (some .boolean) (ws_ yX1_badRank cX1_badRank 2 (some .boolean)) rmX1_badRank 0 0 1 :=
  cwV 1 hts (lw_V q213 q215 qs12 q20 q216) rfl rfl rfl (by decide +kernel) hR
theorem cwX1_badClaim {s : State} {args : Array Value} {Rm : Room} (hts : ∀ w ∈ lw_all, w.before args s = true) (hR : rmX1_badClaim.frames + 1 ≤ Rm.frames ∧ 8 + (2 + 11) + rmX1_badClaim.locals ≤ Rm.locals) : CallW Rm s args RX1 RX1 26 yX1_badClaim cX1_badClaim 2 (some .boolean) (ws_ yX1_badClaim cX1_badClaim 2 (some .boolean)) rmX1_badClaim 0 0 1 :=
  cwV 1 hts (lw_V q209 q211 qs11 q20 q212) rfl rfl rfl (by decide +kernel) hR
set_option maxHeartbeats 4000000 in
set_option maxRecDepth 100000 in
theorem kX1_bad (l : Launch) (D : va_G) (d : ClassId) (a : Nat → Nat) (Wa Ra Ua Ga : Nat → Nat) (n pt : Nat) (hI : ip_AI (Wa, Ra, Ua, n, pt)) (p0 : Int32)  : ip_Mi l yX1_bad (ws_ yX1_bad cX1_bad 2 (some .boolean)) rmX1_bad D d (mw a d Wa Ra Ua Ga n pt) [.ref (a 0), .int p0] (S := Unit) (fun v _ => ip_bad v p0 n) (fun _ => (mw a d Wa Ra Ua Ga n pt)) := by
  obtain ⟨hW, hR, hU, hn, hpt⟩ := id hI
  have hW : ∀ j, Wa j ≤ 150 := hW
  have hR : ∀ j, Ra j < 4 := hR
  have hU : ∀ j, Ua j < 4 := hU
  have hn : n ≤ 8 := hn
  have hpt : pt ≤ 1500 := hpt
  refine ip_ent_z (by decide) (Nat.le_of_ble_eq_true rfl) ?_
  intro p e s m args below meth c A Q hx hb hml hown hts hA hK hP hD hS hret ls hl
  have hown : s.vm.findClass RX1 = some m.cls := hown
  have hl : lv_has ls 2 [(0, .ref (a 0)), (1, .int p0)] := hl
  refine lv_iload_n hx hb dX1_bad_0 rfl (lv_at hl 1 rfl) ?_
  refine z_if_lt (tgt := 18) hx hb dX1_bad_1 (by decide) (fun c_1 => ?_) (fun c_1 => ?_)
  · skip
    refine lv_iconst (v := nI 1) hx hb dX1_bad_18 (by decide) ?_
    refine lv_goto (tgt := 23) hx hb dX1_bad_19 (by decide) ?_
    exact hret () _ _ _ _ _ rfl dX1_bad_23 (ip_bad_1 (by omega)) hP hD hS
  · skip
    refine lv_iload_n hx hb dX1_bad_4 rfl (lv_at hl 1 rfl) ?_
    refine lv_aload_n hx hb dX1_bad_5 rfl (lv_at hl 0 rfl) ?_
    refine x1_get_n hx hb hts hown hK hP dX1_bad_6 ?_
    refine z_icmp_ge (tgt := 18) hx hb dX1_bad_9 (by decide) (fun c_2 => ?_) (fun c_2 => ?_)
    · skip
      rw [nI_toInt (show n < 2 ^ 31 by omega)] at c_2
      refine lv_iconst (v := nI 1) hx hb dX1_bad_18 (by decide) ?_
      refine lv_goto (tgt := 23) hx hb dX1_bad_19 (by decide) ?_
      exact hret () _ _ _ _ _ rfl dX1_bad_23 (ip_bad_1 (by omega)) hP hD hS
    · skip
      rw [nI_toInt (show n < 2 ^ 31 by omega)] at c_2
      refine lv_iload_n hx hb dX1_bad_12 rfl (lv_at hl 1 rfl) ?_
      refine lv_bipush (v := nI 8) hx hb dX1_bad_13 (by decide) ?_
      refine z_icmp_lt (tgt := 22) hx hb dX1_bad_15 (by decide) (fun c_3 => ?_) (fun c_3 => ?_)
      · skip
        rw [nI_toInt (show 8 < 2 ^ 31 by omega)] at c_3
        refine lv_iconst (v := nI 0) hx hb dX1_bad_22 (by decide) ?_
        exact hret () _ _ _ _ _ rfl dX1_bad_23 (ip_bad_0 (by omega) (by omega)) hP hD hS
      · skip
        rw [nI_toInt (show 8 < 2 ^ 31 by omega)] at c_3
        refine lv_iconst (v := nI 1) hx hb dX1_bad_18 (by decide) ?_
        refine lv_goto (tgt := 23) hx hb dX1_bad_19 (by decide) ?_
        exact hret () _ _ _ _ _ rfl dX1_bad_23 (ip_bad_1 (by omega)) hP hD hS
set_option maxHeartbeats 4000000 in
set_option maxRecDepth 100000 in
theorem kX1_badRank (l : Launch) (D : va_G) (d : ClassId) (a : Nat → Nat) (Wa Ra Ua Ga : Nat → Nat) (n pt : Nat) (hI : ip_AI (Wa, Ra, Ua, n, pt)) (p0 : Int32)  : ip_Mi l yX1_badRank (ws_ yX1_badRank cX1_badRank 2 (some .boolean)) rmX1_badRank D d (mw a d Wa Ra Ua Ga n pt) [.ref (a 0), .int p0] (S := Unit) (fun v _ => ip_bad v p0 4) (fun _ => (mw a d Wa Ra Ua Ga n pt)) := by
  obtain ⟨hW, hR, hU, hn, hpt⟩ := id hI
  have hW : ∀ j, Wa j ≤ 150 := hW
  have hR : ∀ j, Ra j < 4 := hR
  have hU : ∀ j, Ua j < 4 := hU
  have hn : n ≤ 8 := hn
  have hpt : pt ≤ 1500 := hpt
  refine ip_ent_z (by decide) (Nat.le_of_ble_eq_true rfl) ?_
  intro p e s m args below meth c A Q hx hb hml hown hts hA hK hP hD hS hret ls hl
  have hown : s.vm.findClass RX1 = some m.cls := hown
  have hl : lv_has ls 2 [(0, .ref (a 0)), (1, .int p0)] := hl
  refine lv_iload_n hx hb dX1_badRank_0 rfl (lv_at hl 1 rfl) ?_
  refine z_if_lt (tgt := 9) hx hb dX1_badRank_1 (by decide) (fun c_1 => ?_) (fun c_1 => ?_)
  · skip
    refine lv_iconst (v := nI 1) hx hb dX1_badRank_9 (by decide) ?_
    refine lv_goto (tgt := 14) hx hb dX1_badRank_10 (by decide) ?_
    exact hret () _ _ _ _ _ rfl dX1_badRank_14 (ip_bad_1 (by omega)) hP hD hS
  · skip
    refine lv_iload_n hx hb dX1_badRank_4 rfl (lv_at hl 1 rfl) ?_
    refine lv_iconst (v := nI 3) hx hb dX1_badRank_5 (by decide) ?_
    refine z_icmp_le (tgt := 13) hx hb dX1_badRank_6 (by decide) (fun c_2 => ?_) (fun c_2 => ?_)
    · skip
      rw [nI_toInt (show 3 < 2 ^ 31 by omega)] at c_2
      refine lv_iconst (v := nI 0) hx hb dX1_badRank_13 (by decide) ?_
      exact hret () _ _ _ _ _ rfl dX1_badRank_14 (ip_bad_0 (by omega) (by omega)) hP hD hS
    · skip
      rw [nI_toInt (show 3 < 2 ^ 31 by omega)] at c_2
      refine lv_iconst (v := nI 1) hx hb dX1_badRank_9 (by decide) ?_
      refine lv_goto (tgt := 14) hx hb dX1_badRank_10 (by decide) ?_
      exact hret () _ _ _ _ _ rfl dX1_badRank_14 (ip_bad_1 (by omega)) hP hD hS
set_option maxHeartbeats 4000000 in
set_option maxRecDepth 100000 in
theorem kX1_badClaim (l : Launch) (D : va_G) (d : ClassId) (a : Nat → Nat) (Wa Ra Ua Ga : Nat → Nat) (n pt : Nat) (hI : ip_AI (Wa, Ra, Ua, n, pt)) (p0 : Int32)  : ip_Mi l yX1_badClaim (ws_ yX1_badClaim cX1_badClaim 2 (some .boolean)) rmX1_badClaim D d (mw a d Wa Ra Ua Ga n pt) [.ref (a 0), .int p0] (S := Unit) (fun v _ => ip_bad v p0 151) (fun _ => (mw a d Wa Ra Ua Ga n pt)) := by
  obtain ⟨hW, hR, hU, hn, hpt⟩ := id hI
  have hW : ∀ j, Wa j ≤ 150 := hW
  have hR : ∀ j, Ra j < 4 := hR
  have hU : ∀ j, Ua j < 4 := hU
  have hn : n ≤ 8 := hn
  have hpt : pt ≤ 1500 := hpt
  refine ip_ent_z (by decide) (Nat.le_of_ble_eq_true rfl) ?_
  intro p e s m args below meth c A Q hx hb hml hown hts hA hK hP hD hS hret ls hl
  have hown : s.vm.findClass RX1 = some m.cls := hown
  have hl : lv_has ls 2 [(0, .ref (a 0)), (1, .int p0)] := hl
  refine lv_iload_n hx hb dX1_badClaim_0 rfl (lv_at hl 1 rfl) ?_
  refine z_if_lt (tgt := 11) hx hb dX1_badClaim_1 (by decide) (fun c_1 => ?_) (fun c_1 => ?_)
  · skip
    refine lv_iconst (v := nI 1) hx hb dX1_badClaim_11 (by decide) ?_
    refine lv_goto (tgt := 16) hx hb dX1_badClaim_12 (by decide) ?_
    exact hret () _ _ _ _ _ rfl dX1_badClaim_16 (ip_bad_1 (by omega)) hP hD hS
  · skip
    refine lv_iload_n hx hb dX1_badClaim_4 rfl (lv_at hl 1 rfl) ?_
    refine lv_sipush (v := nI 150) hx hb dX1_badClaim_5 (by decide) ?_
    refine z_icmp_le (tgt := 15) hx hb dX1_badClaim_8 (by decide) (fun c_2 => ?_) (fun c_2 => ?_)
    · skip
      rw [nI_toInt (show 150 < 2 ^ 31 by omega)] at c_2
      refine lv_iconst (v := nI 0) hx hb dX1_badClaim_15 (by decide) ?_
      exact hret () _ _ _ _ _ rfl dX1_badClaim_16 (ip_bad_0 (by omega) (by omega)) hP hD hS
    · skip
      rw [nI_toInt (show 150 < 2 ^ 31 by omega)] at c_2
      refine lv_iconst (v := nI 1) hx hb dX1_badClaim_11 (by decide) ?_
      refine lv_goto (tgt := 16) hx hb dX1_badClaim_12 (by decide) ?_
      exact hret () _ _ _ _ _ rfl dX1_badClaim_16 (ip_bad_1 (by omega)) hP hD hS
set_option maxHeartbeats 4000000 in
set_option maxRecDepth 100000 in
theorem kX1_creditors (l : Launch) (D : va_G) (d : ClassId) (a : Nat → Nat) (Wa Ra Ua Ga : Nat → Nat) (n pt : Nat) (hI : ip_AI (Wa, Ra, Ua, n, pt))   : ip_Mi l yX1_creditors (ws_ yX1_creditors cX1_creditors 1 (some .int)) rmX1_creditors D d (mw a d Wa Ra Ua Ga n pt) [.ref (a 0)] (S := ip_S1) (fun v u => (v, u.1) = sp_creditors Wa Ra Ua n pt) (mwS a d) := by
  obtain ⟨hW, hR, hU, hn, hpt⟩ := id hI
  have hW : ∀ j, Wa j ≤ 150 := hW
  have hR : ∀ j, Ra j < 4 := hR
  have hU : ∀ j, Ua j < 4 := hU
  have hn : n ≤ 8 := hn
  have hpt : pt ≤ 1500 := hpt
  refine ip_ent_i (by decide) (Nat.le_of_ble_eq_true rfl) ?_
  intro p e s m args below meth c A Q hx hb hml hown hts hA hK hP hD hS hret ls hl
  have hown : s.vm.findClass RX1 = some m.cls := hown
  have hl : lv_has ls 1 [(0, .ref (a 0))] := hl
  refine lv_aload_n hx hb dX1_creditors_0 rfl (lv_at hl 0 rfl) ?_
  refine x1_get_n hx hb hts hown hK hP dX1_creditors_1 ?_
  exact hret ((Wa, Ra, Ua, n, pt), Ga) _ _ _ _ _ dX1_creditors_4 (rfl) hP hD hS
set_option maxHeartbeats 4000000 in
set_option maxRecDepth 100000 in
theorem kX1_claimOf (l : Launch) (D : va_G) (d : ClassId) (a : Nat → Nat) (Wa Ra Ua Ga : Nat → Nat) (n pt : Nat) (hI : ip_AI (Wa, Ra, Ua, n, pt)) (p0 : Int32)  : ip_Mi l yX1_claimOf (ws_ yX1_claimOf cX1_claimOf 2 (some .int)) rmX1_claimOf D d (mw a d Wa Ra Ua Ga n pt) [.ref (a 0), .int p0] (S := ip_S1) (fun v u => (v, u.1) = sp_claimOf Wa Ra Ua n pt p0) (mwS a d) := by
  obtain ⟨hW, hR, hU, hn, hpt⟩ := id hI
  have hW : ∀ j, Wa j ≤ 150 := hW
  have hR : ∀ j, Ra j < 4 := hR
  have hU : ∀ j, Ua j < 4 := hU
  have hn : n ≤ 8 := hn
  have hpt : pt ≤ 1500 := hpt
  refine ip_ent_i (by decide) (Nat.le_of_ble_eq_true rfl) ?_
  intro p e s m args below meth c A Q hx hb hml hown hts hA hK hP hD hS hret ls hl
  have hown : s.vm.findClass RX1 = some m.cls := hown
  have hl : lv_has ls 2 [(0, .ref (a 0)), (1, .int p0)] := hl
  refine lv_aload_n hx hb dX1_claimOf_0 rfl (lv_at hl 0 rfl) ?_
  refine lv_iload_n hx hb dX1_claimOf_1 rfl (lv_at hl 1 rfl) ?_
  refine ip_callV_i (own := RX1) (C := RX1) (x := a 0) [.int p0] hx hb hml hown hts hA hK (kX1_bad l D d a Wa Ra Ua Ga n pt hI p0) (cwX1_bad hts ⟨Nat.le_of_ble_eq_true rfl, Nat.le_of_ble_eq_true rfl⟩) ⟨1, _, _, rfl, rfl, rfl⟩ hP hD hS hl.1 rfl (Nat.le_of_ble_eq_true rfl) dX1_claimOf_2 ⟨Nat.zero_le _, Nat.zero_le _⟩ (fun r_2 u_1 H locs hw_3 hP hD hS => ?_)
  rcases hw_3 with ⟨rfl, hx_p0⟩ | ⟨rfl, k_p0, hk_p0, rfl, hx_p0⟩
  · skip
    refine n_if_eq (tgt := 12) hx hb dX1_claimOf_5 (by decide) (by omega) (fun h => absurd h (by omega)) (fun _ => ?_)
    refine lv_iconst (v := (-1)) hx hb dX1_claimOf_8 (by decide) ?_
    refine lv_goto (tgt := 18) hx hb dX1_claimOf_9 (by decide) ?_
    exact hret ((Wa, Ra, Ua, n, pt), Ga) _ _ _ _ _ dX1_claimOf_18 (by simp [sp_claimOf, hx_p0]) hP hD hS
  · skip
    refine n_if_eq (tgt := 12) hx hb dX1_claimOf_5 (by decide) (by omega) (fun _ => ?_) (fun h => absurd h (by omega))
    refine lv_aload_n hx hb dX1_claimOf_12 rfl (lv_at hl 0 rfl) ?_
    refine x1_get_W hx hb hts hown hK hP dX1_claimOf_13 ?_
    refine lv_iload_n hx hb dX1_claimOf_16 rfl (lv_at hl 1 rfl) ?_
    refine x1_ald_W hx hb hK hP (by omega) dX1_claimOf_17 ?_
    have b_6 := hW k_p0
    exact hret ((Wa, Ra, Ua, n, pt), Ga) _ _ _ _ _ dX1_claimOf_18 (by simp [sp_claimOf, hx_p0]) hP hD hS
set_option maxHeartbeats 4000000 in
set_option maxRecDepth 100000 in
theorem kX1_add (l : Launch) (D : va_G) (d : ClassId) (a : Nat → Nat) (Wa Ra Ua Ga : Nat → Nat) (n pt : Nat) (hI : ip_AI (Wa, Ra, Ua, n, pt)) (p0 q0 : Int32)  : ip_Mi l yX1_add (ws_ yX1_add cX1_add 4 (some .int)) rmX1_add D d (mw a d Wa Ra Ua Ga n pt) [.ref (a 0), .int p0, .int q0] (S := ip_S1) (fun v u => (v, u.1) = sp_add Wa Ra Ua n pt p0 q0) (mwS a d) := by
  obtain ⟨hW, hR, hU, hn, hpt⟩ := id hI
  have hW : ∀ j, Wa j ≤ 150 := hW
  have hR : ∀ j, Ra j < 4 := hR
  have hU : ∀ j, Ua j < 4 := hU
  have hn : n ≤ 8 := hn
  have hpt : pt ≤ 1500 := hpt
  refine ip_ent_i (by decide) (Nat.le_of_ble_eq_true rfl) ?_
  intro p e s m args below meth c A Q hx hb hml hown hts hA hK hP hD hS hret ls hl
  have hown : s.vm.findClass RX1 = some m.cls := hown
  have hl : lv_has ls 4 [(0, .ref (a 0)), (1, .int p0), (2, .int q0)] := hl
  refine lv_aload_n hx hb dX1_add_0 rfl (lv_at hl 0 rfl) ?_
  refine lv_iload_n hx hb dX1_add_1 rfl (lv_at hl 1 rfl) ?_
  refine ip_callV_i (own := RX1) (C := RX1) (x := a 0) [.int p0] hx hb hml hown hts hA hK (kX1_badClaim l D d a Wa Ra Ua Ga n pt hI p0) (cwX1_badClaim hts ⟨Nat.le_of_ble_eq_true rfl, Nat.le_of_ble_eq_true rfl⟩) ⟨1, _, _, rfl, rfl, rfl⟩ hP hD hS hl.1 rfl (Nat.le_of_ble_eq_true rfl) dX1_add_2 ⟨Nat.zero_le _, Nat.zero_le _⟩ (fun r_2 u_1 H locs hw_3 hP hD hS => ?_)
  rcases hw_3 with ⟨rfl, hx_p0⟩ | ⟨rfl, k_p0, hk_p0, rfl, hx_p0⟩
  · skip
    refine n_if_eq (tgt := 10) hx hb dX1_add_5 (by decide) (by omega) (fun h => absurd h (by omega)) (fun _ => ?_)
    refine lv_iconst (v := (-1)) hx hb dX1_add_8 (by decide) ?_
    exact hret ((Wa, Ra, Ua, n, pt), Ga) _ _ _ _ _ dX1_add_9 (by simp [sp_add, hx_p0]) hP hD hS
  · skip
    refine n_if_eq (tgt := 10) hx hb dX1_add_5 (by decide) (by omega) (fun _ => ?_) (fun h => absurd h (by omega))
    refine lv_aload_n hx hb dX1_add_10 rfl (lv_at hl 0 rfl) ?_
    refine lv_iload_n hx hb dX1_add_11 rfl (lv_at hl 2 rfl) ?_
    refine ip_callV_i (own := RX1) (C := RX1) (x := a 0) [.int q0] hx hb hml hown hts hA hK (kX1_badRank l D d a Wa Ra Ua Ga n pt hI q0) (cwX1_badRank hts ⟨Nat.le_of_ble_eq_true rfl, Nat.le_of_ble_eq_true rfl⟩) ⟨1, _, _, rfl, rfl, rfl⟩ hP hD hS hl.1 rfl (Nat.le_of_ble_eq_true rfl) dX1_add_12 ⟨Nat.zero_le _, Nat.zero_le _⟩ (fun r_7 u_6 H locs hw_8 hP hD hS => ?_)
    rcases hw_8 with ⟨rfl, hx_q0⟩ | ⟨rfl, k_q0, hk_q0, rfl, hx_q0⟩
    · skip
      refine n_if_eq (tgt := 21) hx hb dX1_add_15 (by decide) (by omega) (fun h => absurd h (by omega)) (fun _ => ?_)
      refine lv_bipush (v := (-2)) hx hb dX1_add_18 (by decide) ?_
      exact hret ((Wa, Ra, Ua, n, pt), Ga) _ _ _ _ _ dX1_add_20 (by simp [sp_add, hx_p0, hx_q0]) hP hD hS
    · skip
      refine n_if_eq (tgt := 21) hx hb dX1_add_15 (by decide) (by omega) (fun _ => ?_) (fun h => absurd h (by omega))
      refine lv_aload_n hx hb dX1_add_21 rfl (lv_at hl 0 rfl) ?_
      refine x1_get_n hx hb hts hown hK hP dX1_add_22 ?_
      refine lv_istore_n (lv' := [(3, .int (nI n)), (0, .ref (a 0)), (1, .int (nI k_p0)), (2, .int (nI k_q0))]) hx hb dX1_add_25 rfl hl (by decide) rfl (fun ls hl => ?_)
      refine lv_iload_n hx hb dX1_add_26 rfl (lv_at hl 0 rfl) ?_
      refine lv_bipush (v := nI 8) hx hb dX1_add_27 (by decide) ?_
      refine n_icmp_lt (tgt := 35) hx hb dX1_add_29 (by decide) (by omega) (by omega) (fun c_11 => ?_) (fun c_11 => ?_)
      · skip
        refine lv_aload_n hx hb dX1_add_35 rfl (lv_at hl 1 rfl) ?_
        refine x1_get_W hx hb hts hown hK hP dX1_add_36 ?_
        refine lv_iload_n hx hb dX1_add_39 rfl (lv_at hl 0 rfl) ?_
        refine lv_iload_n hx hb dX1_add_40 rfl (lv_at hl 2 rfl) ?_
        refine x1_ast_W hx hb hK hP hD hS (by omega) dX1_add_41 (fun H locs hP hD hS => ?_)
        refine lv_aload_n hx hb dX1_add_42 rfl (lv_at hl 1 rfl) ?_
        refine x1_get_R hx hb hts hown hK hP dX1_add_43 ?_
        refine lv_iload_n hx hb dX1_add_46 rfl (lv_at hl 0 rfl) ?_
        refine lv_iload_n hx hb dX1_add_47 rfl (lv_at hl 3 rfl) ?_
        refine x1_ast_R hx hb hK hP hD hS (by omega) dX1_add_48 (fun H locs hP hD hS => ?_)
        refine lv_aload_n hx hb dX1_add_49 rfl (lv_at hl 1 rfl) ?_
        refine lv_iload_n hx hb dX1_add_50 rfl (lv_at hl 0 rfl) ?_
        refine lv_iconst (v := nI 1) hx hb dX1_add_51 (by decide) ?_
        refine n_iadd hx hb dX1_add_52 ?_
        refine x1_put_n hx hb hts hown hK hP hD hS dX1_add_53 (fun H locs hP hD hS => ?_)
        refine lv_iload_n hx hb dX1_add_56 rfl (lv_at hl 0 rfl) ?_
        exact hret (((ip_up Wa n k_p0), (ip_up Ra n k_q0), Ua, n + 1, pt), Ga) _ _ _ _ _ dX1_add_57 (by simp [sp_add, hx_p0, hx_q0, show ¬ n = 8 by omega]) hP hD hS
      · skip
        refine lv_bipush (v := (-3)) hx hb dX1_add_32 (by decide) ?_
        exact hret ((Wa, Ra, Ua, n, pt), Ga) _ _ _ _ _ dX1_add_34 (by simp [sp_add, hx_p0, hx_q0, show n = 8 by omega]) hP hD hS
set_option maxHeartbeats 4000000 in
set_option maxRecDepth 100000 in
theorem kX1_remove (l : Launch) (D : va_G) (d : ClassId) (a : Nat → Nat) (Wa Ra Ua Ga : Nat → Nat) (n pt : Nat) (hI : ip_AI (Wa, Ra, Ua, n, pt)) (p0 : Int32)  : ip_Mi l yX1_remove (ws_ yX1_remove cX1_remove 3 (some .int)) rmX1_remove D d (mw a d Wa Ra Ua Ga n pt) [.ref (a 0), .int p0] (S := ip_S1) (fun v u => (v, u.1) = sp_remove Wa Ra Ua n pt p0) (mwS a d) := by
  obtain ⟨hW, hR, hU, hn, hpt⟩ := id hI
  have hW : ∀ j, Wa j ≤ 150 := hW
  have hR : ∀ j, Ra j < 4 := hR
  have hU : ∀ j, Ua j < 4 := hU
  have hn : n ≤ 8 := hn
  have hpt : pt ≤ 1500 := hpt
  refine ip_ent_i (by decide) (Nat.le_of_ble_eq_true rfl) ?_
  intro p e s m args below meth c A Q hx hb hml hown hts hA hK hP hD hS hret ls hl
  have hown : s.vm.findClass RX1 = some m.cls := hown
  have hl : lv_has ls 3 [(0, .ref (a 0)), (1, .int p0)] := hl
  refine lv_aload_n hx hb dX1_remove_0 rfl (lv_at hl 0 rfl) ?_
  refine lv_iload_n hx hb dX1_remove_1 rfl (lv_at hl 1 rfl) ?_
  refine ip_callV_i (own := RX1) (C := RX1) (x := a 0) [.int p0] hx hb hml hown hts hA hK (kX1_bad l D d a Wa Ra Ua Ga n pt hI p0) (cwX1_bad hts ⟨Nat.le_of_ble_eq_true rfl, Nat.le_of_ble_eq_true rfl⟩) ⟨1, _, _, rfl, rfl, rfl⟩ hP hD hS hl.1 rfl (Nat.le_of_ble_eq_true rfl) dX1_remove_2 ⟨Nat.zero_le _, Nat.zero_le _⟩ (fun r_2 u_1 H locs hw_3 hP hD hS => ?_)
  rcases hw_3 with ⟨rfl, hx_p0⟩ | ⟨rfl, k_p0, hk_p0, rfl, hx_p0⟩
  · skip
    refine n_if_eq (tgt := 10) hx hb dX1_remove_5 (by decide) (by omega) (fun h => absurd h (by omega)) (fun _ => ?_)
    refine lv_iconst (v := (-1)) hx hb dX1_remove_8 (by decide) ?_
    exact hret ((Wa, Ra, Ua, n, pt), Ga) _ _ _ _ _ dX1_remove_9 (by simp [sp_remove, hx_p0]) hP hD hS
  · skip
    refine n_if_eq (tgt := 10) hx hb dX1_remove_5 (by decide) (by omega) (fun _ => ?_) (fun h => absurd h (by omega))
    refine lv_iload_n hx hb dX1_remove_10 rfl (lv_at hl 1 rfl) ?_
    refine lv_istore_n (lv' := [(2, .int (nI k_p0)), (0, .ref (a 0)), (1, .int (nI k_p0))]) hx hb dX1_remove_11 rfl hl (by decide) rfl (fun ls hl => ?_)
    have lp12 : ∀ (N12 : Nat) (j : Nat) (Wv : Nat → Nat) (Rv : Nat → Nat), (k_p0 ≤ j ∧ j + 1 ≤ n) → (Wv = ip_sh Wa k_p0 j) → (Rv = ip_sh Ra k_p0 j) → n - j < N12 → ∀ (H : Heap) (locs : List Loc), va_P D ip_cl (mw a d Wv Rv Ua Ga n pt) H → va_D A (mw a d Wv Rv Ua Ga n pt) → va_S A s.heap H locs → ∀ (ls : Array Slot), lv_has ls 3 [(2, .int (nI j)), (0, .ref (a 0))] → W p l e rmX1_remove s m args below meth c H locs 0 0 Q (F0 m 12 ls []) := by
      intro N12
      induction N12 with
      | zero =>
        intro j Wv Rv _ _ _ hm
        exact absurd hm (Nat.not_lt_zero _)
      | succ N12 ih12 =>
        intro j Wv Rv hj eW eR hm12 H locs hP hD hS ls hl
        refine lv_iload_n hx hb dX1_remove_12 rfl (lv_at hl 0 rfl) ?_
        refine lv_aload_n hx hb dX1_remove_13 rfl (lv_at hl 1 rfl) ?_
        refine x1_get_n hx hb hts hown hK hP dX1_remove_14 ?_
        refine lv_iconst (v := nI 1) hx hb dX1_remove_17 (by decide) ?_
        refine n_isub hx hb dX1_remove_18 (by omega) ?_
        refine n_icmp_ge (tgt := 62) hx hb dX1_remove_19 (by decide) (by omega) (by omega) (fun c_6 => ?_) (fun c_6 => ?_)
        · skip
          refine lv_aload_n hx hb dX1_remove_62 rfl (lv_at hl 1 rfl) ?_
          refine lv_dup hx hb dX1_remove_63 rfl ?_
          refine x1_get_n hx hb hts hown hK hP dX1_remove_64 ?_
          refine lv_iconst (v := nI 1) hx hb dX1_remove_67 (by decide) ?_
          refine n_isub hx hb dX1_remove_68 (by omega) ?_
          refine x1_put_n hx hb hts hown hK hP hD hS dX1_remove_69 (fun H locs hP hD hS => ?_)
          refine lv_aload_n hx hb dX1_remove_72 rfl (lv_at hl 1 rfl) ?_
          refine x1_get_n hx hb hts hown hK hP dX1_remove_73 ?_
          exact hret ((Wv, Rv, Ua, n - 1, pt), Ga) _ _ _ _ _ dX1_remove_76 (by rw [eW, eR, show j = n - 1 by omega]; simp [sp_remove, hx_p0]) hP hD hS
        · skip
          refine lv_iload_n hx hb dX1_remove_22 rfl (lv_at hl 0 rfl) ?_
          refine lv_bipush (v := nI 7) hx hb dX1_remove_23 (by decide) ?_
          refine n_icmp_ge (tgt := 62) hx hb dX1_remove_25 (by decide) (by omega) (by omega) (fun c_7 => absurd c_7 (by omega)) (fun _ => ?_)
          refine lv_aload_n hx hb dX1_remove_28 rfl (lv_at hl 1 rfl) ?_
          refine x1_get_W hx hb hts hown hK hP dX1_remove_29 ?_
          refine lv_iload_n hx hb dX1_remove_32 rfl (lv_at hl 0 rfl) ?_
          refine lv_aload_n hx hb dX1_remove_33 rfl (lv_at hl 1 rfl) ?_
          refine x1_get_W hx hb hts hown hK hP dX1_remove_34 ?_
          refine lv_iload_n hx hb dX1_remove_37 rfl (lv_at hl 0 rfl) ?_
          refine lv_iconst (v := nI 1) hx hb dX1_remove_38 (by decide) ?_
          refine n_iadd hx hb dX1_remove_39 ?_
          refine x1_ald_W hx hb hK hP (by omega) dX1_remove_40 ?_
          refine x1_ast_W hx hb hK hP hD hS (by omega) dX1_remove_41 (fun H locs hP hD hS => ?_)
          refine lv_aload_n hx hb dX1_remove_42 rfl (lv_at hl 1 rfl) ?_
          refine x1_get_R hx hb hts hown hK hP dX1_remove_43 ?_
          refine lv_iload_n hx hb dX1_remove_46 rfl (lv_at hl 0 rfl) ?_
          refine lv_aload_n hx hb dX1_remove_47 rfl (lv_at hl 1 rfl) ?_
          refine x1_get_R hx hb hts hown hK hP dX1_remove_48 ?_
          refine lv_iload_n hx hb dX1_remove_51 rfl (lv_at hl 0 rfl) ?_
          refine lv_iconst (v := nI 1) hx hb dX1_remove_52 (by decide) ?_
          refine n_iadd hx hb dX1_remove_53 ?_
          refine x1_ald_R hx hb hK hP (by omega) dX1_remove_54 ?_
          refine x1_ast_R hx hb hK hP hD hS (by omega) dX1_remove_55 (fun H locs hP hD hS => ?_)
          refine lv_iinc (v := nI (j + 1)) (lv' := [(2, .int (nI (j + 1))), (0, .ref (a 0))]) hx hb dX1_remove_56 hl (k := 0) rfl (ip_inc j) (by decide) rfl (fun ls hl => ?_)
          refine lv_goto (tgt := 12) hx hb dX1_remove_59 (by decide) ?_
          exact ih12 (j + 1) (ip_up Wv j (Wv (j + 1))) (ip_up Rv j (Rv (j + 1))) (by omega) (by rw [eW]; exact ip_sh_step Wa hj.1) (by rw [eR]; exact ip_sh_step Ra hj.1) (by omega) _ _ hP hD hS ls (lv_sub hl [0, 1] rfl)
    exact lp12 _ k_p0 Wa Ra (by omega) ((ip_sh_0 _ _).symm) ((ip_sh_0 _ _).symm) (Nat.lt_succ_self _) _ _ hP hD hS ls (lv_sub hl [0, 1] rfl)
set_option maxHeartbeats 4000000 in
set_option maxRecDepth 100000 in
theorem kX1_change (l : Launch) (D : va_G) (d : ClassId) (a : Nat → Nat) (Wa Ra Ua Ga : Nat → Nat) (n pt : Nat) (hI : ip_AI (Wa, Ra, Ua, n, pt)) (p0 q0 : Int32)  : ip_Mi l yX1_change (ws_ yX1_change cX1_change 4 (some .int)) rmX1_change D d (mw a d Wa Ra Ua Ga n pt) [.ref (a 0), .int p0, .int q0] (S := ip_S1) (fun v u => (v, u.1) = sp_change Wa Ra Ua n pt p0 q0) (mwS a d) := by
  obtain ⟨hW, hR, hU, hn, hpt⟩ := id hI
  have hW : ∀ j, Wa j ≤ 150 := hW
  have hR : ∀ j, Ra j < 4 := hR
  have hU : ∀ j, Ua j < 4 := hU
  have hn : n ≤ 8 := hn
  have hpt : pt ≤ 1500 := hpt
  refine ip_ent_i (by decide) (Nat.le_of_ble_eq_true rfl) ?_
  intro p e s m args below meth c A Q hx hb hml hown hts hA hK hP hD hS hret ls hl
  have hown : s.vm.findClass RX1 = some m.cls := hown
  have hl : lv_has ls 4 [(0, .ref (a 0)), (1, .int p0), (2, .int q0)] := hl
  refine lv_aload_n hx hb dX1_change_0 rfl (lv_at hl 0 rfl) ?_
  refine lv_iload_n hx hb dX1_change_1 rfl (lv_at hl 1 rfl) ?_
  refine ip_callV_i (own := RX1) (C := RX1) (x := a 0) [.int p0] hx hb hml hown hts hA hK (kX1_bad l D d a Wa Ra Ua Ga n pt hI p0) (cwX1_bad hts ⟨Nat.le_of_ble_eq_true rfl, Nat.le_of_ble_eq_true rfl⟩) ⟨1, _, _, rfl, rfl, rfl⟩ hP hD hS hl.1 rfl (Nat.le_of_ble_eq_true rfl) dX1_change_2 ⟨Nat.zero_le _, Nat.zero_le _⟩ (fun r_2 u_1 H locs hw_3 hP hD hS => ?_)
  rcases hw_3 with ⟨rfl, hx_p0⟩ | ⟨rfl, k_p0, hk_p0, rfl, hx_p0⟩
  · skip
    refine n_if_eq (tgt := 10) hx hb dX1_change_5 (by decide) (by omega) (fun h => absurd h (by omega)) (fun _ => ?_)
    refine lv_iconst (v := (-1)) hx hb dX1_change_8 (by decide) ?_
    exact hret ((Wa, Ra, Ua, n, pt), Ga) _ _ _ _ _ dX1_change_9 (by simp [sp_change, hx_p0]) hP hD hS
  · skip
    refine n_if_eq (tgt := 10) hx hb dX1_change_5 (by decide) (by omega) (fun _ => ?_) (fun h => absurd h (by omega))
    refine lv_aload_n hx hb dX1_change_10 rfl (lv_at hl 0 rfl) ?_
    refine lv_iload_n hx hb dX1_change_11 rfl (lv_at hl 2 rfl) ?_
    refine ip_callV_i (own := RX1) (C := RX1) (x := a 0) [.int q0] hx hb hml hown hts hA hK (kX1_badClaim l D d a Wa Ra Ua Ga n pt hI q0) (cwX1_badClaim hts ⟨Nat.le_of_ble_eq_true rfl, Nat.le_of_ble_eq_true rfl⟩) ⟨1, _, _, rfl, rfl, rfl⟩ hP hD hS hl.1 rfl (Nat.le_of_ble_eq_true rfl) dX1_change_12 ⟨Nat.zero_le _, Nat.zero_le _⟩ (fun r_7 u_6 H locs hw_8 hP hD hS => ?_)
    rcases hw_8 with ⟨rfl, hx_q0⟩ | ⟨rfl, k_q0, hk_q0, rfl, hx_q0⟩
    · skip
      refine n_if_eq (tgt := 21) hx hb dX1_change_15 (by decide) (by omega) (fun h => absurd h (by omega)) (fun _ => ?_)
      refine lv_bipush (v := (-2)) hx hb dX1_change_18 (by decide) ?_
      exact hret ((Wa, Ra, Ua, n, pt), Ga) _ _ _ _ _ dX1_change_20 (by simp [sp_change, hx_p0, hx_q0]) hP hD hS
    · skip
      refine n_if_eq (tgt := 21) hx hb dX1_change_15 (by decide) (by omega) (fun _ => ?_) (fun h => absurd h (by omega))
      refine lv_aload_n hx hb dX1_change_21 rfl (lv_at hl 0 rfl) ?_
      refine x1_get_W hx hb hts hown hK hP dX1_change_22 ?_
      refine lv_iload_n hx hb dX1_change_25 rfl (lv_at hl 1 rfl) ?_
      refine x1_ald_W hx hb hK hP (by omega) dX1_change_26 ?_
      refine lv_istore_n (lv' := [(3, .int (nI (Wa k_p0))), (0, .ref (a 0)), (1, .int (nI k_p0)), (2, .int (nI k_q0))]) hx hb dX1_change_27 rfl hl (by decide) rfl (fun ls hl => ?_)
      refine lv_aload_n hx hb dX1_change_28 rfl (lv_at hl 1 rfl) ?_
      refine x1_get_W hx hb hts hown hK hP dX1_change_29 ?_
      refine lv_iload_n hx hb dX1_change_32 rfl (lv_at hl 2 rfl) ?_
      refine lv_iload_n hx hb dX1_change_33 rfl (lv_at hl 3 rfl) ?_
      refine x1_ast_W hx hb hK hP hD hS (by omega) dX1_change_34 (fun H locs hP hD hS => ?_)
      refine lv_iload_n hx hb dX1_change_35 rfl (lv_at hl 0 rfl) ?_
      exact hret (((ip_up Wa k_p0 k_q0), Ra, Ua, n, pt), Ga) _ _ _ _ _ dX1_change_36 (by simp [sp_change, hx_p0, hx_q0]) hP hD hS
set_option maxHeartbeats 4000000 in
set_option maxRecDepth 100000 in
theorem kX1_move (l : Launch) (D : va_G) (d : ClassId) (a : Nat → Nat) (Wa Ra Ua Ga : Nat → Nat) (n pt : Nat) (hI : ip_AI (Wa, Ra, Ua, n, pt)) (p0 q0 : Int32)  : ip_Mi l yX1_move (ws_ yX1_move cX1_move 4 (some .int)) rmX1_move D d (mw a d Wa Ra Ua Ga n pt) [.ref (a 0), .int p0, .int q0] (S := ip_S1) (fun v u => (v, u.1) = sp_move Wa Ra Ua n pt p0 q0) (mwS a d) := by
  obtain ⟨hW, hR, hU, hn, hpt⟩ := id hI
  have hW : ∀ j, Wa j ≤ 150 := hW
  have hR : ∀ j, Ra j < 4 := hR
  have hU : ∀ j, Ua j < 4 := hU
  have hn : n ≤ 8 := hn
  have hpt : pt ≤ 1500 := hpt
  refine ip_ent_i (by decide) (Nat.le_of_ble_eq_true rfl) ?_
  intro p e s m args below meth c A Q hx hb hml hown hts hA hK hP hD hS hret ls hl
  have hown : s.vm.findClass RX1 = some m.cls := hown
  have hl : lv_has ls 4 [(0, .ref (a 0)), (1, .int p0), (2, .int q0)] := hl
  refine lv_aload_n hx hb dX1_move_0 rfl (lv_at hl 0 rfl) ?_
  refine lv_iload_n hx hb dX1_move_1 rfl (lv_at hl 1 rfl) ?_
  refine ip_callV_i (own := RX1) (C := RX1) (x := a 0) [.int p0] hx hb hml hown hts hA hK (kX1_bad l D d a Wa Ra Ua Ga n pt hI p0) (cwX1_bad hts ⟨Nat.le_of_ble_eq_true rfl, Nat.le_of_ble_eq_true rfl⟩) ⟨1, _, _, rfl, rfl, rfl⟩ hP hD hS hl.1 rfl (Nat.le_of_ble_eq_true rfl) dX1_move_2 ⟨Nat.zero_le _, Nat.zero_le _⟩ (fun r_2 u_1 H locs hw_3 hP hD hS => ?_)
  rcases hw_3 with ⟨rfl, hx_p0⟩ | ⟨rfl, k_p0, hk_p0, rfl, hx_p0⟩
  · skip
    refine n_if_eq (tgt := 10) hx hb dX1_move_5 (by decide) (by omega) (fun h => absurd h (by omega)) (fun _ => ?_)
    refine lv_iconst (v := (-1)) hx hb dX1_move_8 (by decide) ?_
    exact hret ((Wa, Ra, Ua, n, pt), Ga) _ _ _ _ _ dX1_move_9 (by simp [sp_move, hx_p0]) hP hD hS
  · skip
    refine n_if_eq (tgt := 10) hx hb dX1_move_5 (by decide) (by omega) (fun _ => ?_) (fun h => absurd h (by omega))
    refine lv_aload_n hx hb dX1_move_10 rfl (lv_at hl 0 rfl) ?_
    refine lv_iload_n hx hb dX1_move_11 rfl (lv_at hl 2 rfl) ?_
    refine ip_callV_i (own := RX1) (C := RX1) (x := a 0) [.int q0] hx hb hml hown hts hA hK (kX1_badRank l D d a Wa Ra Ua Ga n pt hI q0) (cwX1_badRank hts ⟨Nat.le_of_ble_eq_true rfl, Nat.le_of_ble_eq_true rfl⟩) ⟨1, _, _, rfl, rfl, rfl⟩ hP hD hS hl.1 rfl (Nat.le_of_ble_eq_true rfl) dX1_move_12 ⟨Nat.zero_le _, Nat.zero_le _⟩ (fun r_7 u_6 H locs hw_8 hP hD hS => ?_)
    rcases hw_8 with ⟨rfl, hx_q0⟩ | ⟨rfl, k_q0, hk_q0, rfl, hx_q0⟩
    · skip
      refine n_if_eq (tgt := 21) hx hb dX1_move_15 (by decide) (by omega) (fun h => absurd h (by omega)) (fun _ => ?_)
      refine lv_bipush (v := (-2)) hx hb dX1_move_18 (by decide) ?_
      exact hret ((Wa, Ra, Ua, n, pt), Ga) _ _ _ _ _ dX1_move_20 (by simp [sp_move, hx_p0, hx_q0]) hP hD hS
    · skip
      refine n_if_eq (tgt := 21) hx hb dX1_move_15 (by decide) (by omega) (fun _ => ?_) (fun h => absurd h (by omega))
      refine lv_aload_n hx hb dX1_move_21 rfl (lv_at hl 0 rfl) ?_
      refine x1_get_R hx hb hts hown hK hP dX1_move_22 ?_
      refine lv_iload_n hx hb dX1_move_25 rfl (lv_at hl 1 rfl) ?_
      refine x1_ald_R hx hb hK hP (by omega) dX1_move_26 ?_
      refine lv_istore_n (lv' := [(3, .int (nI (Ra k_p0))), (0, .ref (a 0)), (1, .int (nI k_p0)), (2, .int (nI k_q0))]) hx hb dX1_move_27 rfl hl (by decide) rfl (fun ls hl => ?_)
      refine lv_aload_n hx hb dX1_move_28 rfl (lv_at hl 1 rfl) ?_
      refine x1_get_R hx hb hts hown hK hP dX1_move_29 ?_
      refine lv_iload_n hx hb dX1_move_32 rfl (lv_at hl 2 rfl) ?_
      refine lv_iload_n hx hb dX1_move_33 rfl (lv_at hl 3 rfl) ?_
      refine x1_ast_R hx hb hK hP hD hS (by omega) dX1_move_34 (fun H locs hP hD hS => ?_)
      refine lv_iload_n hx hb dX1_move_35 rfl (lv_at hl 0 rfl) ?_
      exact hret ((Wa, (ip_up Ra k_p0 k_q0), Ua, n, pt), Ga) _ _ _ _ _ dX1_move_36 (by simp [sp_move, hx_p0, hx_q0]) hP hD hS
set_option maxHeartbeats 4000000 in
set_option maxRecDepth 100000 in
theorem kX1_rule (l : Launch) (D : va_G) (d : ClassId) (a : Nat → Nat) (Wa Ra Ua Ga : Nat → Nat) (n pt : Nat) (hI : ip_AI (Wa, Ra, Ua, n, pt)) (p0 q0 : Int32)  : ip_Mi l yX1_rule (ws_ yX1_rule cX1_rule 4 (some .int)) rmX1_rule D d (mw a d Wa Ra Ua Ga n pt) [.ref (a 0), .int p0, .int q0] (S := ip_S1) (fun v u => (v, u.1) = sp_rule Wa Ra Ua n pt p0 q0) (mwS a d) := by
  obtain ⟨hW, hR, hU, hn, hpt⟩ := id hI
  have hW : ∀ j, Wa j ≤ 150 := hW
  have hR : ∀ j, Ra j < 4 := hR
  have hU : ∀ j, Ua j < 4 := hU
  have hn : n ≤ 8 := hn
  have hpt : pt ≤ 1500 := hpt
  refine ip_ent_i (by decide) (Nat.le_of_ble_eq_true rfl) ?_
  intro p e s m args below meth c A Q hx hb hml hown hts hA hK hP hD hS hret ls hl
  have hown : s.vm.findClass RX1 = some m.cls := hown
  have hl : lv_has ls 4 [(0, .ref (a 0)), (1, .int p0), (2, .int q0)] := hl
  refine lv_aload_n hx hb dX1_rule_0 rfl (lv_at hl 0 rfl) ?_
  refine lv_iload_n hx hb dX1_rule_1 rfl (lv_at hl 1 rfl) ?_
  refine ip_callV_i (own := RX1) (C := RX1) (x := a 0) [.int p0] hx hb hml hown hts hA hK (kX1_badRank l D d a Wa Ra Ua Ga n pt hI p0) (cwX1_badRank hts ⟨Nat.le_of_ble_eq_true rfl, Nat.le_of_ble_eq_true rfl⟩) ⟨1, _, _, rfl, rfl, rfl⟩ hP hD hS hl.1 rfl (Nat.le_of_ble_eq_true rfl) dX1_rule_2 ⟨Nat.zero_le _, Nat.zero_le _⟩ (fun r_2 u_1 H locs hw_3 hP hD hS => ?_)
  rcases hw_3 with ⟨rfl, hx_p0⟩ | ⟨rfl, k_p0, hk_p0, rfl, hx_p0⟩
  · skip
    refine n_if_eq (tgt := 10) hx hb dX1_rule_5 (by decide) (by omega) (fun h => absurd h (by omega)) (fun _ => ?_)
    refine lv_iconst (v := (-1)) hx hb dX1_rule_8 (by decide) ?_
    exact hret ((Wa, Ra, Ua, n, pt), Ga) _ _ _ _ _ dX1_rule_9 (by simp [sp_rule, hx_p0]) hP hD hS
  · skip
    refine n_if_eq (tgt := 10) hx hb dX1_rule_5 (by decide) (by omega) (fun _ => ?_) (fun h => absurd h (by omega))
    refine lv_iload_n hx hb dX1_rule_10 rfl (lv_at hl 2 rfl) ?_
    refine z_if_lt (tgt := 19) hx hb dX1_rule_11 (by decide) (fun c_6 => ?_) (fun c_6 => ?_)
    · skip
      refine lv_bipush (v := (-2)) hx hb dX1_rule_19 (by decide) ?_
      exact hret ((Wa, Ra, Ua, n, pt), Ga) _ _ _ _ _ dX1_rule_21 (by simp [sp_rule, hx_p0, ip_ix_none (p := q0) (n := 4) (by omega)]) hP hD hS
    · skip
      refine lv_iload_n hx hb dX1_rule_14 rfl (lv_at hl 2 rfl) ?_
      refine lv_iconst (v := nI 3) hx hb dX1_rule_15 (by decide) ?_
      refine z_icmp_le (tgt := 22) hx hb dX1_rule_16 (by decide) (fun c_7 => ?_) (fun c_7 => ?_)
      · skip
        rw [nI_toInt (show 3 < 2 ^ 31 by omega)] at c_7
        obtain ⟨k_q0, hk_q0, rfl, hx_q0⟩ := ip_ix_some (p := q0) (n := 4) (by omega) (by omega)
        refine lv_aload_n hx hb dX1_rule_22 rfl (lv_at hl 0 rfl) ?_
        refine x1_get_U hx hb hts hown hK hP dX1_rule_23 ?_
        refine lv_iload_n hx hb dX1_rule_26 rfl (lv_at hl 1 rfl) ?_
        refine x1_ald_U hx hb hK hP (by omega) dX1_rule_27 ?_
        refine lv_istore_n (lv' := [(3, .int (nI (Ua k_p0))), (0, .ref (a 0)), (1, .int (nI k_p0)), (2, .int (nI k_q0))]) hx hb dX1_rule_28 rfl hl (by decide) rfl (fun ls hl => ?_)
        refine lv_aload_n hx hb dX1_rule_29 rfl (lv_at hl 1 rfl) ?_
        refine x1_get_U hx hb hts hown hK hP dX1_rule_30 ?_
        refine lv_iload_n hx hb dX1_rule_33 rfl (lv_at hl 2 rfl) ?_
        refine lv_iload_n hx hb dX1_rule_34 rfl (lv_at hl 3 rfl) ?_
        refine x1_ast_U hx hb hK hP hD hS (by omega) dX1_rule_35 (fun H locs hP hD hS => ?_)
        refine lv_iload_n hx hb dX1_rule_36 rfl (lv_at hl 0 rfl) ?_
        exact hret ((Wa, Ra, (ip_up Ua k_p0 k_q0), n, pt), Ga) _ _ _ _ _ dX1_rule_37 (by simp [sp_rule, hx_p0, hx_q0]) hP hD hS
      · skip
        rw [nI_toInt (show 3 < 2 ^ 31 by omega)] at c_7
        refine lv_bipush (v := (-2)) hx hb dX1_rule_19 (by decide) ?_
        exact hret ((Wa, Ra, Ua, n, pt), Ga) _ _ _ _ _ dX1_rule_21 (by simp [sp_rule, hx_p0, ip_ix_none (p := q0) (n := 4) (by omega)]) hP hD hS
set_option maxHeartbeats 4000000 in
set_option maxRecDepth 100000 in
theorem kX1_estate (l : Launch) (D : va_G) (d : ClassId) (a : Nat → Nat) (Wa Ra Ua Ga : Nat → Nat) (n pt : Nat) (hI : ip_AI (Wa, Ra, Ua, n, pt)) (p0 : Int32)  : ip_Mi l yX1_estate (ws_ yX1_estate cX1_estate 2 (some .int)) rmX1_estate D d (mw a d Wa Ra Ua Ga n pt) [.ref (a 0), .int p0] (S := ip_S1) (fun v u => (v, u.1) = sp_estate Wa Ra Ua n pt p0) (mwS a d) := by
  obtain ⟨hW, hR, hU, hn, hpt⟩ := id hI
  have hW : ∀ j, Wa j ≤ 150 := hW
  have hR : ∀ j, Ra j < 4 := hR
  have hU : ∀ j, Ua j < 4 := hU
  have hn : n ≤ 8 := hn
  have hpt : pt ≤ 1500 := hpt
  refine ip_ent_i (by decide) (Nat.le_of_ble_eq_true rfl) ?_
  intro p e s m args below meth c A Q hx hb hml hown hts hA hK hP hD hS hret ls hl
  have hown : s.vm.findClass RX1 = some m.cls := hown
  have hl : lv_has ls 2 [(0, .ref (a 0)), (1, .int p0)] := hl
  refine lv_iload_n hx hb dX1_estate_0 rfl (lv_at hl 1 rfl) ?_
  refine lv_aload_n hx hb dX1_estate_1 rfl (lv_at hl 0 rfl) ?_
  refine x1_get_pt hx hb hts hown hK hP dX1_estate_2 ?_
  refine lv_ineg hx hb dX1_estate_5 ?_
  refine z_icmp_lt (tgt := 21) hx hb dX1_estate_6 (by decide) (fun c_1 => ?_) (fun c_1 => ?_)
  · skip
    rw [sb_negT (show pt < 2 ^ 31 by omega)] at c_1
    refine lv_iconst (v := (-1)) hx hb dX1_estate_21 (by decide) ?_
    exact hret ((Wa, Ra, Ua, n, pt), Ga) _ _ _ _ _ dX1_estate_22 (by rw [sp_estate, if_neg (by omega)]) hP hD hS
  · skip
    rw [sb_negT (show pt < 2 ^ 31 by omega)] at c_1
    refine lv_iload_n hx hb dX1_estate_9 rfl (lv_at hl 1 rfl) ?_
    refine lv_sipush (v := nI 1500) hx hb dX1_estate_10 (by decide) ?_
    refine lv_aload_n hx hb dX1_estate_13 rfl (lv_at hl 0 rfl) ?_
    refine x1_get_pt hx hb hts hown hK hP dX1_estate_14 ?_
    refine n_isub hx hb dX1_estate_17 (by omega) ?_
    refine z_icmp_le (tgt := 23) hx hb dX1_estate_18 (by decide) (fun c_2 => ?_) (fun c_2 => ?_)
    · skip
      rw [nI_toInt (show 1500 - pt < 2 ^ 31 by omega)] at c_2
      have eq_p : nI pt + p0 = nI ((pt : Int) + p0.toInt).toNat := by apply Int32.toInt_inj.1; rw [fb_addI (by rw [nI_toInt (by omega)]; omega) (by rw [nI_toInt (by omega)]; omega), nI_toInt (by omega), nI_toInt (by omega)]; omega
      refine lv_aload_n hx hb dX1_estate_23 rfl (lv_at hl 0 rfl) ?_
      refine lv_dup hx hb dX1_estate_24 rfl ?_
      refine x1_get_pt hx hb hts hown hK hP dX1_estate_25 ?_
      refine lv_iload_n hx hb dX1_estate_28 rfl (lv_at hl 1 rfl) ?_
      refine lv_iadd hx hb dX1_estate_29 ?_
      rw [eq_p]
      refine x1_put_pt hx hb hts hown hK hP hD hS dX1_estate_30 (fun H locs hP hD hS => ?_)
      refine lv_aload_n hx hb dX1_estate_33 rfl (lv_at hl 0 rfl) ?_
      refine x1_get_pt hx hb hts hown hK hP dX1_estate_34 ?_
      exact hret ((Wa, Ra, Ua, n, ((pt : Int) + p0.toInt).toNat), Ga) _ _ _ _ _ dX1_estate_37 (by rw [sp_estate, if_pos (by omega)]) hP hD hS
    · skip
      rw [nI_toInt (show 1500 - pt < 2 ^ 31 by omega)] at c_2
      refine lv_iconst (v := (-1)) hx hb dX1_estate_21 (by decide) ?_
      exact hret ((Wa, Ra, Ua, n, pt), Ga) _ _ _ _ _ dX1_estate_22 (by rw [sp_estate, if_neg (by omega)]) hP hD hS
set_option maxHeartbeats 4000000 in
set_option maxRecDepth 100000 in
theorem kX1_claims (l : Launch) (D : va_G) (d : ClassId) (a : Nat → Nat) (Wa Ra Ua Ga : Nat → Nat) (n pt : Nat) (hI : ip_AI (Wa, Ra, Ua, n, pt)) (p0 : Int32)  : ip_Mi l yX1_claims (ws_ yX1_claims cX1_claims 4 (some .int)) rmX1_claims D d (mw a d Wa Ra Ua Ga n pt) [.ref (a 0), .int p0] (S := ip_S1) (fun v u => (v, u.1) = sp_claims Wa Ra Ua n pt p0) (mwS a d) := by
  obtain ⟨hW, hR, hU, hn, hpt⟩ := id hI
  have hW : ∀ j, Wa j ≤ 150 := hW
  have hR : ∀ j, Ra j < 4 := hR
  have hU : ∀ j, Ua j < 4 := hU
  have hn : n ≤ 8 := hn
  have hpt : pt ≤ 1500 := hpt
  refine ip_ent_i (by decide) (Nat.le_of_ble_eq_true rfl) ?_
  intro p e s m args below meth c A Q hx hb hml hown hts hA hK hP hD hS hret ls hl
  have hown : s.vm.findClass RX1 = some m.cls := hown
  have hl : lv_has ls 4 [(0, .ref (a 0)), (1, .int p0)] := hl
  refine lv_aload_n hx hb dX1_claims_0 rfl (lv_at hl 0 rfl) ?_
  refine lv_iload_n hx hb dX1_claims_1 rfl (lv_at hl 1 rfl) ?_
  refine ip_callV_i (own := RX1) (C := RX1) (x := a 0) [.int p0] hx hb hml hown hts hA hK (kX1_badRank l D d a Wa Ra Ua Ga n pt hI p0) (cwX1_badRank hts ⟨Nat.le_of_ble_eq_true rfl, Nat.le_of_ble_eq_true rfl⟩) ⟨1, _, _, rfl, rfl, rfl⟩ hP hD hS hl.1 rfl (Nat.le_of_ble_eq_true rfl) dX1_claims_2 ⟨Nat.zero_le _, Nat.zero_le _⟩ (fun r_2 u_1 H locs hw_3 hP hD hS => ?_)
  rcases hw_3 with ⟨rfl, hx_p0⟩ | ⟨rfl, k_p0, hk_p0, rfl, hx_p0⟩
  · skip
    refine n_if_eq (tgt := 10) hx hb dX1_claims_5 (by decide) (by omega) (fun h => absurd h (by omega)) (fun _ => ?_)
    refine lv_iconst (v := (-1)) hx hb dX1_claims_8 (by decide) ?_
    exact hret ((Wa, Ra, Ua, n, pt), Ga) _ _ _ _ _ dX1_claims_9 (by simp [sp_claims, hx_p0]) hP hD hS
  · skip
    refine n_if_eq (tgt := 10) hx hb dX1_claims_5 (by decide) (by omega) (fun _ => ?_) (fun h => absurd h (by omega))
    refine lv_iconst (v := nI 0) hx hb dX1_claims_10 (by decide) ?_
    refine lv_istore_n (lv' := [(2, .int (nI 0)), (0, .ref (a 0)), (1, .int (nI k_p0))]) hx hb dX1_claims_11 rfl hl (by decide) rfl (fun ls hl => ?_)
    refine lv_iconst (v := nI 0) hx hb dX1_claims_12 (by decide) ?_
    refine lv_istore_n (lv' := [(3, .int (nI 0)), (2, .int (nI 0)), (0, .ref (a 0)), (1, .int (nI k_p0))]) hx hb dX1_claims_13 rfl hl (by decide) rfl (fun ls hl => ?_)
    have lp14 : ∀ (N14 : Nat) (i : Nat) (x : Nat), (i ≤ n) → (x = ip_rs Ra k_p0 Wa i) → n - i < N14 → ∀ (H : Heap) (locs : List Loc), va_P D ip_cl (mw a d Wa Ra Ua Ga n pt) H → va_D A (mw a d Wa Ra Ua Ga n pt) → va_S A s.heap H locs → ∀ (ls : Array Slot), lv_has ls 4 [(3, .int (nI i)), (2, .int (nI x)), (0, .ref (a 0)), (1, .int (nI k_p0))] → W p l e rmX1_claims s m args below meth c H locs 0 0 Q (F0 m 14 ls []) := by
      intro N14
      induction N14 with
      | zero =>
        intro i x _ _ hm
        exact absurd hm (Nat.not_lt_zero _)
      | succ N14 ih14 =>
        intro i x hi he hm14 H locs hP hD hS ls hl
        refine lv_iload_n hx hb dX1_claims_14 rfl (lv_at hl 0 rfl) ?_
        refine lv_aload_n hx hb dX1_claims_15 rfl (lv_at hl 2 rfl) ?_
        refine x1_get_n hx hb hts hown hK hP dX1_claims_16 ?_
        refine n_icmp_ge (tgt := 47) hx hb dX1_claims_19 (by decide) (by omega) (by omega) (fun c_6 => ?_) (fun c_6 => ?_)
        · skip
          refine lv_iload_n hx hb dX1_claims_47 rfl (lv_at hl 1 rfl) ?_
          exact hret ((Wa, Ra, Ua, n, pt), Ga) _ _ _ _ _ dX1_claims_48 (by rw [he, show i = n by omega]; simp [sp_claims, hx_p0]) hP hD hS
        · skip
          refine lv_aload_n hx hb dX1_claims_22 rfl (lv_at hl 2 rfl) ?_
          refine x1_get_R hx hb hts hown hK hP dX1_claims_23 ?_
          refine lv_iload_n hx hb dX1_claims_26 rfl (lv_at hl 0 rfl) ?_
          refine x1_ald_R hx hb hK hP (by omega) dX1_claims_27 ?_
          have b_7 := hR i
          refine lv_iload_n hx hb dX1_claims_28 rfl (lv_at hl 3 rfl) ?_
          refine n_icmp_ne (tgt := 41) hx hb dX1_claims_29 (by decide) (by omega) (by omega) (fun c_8 => ?_) (fun c_8 => ?_)
          · skip
            refine lv_iinc (v := nI (i + 1)) (lv' := [(3, .int (nI (i + 1))), (2, .int (nI x)), (0, .ref (a 0)), (1, .int (nI k_p0))]) hx hb dX1_claims_41 hl (k := 0) rfl (ip_inc i) (by decide) rfl (fun ls hl => ?_)
            refine lv_goto (tgt := 14) hx hb dX1_claims_44 (by decide) ?_
            exact ih14 (i + 1) x (by omega) (by rw [ip_rs_succ]; split <;> omega) (by omega) _ _ hP hD hS ls (lv_sub hl [0, 1, 2, 3] rfl)
          · skip
            refine lv_iload_n hx hb dX1_claims_32 rfl (lv_at hl 1 rfl) ?_
            refine lv_aload_n hx hb dX1_claims_33 rfl (lv_at hl 2 rfl) ?_
            refine x1_get_W hx hb hts hown hK hP dX1_claims_34 ?_
            refine lv_iload_n hx hb dX1_claims_37 rfl (lv_at hl 0 rfl) ?_
            refine x1_ald_W hx hb hK hP (by omega) dX1_claims_38 ?_
            have b_9 := hW i
            refine n_iadd hx hb dX1_claims_39 ?_
            refine lv_istore_n (lv' := [(2, .int (nI (x + (Wa i)))), (3, .int (nI i)), (0, .ref (a 0)), (1, .int (nI k_p0))]) hx hb dX1_claims_40 rfl hl (by decide) rfl (fun ls hl => ?_)
            refine lv_iinc (v := nI (i + 1)) (lv' := [(3, .int (nI (i + 1))), (2, .int (nI (x + (Wa i)))), (0, .ref (a 0)), (1, .int (nI k_p0))]) hx hb dX1_claims_41 hl (k := 1) rfl (ip_inc i) (by decide) rfl (fun ls hl => ?_)
            refine lv_goto (tgt := 14) hx hb dX1_claims_44 (by decide) ?_
            exact ih14 (i + 1) (x + (Wa i)) (by omega) (by rw [ip_rs_succ]; split <;> omega) (by omega) _ _ hP hD hS ls (lv_sub hl [0, 1, 2, 3] rfl)
    exact lp14 _ 0 0 (by omega) (rfl) (Nat.lt_succ_self _) _ _ hP hD hS ls (lv_sub hl [0, 1, 2, 3] rfl)
end
section
/-! ===== the reference: the choice of the next creditor; printed by gen_model.py ===== -/
abbrev rmX1_before : Room := { frames := 0, cells := 0, slots := 0, locals := 0 }
abbrev rmX1_openRank : Room := { frames := 0, cells := 0, slots := 0, locals := 0 }
abbrev rmX1_chosen : Room := { frames := 1, cells := 0, slots := 0, locals := 24 }
abbrev rmX1_hand : Room := { frames := 2, cells := 0, slots := 0, locals := 54 }
theorem cwX1_before {s : State} {args : Array Value} {Rm : Room} (hts : ∀ w ∈ lw_all, w.before args s = true) (hR : rmX1_before.frames + 1 ≤ Rm.frames ∧ 8 + (5 + 11) + rmX1_before.locals ≤ Rm.locals) : CallW Rm s args RX1 RX1 43 yX1_before cX1_before 5 (some .boolean) (ws_ yX1_before cX1_before 5 (some .boolean)) rmX1_before 0 0 4 :=
  cwV 4 hts (lw_V q265 q267 qs17 q20 q268) rfl rfl rfl (by decide +kernel) hR
theorem cwX1_openRank {s : State} {args : Array Value} {Rm : Room} (hts : ∀ w ∈ lw_all, w.before args s = true) (hR : rmX1_openRank.frames + 1 ≤ Rm.frames ∧ 8 + (3 + 11) + rmX1_openRank.locals ≤ Rm.locals) : CallW Rm s args RX1 RX1 39 yX1_openRank cX1_openRank 3 (some .int) (ws_ yX1_openRank cX1_openRank 3 (some .int)) rmX1_openRank 0 0 0 :=
  cwV 0 hts (lw_V q261 q263 qs16 q20 q264) rfl rfl rfl (by decide +kernel) hR
theorem cwX1_chosen {s : State} {args : Array Value} {Rm : Room} (hts : ∀ w ∈ lw_all, w.before args s = true) (hR : rmX1_chosen.frames + 1 ≤ Rm.frames ∧ 8 + (11 + 11) + rmX1_chosen.locals ≤ Rm.locals) : CallW Rm s args RX1 RX1 47 yX1_chosen cX1_chosen 11 (some .int) (ws_ yX1_chosen cX1_chosen 11 (some .int)) rmX1_chosen 0 0 2 :=
  cwV 2 hts (lw_V q257 q259 qs15 q20 q260) rfl rfl rfl (by decide +kernel) hR
theorem cwX1_hand {s : State} {args : Array Value} {Rm : Room} (hts : ∀ w ∈ lw_all, w.before args s = true) (hR : rmX1_hand.frames + 1 ≤ Rm.frames ∧ 8 + (7 + 11) + rmX1_hand.locals ≤ Rm.locals) : CallW Rm s args RX1 RX1 51 yX1_hand cX1_hand 7 (some .int) (ws_ yX1_hand cX1_hand 7 (some .int)) rmX1_hand 0 0 3 :=
  cwV 3 hts (lw_V q253 q255 qs14 q20 q256) rfl rfl rfl (by decide +kernel) hR
set_option maxHeartbeats 4000000 in
set_option maxRecDepth 100000 in
theorem kX1_before (l : Launch) (D : va_G) (d : ClassId) (a : Nat → Nat) (Wa Ra Ua Ga : Nat → Nat) (n pt : Nat) (hI : ip_AI (Wa, Ra, Ua, n, pt)) (x y ru hf : Nat) (h1 : x < n) (h2 : y < n) (hru : ru < 4) (hhf : hf < 2) (hG : ∀ j, j < n → Ga j ≤ Wa j) : ip_Mi l yX1_before (ws_ yX1_before cX1_before 5 (some .boolean)) rmX1_before D d (mw a d Wa Ra Ua Ga n pt) [.ref (a 0), .int (nI x), .int (nI y), .int (nI ru), .int (nI hf)] (S := Unit) (fun v _ => (v = nI 1 ∧ ip_be Wa Ga ru (decide (hf = 1)) x y = true) ∨ (v = nI 0 ∧ ip_be Wa Ga ru (decide (hf = 1)) x y = false)) (fun _ => (mw a d Wa Ra Ua Ga n pt)) := by
  obtain ⟨hW, hR, hU, hn, hpt⟩ := id hI
  have hW : ∀ j, Wa j ≤ 150 := hW
  have hR : ∀ j, Ra j < 4 := hR
  have hU : ∀ j, Ua j < 4 := hU
  have hn : n ≤ 8 := hn
  have hpt : pt ≤ 1500 := hpt
  refine ip_ent_z (by decide) (Nat.le_of_ble_eq_true rfl) ?_
  intro p e s m args below meth c A Q hx hb hml hown hts hA hK hP hD hS hret ls hl
  have hown : s.vm.findClass RX1 = some m.cls := hown
  have hl : lv_has ls 5 [(0, .ref (a 0)), (1, .int (nI x)), (2, .int (nI y)), (3, .int (nI ru)), (4, .int (nI hf))] := hl
  have w_x := hW x
  have w_y := hW y
  refine lv_iload_n hx hb dX1_before_0 rfl (lv_at hl 3 rfl) ?_
  refine n_if_eq (tgt := 9) hx hb dX1_before_1 (by decide) (by omega) (fun c_1 => ?_) (fun c_1 => ?_)
  · skip
    refine lv_aload_n hx hb dX1_before_9 rfl (lv_at hl 0 rfl) ?_
    refine x1_get_G hx hb hts hown hK hP dX1_before_10 ?_
    refine lv_iload_n hx hb dX1_before_13 rfl (lv_at hl 1 rfl) ?_
    refine x1_ald_G hx hb hK hP (by omega) dX1_before_14 ?_
    have b_2 := hG x (by omega)
    refine lv_aload_n hx hb dX1_before_15 rfl (lv_at hl 0 rfl) ?_
    refine x1_get_G hx hb hts hown hK hP dX1_before_16 ?_
    refine lv_iload_n hx hb dX1_before_19 rfl (lv_at hl 2 rfl) ?_
    refine x1_ald_G hx hb hK hP (by omega) dX1_before_20 ?_
    have b_3 := hG y (by omega)
    refine n_icmp_ge (tgt := 28) hx hb dX1_before_21 (by decide) (by omega) (by omega) (fun c_4 => ?_) (fun c_4 => ?_)
    · skip
      refine lv_iconst (v := nI 0) hx hb dX1_before_28 (by decide) ?_
      exact hret () _ _ _ _ _ rfl dX1_before_29 (Or.inr ⟨rfl, by rw [ip_be_1 (by omega)]; exact decide_eq_false (by omega)⟩) hP hD hS
    · skip
      refine lv_iconst (v := nI 1) hx hb dX1_before_24 (by decide) ?_
      refine lv_goto (tgt := 29) hx hb dX1_before_25 (by decide) ?_
      exact hret () _ _ _ _ _ rfl dX1_before_29 (Or.inl ⟨rfl, by rw [ip_be_1 (by omega)]; exact decide_eq_true (by omega)⟩) hP hD hS
  · skip
    refine lv_iload hx hb dX1_before_4 (lv_at hl 4 rfl) ?_
    refine n_if_eq (tgt := 30) hx hb dX1_before_6 (by decide) (by omega) (fun c_5 => ?_) (fun c_5 => ?_)
    · skip
      refine lv_iload_n hx hb dX1_before_30 rfl (lv_at hl 3 rfl) ?_
      refine lv_iconst (v := nI 2) hx hb dX1_before_31 (by decide) ?_
      refine n_icmp_ne (tgt := 74) hx hb dX1_before_32 (by decide) (by omega) (by omega) (fun c_6 => ?_) (fun c_6 => ?_)
      · skip
        refine lv_aload_n hx hb dX1_before_74 rfl (lv_at hl 0 rfl) ?_
        refine x1_get_W hx hb hts hown hK hP dX1_before_75 ?_
        refine lv_iload_n hx hb dX1_before_78 rfl (lv_at hl 1 rfl) ?_
        refine x1_ald_W hx hb hK hP (by omega) dX1_before_79 ?_
        have b_7 := hW x
        refine lv_aload_n hx hb dX1_before_80 rfl (lv_at hl 0 rfl) ?_
        refine x1_get_G hx hb hts hown hK hP dX1_before_81 ?_
        refine lv_iload_n hx hb dX1_before_84 rfl (lv_at hl 1 rfl) ?_
        refine x1_ald_G hx hb hK hP (by omega) dX1_before_85 ?_
        have b_8 := hG x (by omega)
        refine n_isub hx hb dX1_before_86 (by omega) ?_
        refine lv_aload_n hx hb dX1_before_87 rfl (lv_at hl 0 rfl) ?_
        refine x1_get_W hx hb hts hown hK hP dX1_before_88 ?_
        refine lv_iload_n hx hb dX1_before_91 rfl (lv_at hl 2 rfl) ?_
        refine x1_ald_W hx hb hK hP (by omega) dX1_before_92 ?_
        have b_9 := hW y
        refine lv_aload_n hx hb dX1_before_93 rfl (lv_at hl 0 rfl) ?_
        refine x1_get_G hx hb hts hown hK hP dX1_before_94 ?_
        refine lv_iload_n hx hb dX1_before_97 rfl (lv_at hl 2 rfl) ?_
        refine x1_ald_G hx hb hK hP (by omega) dX1_before_98 ?_
        have b_10 := hG y (by omega)
        refine n_isub hx hb dX1_before_99 (by omega) ?_
        refine n_icmp_le (tgt := 107) hx hb dX1_before_100 (by decide) (by omega) (by omega) (fun c_11 => ?_) (fun c_11 => ?_)
        · skip
          refine lv_iconst (v := nI 0) hx hb dX1_before_107 (by decide) ?_
          exact hret () _ _ _ _ _ rfl dX1_before_108 (Or.inr ⟨rfl, by rw [ip_be_3 (by omega) (by omega)]; exact decide_eq_false (by omega)⟩) hP hD hS
        · skip
          refine lv_iconst (v := nI 1) hx hb dX1_before_103 (by decide) ?_
          refine lv_goto (tgt := 108) hx hb dX1_before_104 (by decide) ?_
          exact hret () _ _ _ _ _ rfl dX1_before_108 (Or.inl ⟨rfl, by rw [ip_be_3 (by omega) (by omega)]; exact decide_eq_true (by omega)⟩) hP hD hS
      · skip
        refine lv_aload_n hx hb dX1_before_35 rfl (lv_at hl 0 rfl) ?_
        refine x1_get_W hx hb hts hown hK hP dX1_before_36 ?_
        refine lv_iload_n hx hb dX1_before_39 rfl (lv_at hl 1 rfl) ?_
        refine x1_ald_W hx hb hK hP (by omega) dX1_before_40 ?_
        have b_12 := hW x
        refine lv_aload_n hx hb dX1_before_41 rfl (lv_at hl 0 rfl) ?_
        refine x1_get_G hx hb hts hown hK hP dX1_before_42 ?_
        refine lv_iload_n hx hb dX1_before_45 rfl (lv_at hl 2 rfl) ?_
        refine x1_ald_G hx hb hK hP (by omega) dX1_before_46 ?_
        have b_13 := hG y (by omega)
        refine lv_iconst (v := nI 1) hx hb dX1_before_47 (by decide) ?_
        refine n_iadd hx hb dX1_before_48 ?_
        refine n_imul hx hb dX1_before_49 ?_
        refine lv_aload_n hx hb dX1_before_50 rfl (lv_at hl 0 rfl) ?_
        refine x1_get_W hx hb hts hown hK hP dX1_before_51 ?_
        refine lv_iload_n hx hb dX1_before_54 rfl (lv_at hl 2 rfl) ?_
        refine x1_ald_W hx hb hK hP (by omega) dX1_before_55 ?_
        have b_14 := hW y
        refine lv_aload_n hx hb dX1_before_56 rfl (lv_at hl 0 rfl) ?_
        refine x1_get_G hx hb hts hown hK hP dX1_before_57 ?_
        refine lv_iload_n hx hb dX1_before_60 rfl (lv_at hl 1 rfl) ?_
        refine x1_ald_G hx hb hK hP (by omega) dX1_before_61 ?_
        have b_15 := hG x (by omega)
        refine lv_iconst (v := nI 1) hx hb dX1_before_62 (by decide) ?_
        refine n_iadd hx hb dX1_before_63 ?_
        refine n_imul hx hb dX1_before_64 ?_
        refine n_icmp_le (tgt := 72) hx hb dX1_before_65 (by decide) (Nat.lt_of_le_of_lt (Nat.mul_le_mul (hW x) (show Ga y + 1 ≤ 151 by omega)) (by decide)) (Nat.lt_of_le_of_lt (Nat.mul_le_mul (hW y) (show Ga x + 1 ≤ 151 by omega)) (by decide)) (fun c_16 => ?_) (fun c_16 => ?_)
        · skip
          refine lv_iconst (v := nI 0) hx hb dX1_before_72 (by decide) ?_
          exact hret () _ _ _ _ _ rfl dX1_before_73 (Or.inr ⟨rfl, by rw [ip_be_2 (by omega) (by omega)]; exact decide_eq_false (by omega)⟩) hP hD hS
        · skip
          refine lv_iconst (v := nI 1) hx hb dX1_before_68 (by decide) ?_
          refine lv_goto (tgt := 73) hx hb dX1_before_69 (by decide) ?_
          exact hret () _ _ _ _ _ rfl dX1_before_73 (Or.inl ⟨rfl, by rw [ip_be_2 (by omega) (by omega)]; exact decide_eq_true (by omega)⟩) hP hD hS
    · skip
      refine lv_aload_n hx hb dX1_before_9 rfl (lv_at hl 0 rfl) ?_
      refine x1_get_G hx hb hts hown hK hP dX1_before_10 ?_
      refine lv_iload_n hx hb dX1_before_13 rfl (lv_at hl 1 rfl) ?_
      refine x1_ald_G hx hb hK hP (by omega) dX1_before_14 ?_
      have b_17 := hG x (by omega)
      refine lv_aload_n hx hb dX1_before_15 rfl (lv_at hl 0 rfl) ?_
      refine x1_get_G hx hb hts hown hK hP dX1_before_16 ?_
      refine lv_iload_n hx hb dX1_before_19 rfl (lv_at hl 2 rfl) ?_
      refine x1_ald_G hx hb hK hP (by omega) dX1_before_20 ?_
      have b_18 := hG y (by omega)
      refine n_icmp_ge (tgt := 28) hx hb dX1_before_21 (by decide) (by omega) (by omega) (fun c_19 => ?_) (fun c_19 => ?_)
      · skip
        refine lv_iconst (v := nI 0) hx hb dX1_before_28 (by decide) ?_
        exact hret () _ _ _ _ _ rfl dX1_before_29 (Or.inr ⟨rfl, by rw [ip_be_1 (by omega)]; exact decide_eq_false (by omega)⟩) hP hD hS
      · skip
        refine lv_iconst (v := nI 1) hx hb dX1_before_24 (by decide) ?_
        refine lv_goto (tgt := 29) hx hb dX1_before_25 (by decide) ?_
        exact hret () _ _ _ _ _ rfl dX1_before_29 (Or.inl ⟨rfl, by rw [ip_be_1 (by omega)]; exact decide_eq_true (by omega)⟩) hP hD hS
set_option maxHeartbeats 4000000 in
set_option maxRecDepth 100000 in
theorem kX1_openRank (l : Launch) (D : va_G) (d : ClassId) (a : Nat → Nat) (Wa Ra Ua Ga : Nat → Nat) (n pt : Nat) (hI : ip_AI (Wa, Ra, Ua, n, pt))  (hG : ∀ j, j < n → Ga j ≤ Wa j) : ip_Mi l yX1_openRank (ws_ yX1_openRank cX1_openRank 3 (some .int)) rmX1_openRank D d (mw a d Wa Ra Ua Ga n pt) [.ref (a 0)] (S := Unit) (fun v _ => v = nI (ip_op Wa Ra Ga n)) (fun _ => (mw a d Wa Ra Ua Ga n pt)) := by
  obtain ⟨hW, hR, hU, hn, hpt⟩ := id hI
  have hW : ∀ j, Wa j ≤ 150 := hW
  have hR : ∀ j, Ra j < 4 := hR
  have hU : ∀ j, Ua j < 4 := hU
  have hn : n ≤ 8 := hn
  have hpt : pt ≤ 1500 := hpt
  refine ip_ent_i (by decide) (Nat.le_of_ble_eq_true rfl) ?_
  intro p e s m args below meth c A Q hx hb hml hown hts hA hK hP hD hS hret ls hl
  have hown : s.vm.findClass RX1 = some m.cls := hown
  have hl : lv_has ls 3 [(0, .ref (a 0))] := hl
  have lp4 : ∀ (N4 : Nat) (i : Nat) (x : Nat), (i ≤ n) → (x = ip_op Wa Ra Ga i) → n - i < N4 → ∀ (H : Heap) (locs : List Loc), va_P D ip_cl (mw a d Wa Ra Ua Ga n pt) H → va_D A (mw a d Wa Ra Ua Ga n pt) → va_S A s.heap H locs → ∀ (ls : Array Slot), lv_has ls 3 [(2, .int (nI i)), (1, .int (nI x)), (0, .ref (a 0))] → W p l e rmX1_openRank s m args below meth c H locs 0 0 Q (F0 m 4 ls []) := by
    intro N4
    induction N4 with
    | zero =>
      intro i x _ _ hm
      exact absurd hm (Nat.not_lt_zero _)
    | succ N4 ih4 =>
      intro i x hi he hm4 H locs hP hD hS ls hl
      have bx : x ≤ 4 := by rw [he]; exact (ip_op_spec Wa Ra Ga hR i).1
      refine lv_iload_n hx hb dX1_openRank_4 rfl (lv_at hl 0 rfl) ?_
      refine lv_aload_n hx hb dX1_openRank_5 rfl (lv_at hl 2 rfl) ?_
      refine x1_get_n hx hb hts hown hK hP dX1_openRank_6 ?_
      refine n_icmp_ge (tgt := 56) hx hb dX1_openRank_9 (by decide) (by omega) (by omega) (fun c_1 => ?_) (fun c_1 => ?_)
      · skip
        refine lv_iload_n hx hb dX1_openRank_56 rfl (lv_at hl 1 rfl) ?_
        exact hret () _ _ _ _ _ dX1_openRank_57 (by rw [he, show i = n by omega]) hP hD hS
      · skip
        refine lv_iload_n hx hb dX1_openRank_12 rfl (lv_at hl 0 rfl) ?_
        refine lv_bipush (v := nI 8) hx hb dX1_openRank_13 (by decide) ?_
        refine n_icmp_ge (tgt := 56) hx hb dX1_openRank_15 (by decide) (by omega) (by omega) (fun c_2 => absurd c_2 (by omega)) (fun _ => ?_)
        refine lv_aload_n hx hb dX1_openRank_18 rfl (lv_at hl 2 rfl) ?_
        refine x1_get_G hx hb hts hown hK hP dX1_openRank_19 ?_
        refine lv_iload_n hx hb dX1_openRank_22 rfl (lv_at hl 0 rfl) ?_
        refine x1_ald_G hx hb hK hP (by omega) dX1_openRank_23 ?_
        have b_3 := hG i (by omega)
        refine lv_aload_n hx hb dX1_openRank_24 rfl (lv_at hl 2 rfl) ?_
        refine x1_get_W hx hb hts hown hK hP dX1_openRank_25 ?_
        refine lv_iload_n hx hb dX1_openRank_28 rfl (lv_at hl 0 rfl) ?_
        refine x1_ald_W hx hb hK hP (by omega) dX1_openRank_29 ?_
        have b_4 := hW i
        refine n_icmp_ge (tgt := 50) hx hb dX1_openRank_30 (by decide) (by omega) (by omega) (fun c_5 => ?_) (fun c_5 => ?_)
        · skip
          refine lv_iinc (v := nI (i + 1)) (lv' := [(2, .int (nI (i + 1))), (1, .int (nI x)), (0, .ref (a 0))]) hx hb dX1_openRank_50 hl (k := 0) rfl (ip_inc i) (by decide) rfl (fun ls hl => ?_)
          refine lv_goto (tgt := 4) hx hb dX1_openRank_53 (by decide) ?_
          exact ih4 (i + 1) x (by omega) (by rw [ip_op_succ]; split <;> omega) (by omega) _ _ hP hD hS ls (lv_sub hl [0, 1, 2] rfl)
        · skip
          refine lv_aload_n hx hb dX1_openRank_33 rfl (lv_at hl 2 rfl) ?_
          refine x1_get_R hx hb hts hown hK hP dX1_openRank_34 ?_
          refine lv_iload_n hx hb dX1_openRank_37 rfl (lv_at hl 0 rfl) ?_
          refine x1_ald_R hx hb hK hP (by omega) dX1_openRank_38 ?_
          have b_6 := hR i
          refine lv_iload_n hx hb dX1_openRank_39 rfl (lv_at hl 1 rfl) ?_
          refine n_icmp_ge (tgt := 50) hx hb dX1_openRank_40 (by decide) (by omega) (by omega) (fun c_7 => ?_) (fun c_7 => ?_)
          · skip
            refine lv_iinc (v := nI (i + 1)) (lv' := [(2, .int (nI (i + 1))), (1, .int (nI x)), (0, .ref (a 0))]) hx hb dX1_openRank_50 hl (k := 0) rfl (ip_inc i) (by decide) rfl (fun ls hl => ?_)
            refine lv_goto (tgt := 4) hx hb dX1_openRank_53 (by decide) ?_
            exact ih4 (i + 1) x (by omega) (by rw [ip_op_succ]; split <;> omega) (by omega) _ _ hP hD hS ls (lv_sub hl [0, 1, 2] rfl)
          · skip
            refine lv_aload_n hx hb dX1_openRank_43 rfl (lv_at hl 2 rfl) ?_
            refine x1_get_R hx hb hts hown hK hP dX1_openRank_44 ?_
            refine lv_iload_n hx hb dX1_openRank_47 rfl (lv_at hl 0 rfl) ?_
            refine x1_ald_R hx hb hK hP (by omega) dX1_openRank_48 ?_
            have b_8 := hR i
            refine lv_istore_n (lv' := [(1, .int (nI (Ra i))), (2, .int (nI i)), (0, .ref (a 0))]) hx hb dX1_openRank_49 rfl hl (by decide) rfl (fun ls hl => ?_)
            refine lv_iinc (v := nI (i + 1)) (lv' := [(2, .int (nI (i + 1))), (1, .int (nI (Ra i))), (0, .ref (a 0))]) hx hb dX1_openRank_50 hl (k := 1) rfl (ip_inc i) (by decide) rfl (fun ls hl => ?_)
            refine lv_goto (tgt := 4) hx hb dX1_openRank_53 (by decide) ?_
            exact ih4 (i + 1) (Ra i) (by omega) (by rw [ip_op_succ]; split <;> omega) (by omega) _ _ hP hD hS ls (lv_sub hl [0, 1, 2] rfl)
  refine lv_iconst (v := nI 4) hx hb dX1_openRank_0 (by decide) ?_
  refine lv_istore_n (lv' := [(1, .int (nI 4)), (0, .ref (a 0))]) hx hb dX1_openRank_1 rfl hl (by decide) rfl (fun ls hl => ?_)
  refine lv_iconst (v := nI 0) hx hb dX1_openRank_2 (by decide) ?_
  refine lv_istore_n (lv' := [(2, .int (nI 0)), (1, .int (nI 4)), (0, .ref (a 0))]) hx hb dX1_openRank_3 rfl hl (by decide) rfl (fun ls hl => ?_)
  exact lp4 _ 0 4 (by omega) (rfl) (Nat.lt_succ_self _) _ _ hP hD hS ls (lv_sub hl [0, 1, 2] rfl)
set_option maxHeartbeats 4000000 in
set_option maxRecDepth 100000 in
theorem kX1_chosen (l : Launch) (D : va_G) (d : ClassId) (a : Nat → Nat) (Wa Ra Ua Ga : Nat → Nat) (n pt : Nat) (hI : ip_AI (Wa, Ra, Ua, n, pt))  (sp : Int32) (ot : Nat) (Ub : Nat → Nat) (hE : ∀ x : Nat, x < 4 → (if sp.toInt = (x : Int) then ot else Ua x) = Ub x) (hUb : ∀ j, Ub j < 4) (hot : ot < 4) (hG : ∀ j, j < n → Ga j ≤ Wa j) : ip_Mi l yX1_chosen (ws_ yX1_chosen cX1_chosen 11 (some .int)) rmX1_chosen D d (mw a d Wa Ra Ua Ga n pt) [.ref (a 0), .int sp, .int (nI ot)] (S := Unit) (fun v _ => v = ip_oI (ip_ch Wa Ra Ub n Ga)) (fun _ => (mw a d Wa Ra Ua Ga n pt)) := by
  obtain ⟨hW, hR, hU, hn, hpt⟩ := id hI
  have hW : ∀ j, Wa j ≤ 150 := hW
  have hR : ∀ j, Ra j < 4 := hR
  have hU : ∀ j, Ua j < 4 := hU
  have hn : n ≤ 8 := hn
  have hpt : pt ≤ 1500 := hpt
  refine ip_ent_i (by decide) (Nat.le_of_ble_eq_true rfl) ?_
  intro p e s m args below meth c A Q hx hb hml hown hts hA hK hP hD hS hret ls hl
  have hown : s.vm.findClass RX1 = some m.cls := hown
  have hl : lv_has ls 11 [(0, .ref (a 0)), (1, .int sp), (2, .int (nI ot))] := hl
  refine lv_aload_n hx hb dX1_chosen_0 rfl (lv_at hl 0 rfl) ?_
  refine ip_callV_i (own := RX1) (C := RX1) (x := a 0) [] hx hb hml hown hts hA hK (kX1_openRank l D d a Wa Ra Ua Ga n pt hI hG) (cwX1_openRank hts ⟨Nat.le_of_ble_eq_true rfl, Nat.le_of_ble_eq_true rfl⟩) ⟨1, _, _, rfl, rfl, rfl⟩ hP hD hS hl.1 rfl (Nat.le_of_ble_eq_true rfl) dX1_chosen_1 ⟨Nat.zero_le _, Nat.zero_le _⟩ (fun r_2 u_1 H locs hw_3 hP hD hS => ?_)
  subst hw_3
  have bop := (ip_op_spec Wa Ra Ga hR n).1
  generalize er : ip_op Wa Ra Ga n = r at bop ⊢
  refine lv_istore_n (lv' := [(3, .int (nI r)), (0, .ref (a 0)), (1, .int sp), (2, .int (nI ot))]) hx hb dX1_chosen_4 rfl hl (by decide) rfl (fun ls hl => ?_)
  refine lv_iload_n hx hb dX1_chosen_5 rfl (lv_at hl 0 rfl) ?_
  refine lv_iconst (v := nI 3) hx hb dX1_chosen_6 (by decide) ?_
  refine n_icmp_le (tgt := 12) hx hb dX1_chosen_7 (by decide) (by omega) (by omega) (fun c_4 => ?_) (fun c_4 => ?_)
  · skip
    have tl29 : ∀ (ru : Nat), (ru = Ub r) → ∀ (H : Heap) (locs : List Loc), va_P D ip_cl (mw a d Wa Ra Ua Ga n pt) H → va_D A (mw a d Wa Ra Ua Ga n pt) → va_S A s.heap H locs → ∀ (ls : Array Slot), lv_has ls 11 [(4, .int (nI ru)), (3, .int (nI r)), (0, .ref (a 0))] → W p l e rmX1_chosen s m args below meth c H locs 0 0 Q (F0 m 29 ls []) := by
      intro ru hru H locs hP hD hS ls hl
      have bru : ru < 4 := by rw [hru]; exact hUb r
      have tl117 : ∀ (hf : Nat), (hf < 2) → (decide (hf = 1) = ip_hf Wa Ra Ub Ga n r) → ∀ (H : Heap) (locs : List Loc), va_P D ip_cl (mw a d Wa Ra Ua Ga n pt) H → va_D A (mw a d Wa Ra Ua Ga n pt) → va_S A s.heap H locs → ∀ (ls : Array Slot), lv_has ls 11 [(7, .int (nI hf)), (4, .int (nI ru)), (3, .int (nI r)), (0, .ref (a 0))] → W p l e rmX1_chosen s m args below meth c H locs 0 0 Q (F0 m 117 ls []) := by
        intro hf hhf ehf H locs hP hD hS ls hl
        refine lv_iconst (v := (-1)) hx hb dX1_chosen_117 (by decide) ?_
        refine lv_istore (lv' := [(8, .int (-1)), (7, .int (nI hf)), (4, .int (nI ru)), (3, .int (nI r)), (0, .ref (a 0))]) hx hb dX1_chosen_118 hl (by decide) rfl (fun ls hl => ?_)
        refine lv_iconst (v := nI 0) hx hb dX1_chosen_120 (by decide) ?_
        refine lv_istore (lv' := [(9, .int (nI 0)), (8, .int (-1)), (7, .int (nI hf)), (4, .int (nI ru)), (3, .int (nI r)), (0, .ref (a 0))]) hx hb dX1_chosen_121 hl (by decide) rfl (fun ls hl => ?_)
        have lp123 : ∀ (N123 : Nat) (j : Nat) (ob : Option Nat), (j ≤ n) → (ob = ip_bst (ip_in Wa Ra Ga r (decide (hf = 1))) (ip_be Wa Ga ru (decide (hf = 1))) j) → n - j < N123 → ∀ (H : Heap) (locs : List Loc), va_P D ip_cl (mw a d Wa Ra Ua Ga n pt) H → va_D A (mw a d Wa Ra Ua Ga n pt) → va_S A s.heap H locs → ∀ (ls : Array Slot), lv_has ls 11 [(9, .int (nI j)), (8, .int (ip_oI ob)), (7, .int (nI hf)), (4, .int (nI ru)), (3, .int (nI r)), (0, .ref (a 0))] → W p l e rmX1_chosen s m args below meth c H locs 0 0 Q (F0 m 123 ls []) := by
          intro N123
          induction N123 with
          | zero =>
            intro j ob _ _ hm
            exact absurd hm (Nat.not_lt_zero _)
          | succ N123 ih123 =>
            intro j ob hj hob hm123 H locs hP hD hS ls hl
            refine lv_iload hx hb dX1_chosen_123 (lv_at hl 0 rfl) ?_
            refine lv_aload_n hx hb dX1_chosen_125 rfl (lv_at hl 5 rfl) ?_
            refine x1_get_n hx hb hts hown hK hP dX1_chosen_126 ?_
            refine n_icmp_ge (tgt := 248) hx hb dX1_chosen_129 (by decide) (by omega) (by omega) (fun c_5 => ?_) (fun c_5 => ?_)
            · skip
              refine lv_iload hx hb dX1_chosen_248 (lv_at hl 1 rfl) ?_
              exact hret () _ _ _ _ _ dX1_chosen_250 (by rw [hob, show j = n by omega, ip_ch, er, if_neg (by omega), ip_cr, ehf, hru]) hP hD hS
            · skip
              refine lv_iload hx hb dX1_chosen_132 (lv_at hl 0 rfl) ?_
              refine lv_bipush (v := nI 8) hx hb dX1_chosen_134 (by decide) ?_
              refine n_icmp_ge (tgt := 248) hx hb dX1_chosen_136 (by decide) (by omega) (by omega) (fun c_6 => absurd c_6 (by omega)) (fun _ => ?_)
              refine lv_aload_n hx hb dX1_chosen_139 rfl (lv_at hl 5 rfl) ?_
              refine x1_get_R hx hb hts hown hK hP dX1_chosen_140 ?_
              refine lv_iload hx hb dX1_chosen_143 (lv_at hl 0 rfl) ?_
              refine x1_ald_R hx hb hK hP (by omega) dX1_chosen_145 ?_
              have b_7 := hR j
              refine lv_iload_n hx hb dX1_chosen_146 rfl (lv_at hl 4 rfl) ?_
              refine n_icmp_ne (tgt := 171) hx hb dX1_chosen_147 (by decide) (by omega) (by omega) (fun c_8 => ?_) (fun c_8 => ?_)
              · skip
                refine lv_iconst (v := nI 0) hx hb dX1_chosen_171 (by decide) ?_
                refine lv_istore (lv' := [(10, .int (nI 0)), (9, .int (nI j)), (8, .int (ip_oI ob)), (7, .int (nI hf)), (4, .int (nI ru)), (3, .int (nI r)), (0, .ref (a 0))]) hx hb dX1_chosen_172 hl (by decide) rfl (fun ls hl => ?_)
                refine lv_iload hx hb dX1_chosen_174 (lv_at hl 3 rfl) ?_
                refine n_if_eq (tgt := 201) hx hb dX1_chosen_176 (by decide) (by omega) (fun c_9 => ?_) (fun c_9 => ?_)
                · skip
                  refine lv_iload hx hb dX1_chosen_201 (lv_at hl 0 rfl) ?_
                  refine n_if_eq (tgt := 218) hx hb dX1_chosen_203 (by decide) (by omega) (fun _ => ?_) (fun h => absurd h (by omega))
                  refine lv_iload hx hb dX1_chosen_218 (lv_at hl 0 rfl) ?_
                  refine n_if_eq (tgt := 242) hx hb dX1_chosen_220 (by decide) (by omega) (fun _ => ?_) (fun h => absurd h (by omega))
                  refine lv_iinc (v := nI (j + 1)) (lv' := [(9, .int (nI (j + 1))), (10, .int (nI 0)), (8, .int (ip_oI ob)), (7, .int (nI hf)), (4, .int (nI ru)), (3, .int (nI r)), (0, .ref (a 0))]) hx hb dX1_chosen_242 hl (k := 1) rfl (ip_inc j) (by decide) rfl (fun ls hl => ?_)
                  refine lv_goto (tgt := 123) hx hb dX1_chosen_245 (by decide) ?_
                  exact ih123 (j + 1) ob (by omega) (by first | (rw [ip_bst_out (ip_in_f (by omega))]; exact hob) | (rw [ip_bst_new (ip_in_t (by omega)) hob.symm]) | (rw [ip_bst_yes (ip_in_t (by omega)) hob.symm hbe]) | (rw [ip_bst_no (ip_in_t (by omega)) hob.symm hbe])) (by omega) _ _ hP hD hS ls (lv_sub hl [0, 2, 3, 4, 5, 6] rfl)
                · skip
                  refine lv_iconst (v := nI 2) hx hb dX1_chosen_179 (by decide) ?_
                  refine lv_aload_n hx hb dX1_chosen_180 rfl (lv_at hl 6 rfl) ?_
                  refine x1_get_G hx hb hts hown hK hP dX1_chosen_181 ?_
                  refine lv_iload hx hb dX1_chosen_184 (lv_at hl 1 rfl) ?_
                  refine x1_ald_G hx hb hK hP (by omega) dX1_chosen_186 ?_
                  have b_12 := hG j (by omega)
                  refine n_imul hx hb dX1_chosen_187 ?_
                  refine lv_aload_n hx hb dX1_chosen_188 rfl (lv_at hl 6 rfl) ?_
                  refine x1_get_W hx hb hts hown hK hP dX1_chosen_189 ?_
                  refine lv_iload hx hb dX1_chosen_192 (lv_at hl 1 rfl) ?_
                  refine x1_ald_W hx hb hK hP (by omega) dX1_chosen_194 ?_
                  have b_13 := hW j
                  refine n_icmp_lt (tgt := 201) hx hb dX1_chosen_195 (by decide) (by omega) (by omega) (fun c_14 => ?_) (fun c_14 => ?_)
                  · skip
                    refine lv_iload hx hb dX1_chosen_201 (lv_at hl 0 rfl) ?_
                    refine n_if_eq (tgt := 218) hx hb dX1_chosen_203 (by decide) (by omega) (fun _ => ?_) (fun h => absurd h (by omega))
                    refine lv_iload hx hb dX1_chosen_218 (lv_at hl 0 rfl) ?_
                    refine n_if_eq (tgt := 242) hx hb dX1_chosen_220 (by decide) (by omega) (fun _ => ?_) (fun h => absurd h (by omega))
                    refine lv_iinc (v := nI (j + 1)) (lv' := [(9, .int (nI (j + 1))), (10, .int (nI 0)), (8, .int (ip_oI ob)), (7, .int (nI hf)), (4, .int (nI ru)), (3, .int (nI r)), (0, .ref (a 0))]) hx hb dX1_chosen_242 hl (k := 1) rfl (ip_inc j) (by decide) rfl (fun ls hl => ?_)
                    refine lv_goto (tgt := 123) hx hb dX1_chosen_245 (by decide) ?_
                    exact ih123 (j + 1) ob (by omega) (by first | (rw [ip_bst_out (ip_in_f (by omega))]; exact hob) | (rw [ip_bst_new (ip_in_t (by omega)) hob.symm]) | (rw [ip_bst_yes (ip_in_t (by omega)) hob.symm hbe]) | (rw [ip_bst_no (ip_in_t (by omega)) hob.symm hbe])) (by omega) _ _ hP hD hS ls (lv_sub hl [0, 2, 3, 4, 5, 6] rfl)
                  · skip
                    refine lv_iconst (v := nI 0) hx hb dX1_chosen_198 (by decide) ?_
                    refine lv_istore (lv' := [(10, .int (nI 0)), (9, .int (nI j)), (8, .int (ip_oI ob)), (7, .int (nI hf)), (4, .int (nI ru)), (3, .int (nI r)), (0, .ref (a 0))]) hx hb dX1_chosen_199 hl (by decide) rfl (fun ls hl => ?_)
                    refine lv_iload hx hb dX1_chosen_201 (lv_at hl 0 rfl) ?_
                    refine n_if_eq (tgt := 218) hx hb dX1_chosen_203 (by decide) (by omega) (fun _ => ?_) (fun h => absurd h (by omega))
                    refine lv_iload hx hb dX1_chosen_218 (lv_at hl 0 rfl) ?_
                    refine n_if_eq (tgt := 242) hx hb dX1_chosen_220 (by decide) (by omega) (fun _ => ?_) (fun h => absurd h (by omega))
                    refine lv_iinc (v := nI (j + 1)) (lv' := [(9, .int (nI (j + 1))), (10, .int (nI 0)), (8, .int (ip_oI ob)), (7, .int (nI hf)), (4, .int (nI ru)), (3, .int (nI r)), (0, .ref (a 0))]) hx hb dX1_chosen_242 hl (k := 1) rfl (ip_inc j) (by decide) rfl (fun ls hl => ?_)
                    refine lv_goto (tgt := 123) hx hb dX1_chosen_245 (by decide) ?_
                    exact ih123 (j + 1) ob (by omega) (by first | (rw [ip_bst_out (ip_in_f (by omega))]; exact hob) | (rw [ip_bst_new (ip_in_t (by omega)) hob.symm]) | (rw [ip_bst_yes (ip_in_t (by omega)) hob.symm hbe]) | (rw [ip_bst_no (ip_in_t (by omega)) hob.symm hbe])) (by omega) _ _ hP hD hS ls (lv_sub hl [0, 2, 3, 4, 5, 6] rfl)
              · skip
                refine lv_aload_n hx hb dX1_chosen_150 rfl (lv_at hl 5 rfl) ?_
                refine x1_get_G hx hb hts hown hK hP dX1_chosen_151 ?_
                refine lv_iload hx hb dX1_chosen_154 (lv_at hl 0 rfl) ?_
                refine x1_ald_G hx hb hK hP (by omega) dX1_chosen_156 ?_
                have b_19 := hG j (by omega)
                refine lv_aload_n hx hb dX1_chosen_157 rfl (lv_at hl 5 rfl) ?_
                refine x1_get_W hx hb hts hown hK hP dX1_chosen_158 ?_
                refine lv_iload hx hb dX1_chosen_161 (lv_at hl 0 rfl) ?_
                refine x1_ald_W hx hb hK hP (by omega) dX1_chosen_163 ?_
                have b_20 := hW j
                refine n_icmp_ge (tgt := 171) hx hb dX1_chosen_164 (by decide) (by omega) (by omega) (fun c_21 => ?_) (fun c_21 => ?_)
                · skip
                  refine lv_iconst (v := nI 0) hx hb dX1_chosen_171 (by decide) ?_
                  refine lv_istore (lv' := [(10, .int (nI 0)), (9, .int (nI j)), (8, .int (ip_oI ob)), (7, .int (nI hf)), (4, .int (nI ru)), (3, .int (nI r)), (0, .ref (a 0))]) hx hb dX1_chosen_172 hl (by decide) rfl (fun ls hl => ?_)
                  refine lv_iload hx hb dX1_chosen_174 (lv_at hl 3 rfl) ?_
                  refine n_if_eq (tgt := 201) hx hb dX1_chosen_176 (by decide) (by omega) (fun c_22 => ?_) (fun c_22 => ?_)
                  · skip
                    refine lv_iload hx hb dX1_chosen_201 (lv_at hl 0 rfl) ?_
                    refine n_if_eq (tgt := 218) hx hb dX1_chosen_203 (by decide) (by omega) (fun _ => ?_) (fun h => absurd h (by omega))
                    refine lv_iload hx hb dX1_chosen_218 (lv_at hl 0 rfl) ?_
                    refine n_if_eq (tgt := 242) hx hb dX1_chosen_220 (by decide) (by omega) (fun _ => ?_) (fun h => absurd h (by omega))
                    refine lv_iinc (v := nI (j + 1)) (lv' := [(9, .int (nI (j + 1))), (10, .int (nI 0)), (8, .int (ip_oI ob)), (7, .int (nI hf)), (4, .int (nI ru)), (3, .int (nI r)), (0, .ref (a 0))]) hx hb dX1_chosen_242 hl (k := 1) rfl (ip_inc j) (by decide) rfl (fun ls hl => ?_)
                    refine lv_goto (tgt := 123) hx hb dX1_chosen_245 (by decide) ?_
                    exact ih123 (j + 1) ob (by omega) (by first | (rw [ip_bst_out (ip_in_f (by omega))]; exact hob) | (rw [ip_bst_new (ip_in_t (by omega)) hob.symm]) | (rw [ip_bst_yes (ip_in_t (by omega)) hob.symm hbe]) | (rw [ip_bst_no (ip_in_t (by omega)) hob.symm hbe])) (by omega) _ _ hP hD hS ls (lv_sub hl [0, 2, 3, 4, 5, 6] rfl)
                  · skip
                    refine lv_iconst (v := nI 2) hx hb dX1_chosen_179 (by decide) ?_
                    refine lv_aload_n hx hb dX1_chosen_180 rfl (lv_at hl 6 rfl) ?_
                    refine x1_get_G hx hb hts hown hK hP dX1_chosen_181 ?_
                    refine lv_iload hx hb dX1_chosen_184 (lv_at hl 1 rfl) ?_
                    refine x1_ald_G hx hb hK hP (by omega) dX1_chosen_186 ?_
                    have b_25 := hG j (by omega)
                    refine n_imul hx hb dX1_chosen_187 ?_
                    refine lv_aload_n hx hb dX1_chosen_188 rfl (lv_at hl 6 rfl) ?_
                    refine x1_get_W hx hb hts hown hK hP dX1_chosen_189 ?_
                    refine lv_iload hx hb dX1_chosen_192 (lv_at hl 1 rfl) ?_
                    refine x1_ald_W hx hb hK hP (by omega) dX1_chosen_194 ?_
                    have b_26 := hW j
                    refine n_icmp_lt (tgt := 201) hx hb dX1_chosen_195 (by decide) (by omega) (by omega) (fun c_27 => ?_) (fun c_27 => ?_)
                    · skip
                      refine lv_iload hx hb dX1_chosen_201 (lv_at hl 0 rfl) ?_
                      refine n_if_eq (tgt := 218) hx hb dX1_chosen_203 (by decide) (by omega) (fun _ => ?_) (fun h => absurd h (by omega))
                      refine lv_iload hx hb dX1_chosen_218 (lv_at hl 0 rfl) ?_
                      refine n_if_eq (tgt := 242) hx hb dX1_chosen_220 (by decide) (by omega) (fun _ => ?_) (fun h => absurd h (by omega))
                      refine lv_iinc (v := nI (j + 1)) (lv' := [(9, .int (nI (j + 1))), (10, .int (nI 0)), (8, .int (ip_oI ob)), (7, .int (nI hf)), (4, .int (nI ru)), (3, .int (nI r)), (0, .ref (a 0))]) hx hb dX1_chosen_242 hl (k := 1) rfl (ip_inc j) (by decide) rfl (fun ls hl => ?_)
                      refine lv_goto (tgt := 123) hx hb dX1_chosen_245 (by decide) ?_
                      exact ih123 (j + 1) ob (by omega) (by first | (rw [ip_bst_out (ip_in_f (by omega))]; exact hob) | (rw [ip_bst_new (ip_in_t (by omega)) hob.symm]) | (rw [ip_bst_yes (ip_in_t (by omega)) hob.symm hbe]) | (rw [ip_bst_no (ip_in_t (by omega)) hob.symm hbe])) (by omega) _ _ hP hD hS ls (lv_sub hl [0, 2, 3, 4, 5, 6] rfl)
                    · skip
                      refine lv_iconst (v := nI 0) hx hb dX1_chosen_198 (by decide) ?_
                      refine lv_istore (lv' := [(10, .int (nI 0)), (9, .int (nI j)), (8, .int (ip_oI ob)), (7, .int (nI hf)), (4, .int (nI ru)), (3, .int (nI r)), (0, .ref (a 0))]) hx hb dX1_chosen_199 hl (by decide) rfl (fun ls hl => ?_)
                      refine lv_iload hx hb dX1_chosen_201 (lv_at hl 0 rfl) ?_
                      refine n_if_eq (tgt := 218) hx hb dX1_chosen_203 (by decide) (by omega) (fun _ => ?_) (fun h => absurd h (by omega))
                      refine lv_iload hx hb dX1_chosen_218 (lv_at hl 0 rfl) ?_
                      refine n_if_eq (tgt := 242) hx hb dX1_chosen_220 (by decide) (by omega) (fun _ => ?_) (fun h => absurd h (by omega))
                      refine lv_iinc (v := nI (j + 1)) (lv' := [(9, .int (nI (j + 1))), (10, .int (nI 0)), (8, .int (ip_oI ob)), (7, .int (nI hf)), (4, .int (nI ru)), (3, .int (nI r)), (0, .ref (a 0))]) hx hb dX1_chosen_242 hl (k := 1) rfl (ip_inc j) (by decide) rfl (fun ls hl => ?_)
                      refine lv_goto (tgt := 123) hx hb dX1_chosen_245 (by decide) ?_
                      exact ih123 (j + 1) ob (by omega) (by first | (rw [ip_bst_out (ip_in_f (by omega))]; exact hob) | (rw [ip_bst_new (ip_in_t (by omega)) hob.symm]) | (rw [ip_bst_yes (ip_in_t (by omega)) hob.symm hbe]) | (rw [ip_bst_no (ip_in_t (by omega)) hob.symm hbe])) (by omega) _ _ hP hD hS ls (lv_sub hl [0, 2, 3, 4, 5, 6] rfl)
                · skip
                  refine lv_iconst (v := nI 1) hx hb dX1_chosen_167 (by decide) ?_
                  refine lv_goto (tgt := 172) hx hb dX1_chosen_168 (by decide) ?_
                  refine lv_istore (lv' := [(10, .int (nI 1)), (9, .int (nI j)), (8, .int (ip_oI ob)), (7, .int (nI hf)), (4, .int (nI ru)), (3, .int (nI r)), (0, .ref (a 0))]) hx hb dX1_chosen_172 hl (by decide) rfl (fun ls hl => ?_)
                  refine lv_iload hx hb dX1_chosen_174 (lv_at hl 3 rfl) ?_
                  refine n_if_eq (tgt := 201) hx hb dX1_chosen_176 (by decide) (by omega) (fun c_32 => ?_) (fun c_32 => ?_)
                  · skip
                    refine lv_iload hx hb dX1_chosen_201 (lv_at hl 0 rfl) ?_
                    refine n_if_eq (tgt := 218) hx hb dX1_chosen_203 (by decide) (by omega) (fun h => absurd h (by omega)) (fun _ => ?_)
                    rcases ob with _ | bb_34
                    · have hl : lv_has ls 11 [(10, .int (nI 1)), (9, .int (nI j)), (8, .int (-1)), (7, .int (nI hf)), (4, .int (nI ru)), (3, .int (nI r)), (0, .ref (a 0))] := hl
                      refine lv_iload hx hb dX1_chosen_206 (lv_at hl 2 rfl) ?_
                      refine z_if_ge (tgt := 218) hx hb dX1_chosen_208 (by decide) (fun h => absurd h (by decide)) (fun _ => ?_)
                      refine lv_iload hx hb dX1_chosen_211 (lv_at hl 1 rfl) ?_
                      refine lv_istore (lv' := [(8, .int (nI j)), (10, .int (nI 1)), (9, .int (nI j)), (7, .int (nI hf)), (4, .int (nI ru)), (3, .int (nI r)), (0, .ref (a 0))]) hx hb dX1_chosen_213 hl (by decide) rfl (fun ls hl => ?_)
                      refine lv_goto (tgt := 242) hx hb dX1_chosen_215 (by decide) ?_
                      refine lv_iinc (v := nI (j + 1)) (lv' := [(9, .int (nI (j + 1))), (8, .int (nI j)), (10, .int (nI 1)), (7, .int (nI hf)), (4, .int (nI ru)), (3, .int (nI r)), (0, .ref (a 0))]) hx hb dX1_chosen_242 hl (k := 2) rfl (ip_inc j) (by decide) rfl (fun ls hl => ?_)
                      refine lv_goto (tgt := 123) hx hb dX1_chosen_245 (by decide) ?_
                      exact ih123 (j + 1) (some j) (by omega) (by first | (rw [ip_bst_out (ip_in_f (by omega))]; exact hob) | (rw [ip_bst_new (ip_in_t (by omega)) hob.symm]) | (rw [ip_bst_yes (ip_in_t (by omega)) hob.symm hbe]) | (rw [ip_bst_no (ip_in_t (by omega)) hob.symm hbe])) (by omega) _ _ hP hD hS ls (lv_sub hl [0, 1, 3, 4, 5, 6] rfl)
                    · have hl : lv_has ls 11 [(10, .int (nI 1)), (9, .int (nI j)), (8, .int (nI bb_34)), (7, .int (nI hf)), (4, .int (nI ru)), (3, .int (nI r)), (0, .ref (a 0))] := hl
                      refine lv_iload hx hb dX1_chosen_206 (lv_at hl 2 rfl) ?_
                      have hlb := ip_bst_lt hob.symm
                      refine n_if_ge (tgt := 218) hx hb dX1_chosen_208 (by decide) (by omega) (fun _ => ?_) (fun h => h.elim)
                      refine lv_iload hx hb dX1_chosen_218 (lv_at hl 0 rfl) ?_
                      refine n_if_eq (tgt := 242) hx hb dX1_chosen_220 (by decide) (by omega) (fun h => absurd h (by omega)) (fun _ => ?_)
                      refine lv_aload_n hx hb dX1_chosen_223 rfl (lv_at hl 6 rfl) ?_
                      refine lv_iload hx hb dX1_chosen_224 (lv_at hl 1 rfl) ?_
                      refine lv_iload hx hb dX1_chosen_226 (lv_at hl 2 rfl) ?_
                      refine lv_iload hx hb dX1_chosen_228 (lv_at hl 4 rfl) ?_
                      refine lv_iload hx hb dX1_chosen_230 (lv_at hl 3 rfl) ?_
                      refine ip_callV_i (own := RX1) (C := RX1) (x := a 0) [.int (nI j), .int (nI bb_34), .int (nI ru), .int (nI hf)] hx hb hml hown hts hA hK (kX1_before l D d a Wa Ra Ua Ga n pt hI j bb_34 ru hf (by omega) (by omega) (by omega) (by omega) hG) (cwX1_before hts ⟨Nat.le_of_ble_eq_true rfl, Nat.le_of_ble_eq_true rfl⟩) ⟨1, _, _, rfl, rfl, rfl⟩ hP hD hS hl.1 rfl (Nat.le_of_ble_eq_true rfl) dX1_chosen_232 ⟨Nat.zero_le _, Nat.zero_le _⟩ (fun r_39 u_38 H locs hw_40 hP hD hS => ?_)
                      rcases hw_40 with ⟨rfl, hbe⟩ | ⟨rfl, hbe⟩
                      · skip
                        refine n_if_eq (tgt := 242) hx hb dX1_chosen_235 (by decide) (by omega) (fun h => absurd h (by omega)) (fun _ => ?_)
                        refine lv_iload hx hb dX1_chosen_238 (lv_at hl 1 rfl) ?_
                        refine lv_istore (lv' := [(8, .int (nI j)), (10, .int (nI 1)), (9, .int (nI j)), (7, .int (nI hf)), (4, .int (nI ru)), (3, .int (nI r)), (0, .ref (a 0))]) hx hb dX1_chosen_240 hl (by decide) rfl (fun ls hl => ?_)
                        refine lv_iinc (v := nI (j + 1)) (lv' := [(9, .int (nI (j + 1))), (8, .int (nI j)), (10, .int (nI 1)), (7, .int (nI hf)), (4, .int (nI ru)), (3, .int (nI r)), (0, .ref (a 0))]) hx hb dX1_chosen_242 hl (k := 2) rfl (ip_inc j) (by decide) rfl (fun ls hl => ?_)
                        refine lv_goto (tgt := 123) hx hb dX1_chosen_245 (by decide) ?_
                        exact ih123 (j + 1) (some j) (by omega) (by first | (rw [ip_bst_out (ip_in_f (by omega))]; exact hob) | (rw [ip_bst_new (ip_in_t (by omega)) hob.symm]) | (rw [ip_bst_yes (ip_in_t (by omega)) hob.symm hbe]) | (rw [ip_bst_no (ip_in_t (by omega)) hob.symm hbe])) (by omega) _ _ hP hD hS ls (lv_sub hl [0, 1, 3, 4, 5, 6] rfl)
                      · skip
                        refine n_if_eq (tgt := 242) hx hb dX1_chosen_235 (by decide) (by omega) (fun _ => ?_) (fun h => absurd h (by omega))
                        refine lv_iinc (v := nI (j + 1)) (lv' := [(9, .int (nI (j + 1))), (10, .int (nI 1)), (8, .int (nI bb_34)), (7, .int (nI hf)), (4, .int (nI ru)), (3, .int (nI r)), (0, .ref (a 0))]) hx hb dX1_chosen_242 hl (k := 1) rfl (ip_inc j) (by decide) rfl (fun ls hl => ?_)
                        refine lv_goto (tgt := 123) hx hb dX1_chosen_245 (by decide) ?_
                        exact ih123 (j + 1) (some bb_34) (by omega) (by first | (rw [ip_bst_out (ip_in_f (by omega))]; exact hob) | (rw [ip_bst_new (ip_in_t (by omega)) hob.symm]) | (rw [ip_bst_yes (ip_in_t (by omega)) hob.symm hbe]) | (rw [ip_bst_no (ip_in_t (by omega)) hob.symm hbe])) (by omega) _ _ hP hD hS ls (lv_sub hl [0, 2, 3, 4, 5, 6] rfl)
                  · skip
                    refine lv_iconst (v := nI 2) hx hb dX1_chosen_179 (by decide) ?_
                    refine lv_aload_n hx hb dX1_chosen_180 rfl (lv_at hl 6 rfl) ?_
                    refine x1_get_G hx hb hts hown hK hP dX1_chosen_181 ?_
                    refine lv_iload hx hb dX1_chosen_184 (lv_at hl 1 rfl) ?_
                    refine x1_ald_G hx hb hK hP (by omega) dX1_chosen_186 ?_
                    have b_43 := hG j (by omega)
                    refine n_imul hx hb dX1_chosen_187 ?_
                    refine lv_aload_n hx hb dX1_chosen_188 rfl (lv_at hl 6 rfl) ?_
                    refine x1_get_W hx hb hts hown hK hP dX1_chosen_189 ?_
                    refine lv_iload hx hb dX1_chosen_192 (lv_at hl 1 rfl) ?_
                    refine x1_ald_W hx hb hK hP (by omega) dX1_chosen_194 ?_
                    have b_44 := hW j
                    refine n_icmp_lt (tgt := 201) hx hb dX1_chosen_195 (by decide) (by omega) (by omega) (fun c_45 => ?_) (fun c_45 => ?_)
                    · skip
                      refine lv_iload hx hb dX1_chosen_201 (lv_at hl 0 rfl) ?_
                      refine n_if_eq (tgt := 218) hx hb dX1_chosen_203 (by decide) (by omega) (fun h => absurd h (by omega)) (fun _ => ?_)
                      rcases ob with _ | bb_47
                      · have hl : lv_has ls 11 [(10, .int (nI 1)), (9, .int (nI j)), (8, .int (-1)), (7, .int (nI hf)), (4, .int (nI ru)), (3, .int (nI r)), (0, .ref (a 0))] := hl
                        refine lv_iload hx hb dX1_chosen_206 (lv_at hl 2 rfl) ?_
                        refine z_if_ge (tgt := 218) hx hb dX1_chosen_208 (by decide) (fun h => absurd h (by decide)) (fun _ => ?_)
                        refine lv_iload hx hb dX1_chosen_211 (lv_at hl 1 rfl) ?_
                        refine lv_istore (lv' := [(8, .int (nI j)), (10, .int (nI 1)), (9, .int (nI j)), (7, .int (nI hf)), (4, .int (nI ru)), (3, .int (nI r)), (0, .ref (a 0))]) hx hb dX1_chosen_213 hl (by decide) rfl (fun ls hl => ?_)
                        refine lv_goto (tgt := 242) hx hb dX1_chosen_215 (by decide) ?_
                        refine lv_iinc (v := nI (j + 1)) (lv' := [(9, .int (nI (j + 1))), (8, .int (nI j)), (10, .int (nI 1)), (7, .int (nI hf)), (4, .int (nI ru)), (3, .int (nI r)), (0, .ref (a 0))]) hx hb dX1_chosen_242 hl (k := 2) rfl (ip_inc j) (by decide) rfl (fun ls hl => ?_)
                        refine lv_goto (tgt := 123) hx hb dX1_chosen_245 (by decide) ?_
                        exact ih123 (j + 1) (some j) (by omega) (by first | (rw [ip_bst_out (ip_in_f (by omega))]; exact hob) | (rw [ip_bst_new (ip_in_t (by omega)) hob.symm]) | (rw [ip_bst_yes (ip_in_t (by omega)) hob.symm hbe]) | (rw [ip_bst_no (ip_in_t (by omega)) hob.symm hbe])) (by omega) _ _ hP hD hS ls (lv_sub hl [0, 1, 3, 4, 5, 6] rfl)
                      · have hl : lv_has ls 11 [(10, .int (nI 1)), (9, .int (nI j)), (8, .int (nI bb_47)), (7, .int (nI hf)), (4, .int (nI ru)), (3, .int (nI r)), (0, .ref (a 0))] := hl
                        refine lv_iload hx hb dX1_chosen_206 (lv_at hl 2 rfl) ?_
                        have hlb := ip_bst_lt hob.symm
                        refine n_if_ge (tgt := 218) hx hb dX1_chosen_208 (by decide) (by omega) (fun _ => ?_) (fun h => h.elim)
                        refine lv_iload hx hb dX1_chosen_218 (lv_at hl 0 rfl) ?_
                        refine n_if_eq (tgt := 242) hx hb dX1_chosen_220 (by decide) (by omega) (fun h => absurd h (by omega)) (fun _ => ?_)
                        refine lv_aload_n hx hb dX1_chosen_223 rfl (lv_at hl 6 rfl) ?_
                        refine lv_iload hx hb dX1_chosen_224 (lv_at hl 1 rfl) ?_
                        refine lv_iload hx hb dX1_chosen_226 (lv_at hl 2 rfl) ?_
                        refine lv_iload hx hb dX1_chosen_228 (lv_at hl 4 rfl) ?_
                        refine lv_iload hx hb dX1_chosen_230 (lv_at hl 3 rfl) ?_
                        refine ip_callV_i (own := RX1) (C := RX1) (x := a 0) [.int (nI j), .int (nI bb_47), .int (nI ru), .int (nI hf)] hx hb hml hown hts hA hK (kX1_before l D d a Wa Ra Ua Ga n pt hI j bb_47 ru hf (by omega) (by omega) (by omega) (by omega) hG) (cwX1_before hts ⟨Nat.le_of_ble_eq_true rfl, Nat.le_of_ble_eq_true rfl⟩) ⟨1, _, _, rfl, rfl, rfl⟩ hP hD hS hl.1 rfl (Nat.le_of_ble_eq_true rfl) dX1_chosen_232 ⟨Nat.zero_le _, Nat.zero_le _⟩ (fun r_52 u_51 H locs hw_53 hP hD hS => ?_)
                        rcases hw_53 with ⟨rfl, hbe⟩ | ⟨rfl, hbe⟩
                        · skip
                          refine n_if_eq (tgt := 242) hx hb dX1_chosen_235 (by decide) (by omega) (fun h => absurd h (by omega)) (fun _ => ?_)
                          refine lv_iload hx hb dX1_chosen_238 (lv_at hl 1 rfl) ?_
                          refine lv_istore (lv' := [(8, .int (nI j)), (10, .int (nI 1)), (9, .int (nI j)), (7, .int (nI hf)), (4, .int (nI ru)), (3, .int (nI r)), (0, .ref (a 0))]) hx hb dX1_chosen_240 hl (by decide) rfl (fun ls hl => ?_)
                          refine lv_iinc (v := nI (j + 1)) (lv' := [(9, .int (nI (j + 1))), (8, .int (nI j)), (10, .int (nI 1)), (7, .int (nI hf)), (4, .int (nI ru)), (3, .int (nI r)), (0, .ref (a 0))]) hx hb dX1_chosen_242 hl (k := 2) rfl (ip_inc j) (by decide) rfl (fun ls hl => ?_)
                          refine lv_goto (tgt := 123) hx hb dX1_chosen_245 (by decide) ?_
                          exact ih123 (j + 1) (some j) (by omega) (by first | (rw [ip_bst_out (ip_in_f (by omega))]; exact hob) | (rw [ip_bst_new (ip_in_t (by omega)) hob.symm]) | (rw [ip_bst_yes (ip_in_t (by omega)) hob.symm hbe]) | (rw [ip_bst_no (ip_in_t (by omega)) hob.symm hbe])) (by omega) _ _ hP hD hS ls (lv_sub hl [0, 1, 3, 4, 5, 6] rfl)
                        · skip
                          refine n_if_eq (tgt := 242) hx hb dX1_chosen_235 (by decide) (by omega) (fun _ => ?_) (fun h => absurd h (by omega))
                          refine lv_iinc (v := nI (j + 1)) (lv' := [(9, .int (nI (j + 1))), (10, .int (nI 1)), (8, .int (nI bb_47)), (7, .int (nI hf)), (4, .int (nI ru)), (3, .int (nI r)), (0, .ref (a 0))]) hx hb dX1_chosen_242 hl (k := 1) rfl (ip_inc j) (by decide) rfl (fun ls hl => ?_)
                          refine lv_goto (tgt := 123) hx hb dX1_chosen_245 (by decide) ?_
                          exact ih123 (j + 1) (some bb_47) (by omega) (by first | (rw [ip_bst_out (ip_in_f (by omega))]; exact hob) | (rw [ip_bst_new (ip_in_t (by omega)) hob.symm]) | (rw [ip_bst_yes (ip_in_t (by omega)) hob.symm hbe]) | (rw [ip_bst_no (ip_in_t (by omega)) hob.symm hbe])) (by omega) _ _ hP hD hS ls (lv_sub hl [0, 2, 3, 4, 5, 6] rfl)
                    · skip
                      refine lv_iconst (v := nI 0) hx hb dX1_chosen_198 (by decide) ?_
                      refine lv_istore (lv' := [(10, .int (nI 0)), (9, .int (nI j)), (8, .int (ip_oI ob)), (7, .int (nI hf)), (4, .int (nI ru)), (3, .int (nI r)), (0, .ref (a 0))]) hx hb dX1_chosen_199 hl (by decide) rfl (fun ls hl => ?_)
                      refine lv_iload hx hb dX1_chosen_201 (lv_at hl 0 rfl) ?_
                      refine n_if_eq (tgt := 218) hx hb dX1_chosen_203 (by decide) (by omega) (fun _ => ?_) (fun h => absurd h (by omega))
                      refine lv_iload hx hb dX1_chosen_218 (lv_at hl 0 rfl) ?_
                      refine n_if_eq (tgt := 242) hx hb dX1_chosen_220 (by decide) (by omega) (fun _ => ?_) (fun h => absurd h (by omega))
                      refine lv_iinc (v := nI (j + 1)) (lv' := [(9, .int (nI (j + 1))), (10, .int (nI 0)), (8, .int (ip_oI ob)), (7, .int (nI hf)), (4, .int (nI ru)), (3, .int (nI r)), (0, .ref (a 0))]) hx hb dX1_chosen_242 hl (k := 1) rfl (ip_inc j) (by decide) rfl (fun ls hl => ?_)
                      refine lv_goto (tgt := 123) hx hb dX1_chosen_245 (by decide) ?_
                      exact ih123 (j + 1) ob (by omega) (by first | (rw [ip_bst_out (ip_in_f (by omega))]; exact hob) | (rw [ip_bst_new (ip_in_t (by omega)) hob.symm]) | (rw [ip_bst_yes (ip_in_t (by omega)) hob.symm hbe]) | (rw [ip_bst_no (ip_in_t (by omega)) hob.symm hbe])) (by omega) _ _ hP hD hS ls (lv_sub hl [0, 2, 3, 4, 5, 6] rfl)
        exact lp123 _ 0 none (by omega) (rfl) (Nat.lt_succ_self _) _ _ hP hD hS ls (lv_sub hl [0, 1, 2, 3, 4, 5] rfl)
      refine lv_iconst (v := nI 0) hx hb dX1_chosen_29 (by decide) ?_
      refine lv_istore (lv' := [(5, .int (nI 0)), (4, .int (nI ru)), (3, .int (nI r)), (0, .ref (a 0))]) hx hb dX1_chosen_30 hl (by decide) rfl (fun ls hl => ?_)
      refine lv_iconst (v := nI 0) hx hb dX1_chosen_32 (by decide) ?_
      refine lv_istore (lv' := [(6, .int (nI 0)), (5, .int (nI 0)), (4, .int (nI ru)), (3, .int (nI r)), (0, .ref (a 0))]) hx hb dX1_chosen_33 hl (by decide) rfl (fun ls hl => ?_)
      refine lv_iconst (v := nI 0) hx hb dX1_chosen_35 (by decide) ?_
      refine lv_istore (lv' := [(7, .int (nI 0)), (6, .int (nI 0)), (5, .int (nI 0)), (4, .int (nI ru)), (3, .int (nI r)), (0, .ref (a 0))]) hx hb dX1_chosen_36 hl (by decide) rfl (fun ls hl => ?_)
      have lp38 : ∀ (N38 : Nat) (i : Nat) (x : Nat) (y : Nat), (i ≤ n) → (x = ip_rs Ra r Wa i) → (y = ip_rs Ra r Ga i) → n - i < N38 → ∀ (H : Heap) (locs : List Loc), va_P D ip_cl (mw a d Wa Ra Ua Ga n pt) H → va_D A (mw a d Wa Ra Ua Ga n pt) → va_S A s.heap H locs → ∀ (ls : Array Slot), lv_has ls 11 [(7, .int (nI i)), (6, .int (nI y)), (5, .int (nI x)), (4, .int (nI ru)), (3, .int (nI r)), (0, .ref (a 0))] → W p l e rmX1_chosen s m args below meth c H locs 0 0 Q (F0 m 38 ls []) := by
        intro N38
        induction N38 with
        | zero =>
          intro i x y _ _ _ hm
          exact absurd hm (Nat.not_lt_zero _)
        | succ N38 ih38 =>
          intro i x y hi ex ey hm38 H locs hP hD hS ls hl
          refine lv_iload hx hb dX1_chosen_38 (lv_at hl 0 rfl) ?_
          refine lv_aload_n hx hb dX1_chosen_40 rfl (lv_at hl 5 rfl) ?_
          refine x1_get_n hx hb hts hown hK hP dX1_chosen_41 ?_
          refine n_icmp_ge (tgt := 95) hx hb dX1_chosen_44 (by decide) (by omega) (by omega) (fun c_58 => ?_) (fun c_58 => ?_)
          · skip
            have ei : i = n := by omega
            rw [ei] at ex ey
            have bx : x ≤ 1200 := by rw [ex]; exact ip_rs_bound (fun c _ => hW c) hn
            have by' : y ≤ 1200 := by rw [ey]; exact ip_rs_bound (fun c hc => Nat.le_trans (hG c hc) (hW c)) hn
            refine lv_iload hx hb dX1_chosen_95 (lv_at hl 3 rfl) ?_
            refine lv_iconst (v := nI 3) hx hb dX1_chosen_97 (by decide) ?_
            refine n_icmp_ne (tgt := 114) hx hb dX1_chosen_98 (by decide) (by omega) (by omega) (fun c_59 => ?_) (fun c_59 => ?_)
            · skip
              refine lv_iconst (v := nI 0) hx hb dX1_chosen_114 (by decide) ?_
              refine lv_istore (lv' := [(7, .int (nI 0)), (6, .int (nI y)), (5, .int (nI x)), (4, .int (nI ru)), (3, .int (nI r)), (0, .ref (a 0))]) hx hb dX1_chosen_115 hl (by decide) rfl (fun ls hl => ?_)
              exact tl117 0 (by omega) (ip_hf_f (by omega)) _ _ hP hD hS ls (lv_sub hl [0, 3, 4, 5] rfl)
            · skip
              refine lv_iconst (v := nI 2) hx hb dX1_chosen_101 (by decide) ?_
              refine lv_iload hx hb dX1_chosen_102 (lv_at hl 1 rfl) ?_
              refine n_imul hx hb dX1_chosen_104 ?_
              refine lv_iload hx hb dX1_chosen_105 (lv_at hl 2 rfl) ?_
              refine n_icmp_ge (tgt := 114) hx hb dX1_chosen_107 (by decide) (by omega) (by omega) (fun c_60 => ?_) (fun c_60 => ?_)
              · skip
                refine lv_iconst (v := nI 0) hx hb dX1_chosen_114 (by decide) ?_
                refine lv_istore (lv' := [(7, .int (nI 0)), (6, .int (nI y)), (5, .int (nI x)), (4, .int (nI ru)), (3, .int (nI r)), (0, .ref (a 0))]) hx hb dX1_chosen_115 hl (by decide) rfl (fun ls hl => ?_)
                exact tl117 0 (by omega) (ip_hf_f (by omega)) _ _ hP hD hS ls (lv_sub hl [0, 3, 4, 5] rfl)
              · skip
                refine lv_iconst (v := nI 1) hx hb dX1_chosen_110 (by decide) ?_
                refine lv_goto (tgt := 115) hx hb dX1_chosen_111 (by decide) ?_
                refine lv_istore (lv' := [(7, .int (nI 1)), (6, .int (nI y)), (5, .int (nI x)), (4, .int (nI ru)), (3, .int (nI r)), (0, .ref (a 0))]) hx hb dX1_chosen_115 hl (by decide) rfl (fun ls hl => ?_)
                exact tl117 1 (by omega) (ip_hf_t (by omega)) _ _ hP hD hS ls (lv_sub hl [0, 3, 4, 5] rfl)
          · skip
            refine lv_iload hx hb dX1_chosen_47 (lv_at hl 0 rfl) ?_
            refine lv_bipush (v := nI 8) hx hb dX1_chosen_49 (by decide) ?_
            refine n_icmp_ge (tgt := 95) hx hb dX1_chosen_51 (by decide) (by omega) (by omega) (fun c_61 => absurd c_61 (by omega)) (fun _ => ?_)
            refine lv_aload_n hx hb dX1_chosen_54 rfl (lv_at hl 5 rfl) ?_
            refine x1_get_R hx hb hts hown hK hP dX1_chosen_55 ?_
            refine lv_iload hx hb dX1_chosen_58 (lv_at hl 0 rfl) ?_
            refine x1_ald_R hx hb hK hP (by omega) dX1_chosen_60 ?_
            have b_62 := hR i
            refine lv_iload_n hx hb dX1_chosen_61 rfl (lv_at hl 4 rfl) ?_
            refine n_icmp_ne (tgt := 89) hx hb dX1_chosen_62 (by decide) (by omega) (by omega) (fun c_63 => ?_) (fun c_63 => ?_)
            · skip
              refine lv_iinc (v := nI (i + 1)) (lv' := [(7, .int (nI (i + 1))), (6, .int (nI y)), (5, .int (nI x)), (4, .int (nI ru)), (3, .int (nI r)), (0, .ref (a 0))]) hx hb dX1_chosen_89 hl (k := 0) rfl (ip_inc i) (by decide) rfl (fun ls hl => ?_)
              refine lv_goto (tgt := 38) hx hb dX1_chosen_92 (by decide) ?_
              exact ih38 (i + 1) x y (by omega) (by rw [ip_rs_succ]; split <;> omega) (by rw [ip_rs_succ]; split <;> omega) (by omega) _ _ hP hD hS ls (lv_sub hl [0, 1, 2, 3, 4, 5] rfl)
            · skip
              refine lv_iload hx hb dX1_chosen_65 (lv_at hl 2 rfl) ?_
              refine lv_aload_n hx hb dX1_chosen_67 rfl (lv_at hl 5 rfl) ?_
              refine x1_get_W hx hb hts hown hK hP dX1_chosen_68 ?_
              refine lv_iload hx hb dX1_chosen_71 (lv_at hl 0 rfl) ?_
              refine x1_ald_W hx hb hK hP (by omega) dX1_chosen_73 ?_
              have b_64 := hW i
              refine n_iadd hx hb dX1_chosen_74 ?_
              refine lv_istore (lv' := [(5, .int (nI (x + (Wa i)))), (7, .int (nI i)), (6, .int (nI y)), (4, .int (nI ru)), (3, .int (nI r)), (0, .ref (a 0))]) hx hb dX1_chosen_75 hl (by decide) rfl (fun ls hl => ?_)
              refine lv_iload hx hb dX1_chosen_77 (lv_at hl 2 rfl) ?_
              refine lv_aload_n hx hb dX1_chosen_79 rfl (lv_at hl 5 rfl) ?_
              refine x1_get_G hx hb hts hown hK hP dX1_chosen_80 ?_
              refine lv_iload hx hb dX1_chosen_83 (lv_at hl 1 rfl) ?_
              refine x1_ald_G hx hb hK hP (by omega) dX1_chosen_85 ?_
              have b_65 := hG i (by omega)
              refine n_iadd hx hb dX1_chosen_86 ?_
              refine lv_istore (lv' := [(6, .int (nI (y + (Ga i)))), (5, .int (nI (x + (Wa i)))), (7, .int (nI i)), (4, .int (nI ru)), (3, .int (nI r)), (0, .ref (a 0))]) hx hb dX1_chosen_87 hl (by decide) rfl (fun ls hl => ?_)
              refine lv_iinc (v := nI (i + 1)) (lv' := [(7, .int (nI (i + 1))), (6, .int (nI (y + (Ga i)))), (5, .int (nI (x + (Wa i)))), (4, .int (nI ru)), (3, .int (nI r)), (0, .ref (a 0))]) hx hb dX1_chosen_89 hl (k := 2) rfl (ip_inc i) (by decide) rfl (fun ls hl => ?_)
              refine lv_goto (tgt := 38) hx hb dX1_chosen_92 (by decide) ?_
              exact ih38 (i + 1) (x + (Wa i)) (y + (Ga i)) (by omega) (by rw [ip_rs_succ]; split <;> omega) (by rw [ip_rs_succ]; split <;> omega) (by omega) _ _ hP hD hS ls (lv_sub hl [0, 1, 2, 3, 4, 5] rfl)
      exact lp38 _ 0 0 0 (by omega) (rfl) (rfl) (Nat.lt_succ_self _) _ _ hP hD hS ls (lv_sub hl [0, 1, 2, 3, 4, 5] rfl)
    refine lv_iload_n hx hb dX1_chosen_12 rfl (lv_at hl 0 rfl) ?_
    refine lv_iload_n hx hb dX1_chosen_13 rfl (lv_at hl 2 rfl) ?_
    refine z_icmp_ne (tgt := 21) hx hb dX1_chosen_14 (by decide) (fun c_66 => ?_) (fun c_66 => ?_)
    · skip
      rw [nI_toInt (show r < 2 ^ 31 by omega)] at c_66
      refine lv_aload_n hx hb dX1_chosen_21 rfl (lv_at hl 1 rfl) ?_
      refine x1_get_U hx hb hts hown hK hP dX1_chosen_22 ?_
      refine lv_iload_n hx hb dX1_chosen_25 rfl (lv_at hl 0 rfl) ?_
      refine x1_ald_U hx hb hK hP (by omega) dX1_chosen_26 ?_
      have b_67 := hU r
      refine lv_istore (lv' := [(4, .int (nI (Ua r))), (3, .int (nI r)), (0, .ref (a 0)), (1, .int sp), (2, .int (nI ot))]) hx hb dX1_chosen_27 hl (by decide) rfl (fun ls hl => ?_)
      exact tl29 (Ua r) (by have h9 := hE r (by omega); rw [if_neg (by omega)] at h9; exact h9) _ _ hP hD hS ls (lv_sub hl [0, 1, 2] rfl)
    · skip
      rw [nI_toInt (show r < 2 ^ 31 by omega)] at c_66
      refine lv_iload_n hx hb dX1_chosen_17 rfl (lv_at hl 3 rfl) ?_
      refine lv_goto (tgt := 27) hx hb dX1_chosen_18 (by decide) ?_
      refine lv_istore (lv' := [(4, .int (nI ot)), (3, .int (nI r)), (0, .ref (a 0)), (1, .int sp), (2, .int (nI ot))]) hx hb dX1_chosen_27 hl (by decide) rfl (fun ls hl => ?_)
      exact tl29 ot (by have h9 := hE r (by omega); rw [if_pos (by omega)] at h9; exact h9) _ _ hP hD hS ls (lv_sub hl [0, 1, 2] rfl)
  · skip
    refine lv_iconst (v := (-1)) hx hb dX1_chosen_10 (by decide) ?_
    exact hret () _ _ _ _ _ dX1_chosen_11 (by rw [ip_ch, er, if_pos (by omega)]; rfl) hP hD hS
set_option maxHeartbeats 4000000 in
set_option maxRecDepth 100000 in
theorem kX1_hand (l : Launch) (D : va_G) (d : ClassId) (a : Nat → Nat) (Wa Ra Ua Ga : Nat → Nat) (n pt : Nat) (hI : ip_AI (Wa, Ra, Ua, n, pt)) (k : Nat) (sp : Int32) (ot : Nat) (Ub : Nat → Nat) (hE : ∀ x : Nat, x < 4 → (if sp.toInt = (x : Int) then ot else Ua x) = Ub x) (hUb : ∀ j, Ub j < 4) (hot : ot < 4) (hk : k ≤ 1501) : ip_Mi l yX1_hand (ws_ yX1_hand cX1_hand 7 (some .int)) rmX1_hand D d (mw a d Wa Ra Ua Ga n pt) [.ref (a 0), .int (nI k), .int sp, .int (nI ot)] (S := Unit) (fun v _ => v = nI (ip_ov Wa Ra Ub n k)) (fun _ => (mw a d Wa Ra Ua (ip_hd Wa Ra Ub n k) n pt)) := by
  obtain ⟨hW, hR, hU, hn, hpt⟩ := id hI
  have hW : ∀ j, Wa j ≤ 150 := hW
  have hR : ∀ j, Ra j < 4 := hR
  have hU : ∀ j, Ua j < 4 := hU
  have hn : n ≤ 8 := hn
  have hpt : pt ≤ 1500 := hpt
  refine ip_ent_i (by decide) (Nat.le_of_ble_eq_true rfl) ?_
  intro p e s m args below meth c A Q hx hb hml hown hts hA hK hP hD hS hret ls hl
  have hown : s.vm.findClass RX1 = some m.cls := hown
  have hl : lv_has ls 7 [(0, .ref (a 0)), (1, .int (nI k)), (2, .int sp), (3, .int (nI ot))] := hl
  have lp30 : ∀ (N30 : Nat) (i : Nat) (x : Nat), (i ≤ k) → (x = ip_ov Wa Ra Ub n i) → k - i < N30 → ∀ (H : Heap) (locs : List Loc), va_P D ip_cl (mw a d Wa Ra Ua (ip_hd Wa Ra Ub n i) n pt) H → va_D A (mw a d Wa Ra Ua (ip_hd Wa Ra Ub n i) n pt) → va_S A s.heap H locs → ∀ (ls : Array Slot), lv_has ls 7 [(5, .int (nI i)), (4, .int (nI x)), (0, .ref (a 0)), (1, .int (nI k)), (2, .int sp), (3, .int (nI ot))] → W p l e rmX1_hand s m args below meth c H locs 0 0 Q (F0 m 30 ls []) := by
    intro N30
    induction N30 with
    | zero =>
      intro i x _ _ hm
      exact absurd hm (Nat.not_lt_zero _)
    | succ N30 ih30 =>
      intro i x hi ex hm30 H locs hP hD hS ls hl
      refine lv_iload hx hb dX1_hand_30 (lv_at hl 0 rfl) ?_
      refine lv_iload_n hx hb dX1_hand_32 rfl (lv_at hl 3 rfl) ?_
      refine n_icmp_ge (tgt := 72) hx hb dX1_hand_33 (by decide) (by omega) (by omega) (fun c_1 => ?_) (fun c_1 => ?_)
      · skip
        rw [show i = k by omega] at hP hD
        refine lv_iload hx hb dX1_hand_72 (lv_at hl 1 rfl) ?_
        exact hret () _ _ _ _ _ dX1_hand_74 (by rw [ex, show i = k by omega]) hP hD hS
      · skip
        refine lv_aload_n hx hb dX1_hand_36 rfl (lv_at hl 2 rfl) ?_
        refine lv_iload_n hx hb dX1_hand_37 rfl (lv_at hl 4 rfl) ?_
        refine lv_iload_n hx hb dX1_hand_38 rfl (lv_at hl 5 rfl) ?_
        refine ip_callV_i (own := RX1) (C := RX1) (x := a 0) [.int sp, .int (nI ot)] hx hb hml hown hts hA hK (kX1_chosen l D d a Wa Ra Ua (ip_hd Wa Ra Ub n i) n pt hI sp ot Ub hE hUb (by omega) (ip_hd_le hW hR hUb i)) (cwX1_chosen hts ⟨Nat.le_of_ble_eq_true rfl, Nat.le_of_ble_eq_true rfl⟩) ⟨1, _, _, rfl, rfl, rfl⟩ hP hD hS hl.1 rfl (Nat.le_of_ble_eq_true rfl) dX1_hand_39 ⟨Nat.zero_le _, Nat.zero_le _⟩ (fun r_3 u_2 H locs hw_4 hP hD hS => ?_)
        subst hw_4
        rcases hch : ip_ch Wa Ra Ub n (ip_hd Wa Ra Ub n i) with _ | bq
        · skip
          refine lv_istore (lv' := [(6, .int (-1)), (5, .int (nI i)), (4, .int (nI x)), (0, .ref (a 0)), (1, .int (nI k)), (2, .int sp), (3, .int (nI ot))]) hx hb dX1_hand_42 hl (by decide) rfl (fun ls hl => ?_)
          refine lv_iload hx hb dX1_hand_44 (lv_at hl 0 rfl) ?_
          refine z_if_ge (tgt := 55) hx hb dX1_hand_46 (by decide) (fun h => absurd h (by decide)) (fun _ => ?_)
          refine lv_iinc (v := nI (x + 1)) (lv' := [(4, .int (nI (x + 1))), (6, .int (-1)), (5, .int (nI i)), (0, .ref (a 0)), (1, .int (nI k)), (2, .int sp), (3, .int (nI ot))]) hx hb dX1_hand_49 hl (k := 2) rfl (ip_inc x) (by decide) rfl (fun ls hl => ?_)
          refine lv_goto (tgt := 66) hx hb dX1_hand_52 (by decide) ?_
          rw [← ip_hd_none hch] at hP hD
          refine lv_iinc (v := nI (i + 1)) (lv' := [(5, .int (nI (i + 1))), (4, .int (nI (x + 1))), (6, .int (-1)), (0, .ref (a 0)), (1, .int (nI k)), (2, .int sp), (3, .int (nI ot))]) hx hb dX1_hand_66 hl (k := 2) rfl (ip_inc i) (by decide) rfl (fun ls hl => ?_)
          refine lv_goto (tgt := 30) hx hb dX1_hand_69 (by decide) ?_
          exact ih30 (i + 1) (x + 1) (by omega) (by first | (rw [ip_ov_none hch, ex]) | (rw [ip_ov_some hch, ex])) (by omega) _ _ hP hD hS ls (lv_sub hl [0, 1, 3, 4, 5, 6] rfl)
        · skip
          have hbq := ip_ch_lt hch
          refine lv_istore (lv' := [(6, .int (nI bq)), (5, .int (nI i)), (4, .int (nI x)), (0, .ref (a 0)), (1, .int (nI k)), (2, .int sp), (3, .int (nI ot))]) hx hb dX1_hand_42 hl (by decide) rfl (fun ls hl => ?_)
          refine lv_iload hx hb dX1_hand_44 (lv_at hl 0 rfl) ?_
          refine n_if_ge (tgt := 55) hx hb dX1_hand_46 (by decide) (by omega) (fun _ => ?_) (fun h => h.elim)
          refine lv_aload_n hx hb dX1_hand_55 rfl (lv_at hl 3 rfl) ?_
          refine x1_get_G hx hb hts hown hK hP dX1_hand_56 ?_
          refine lv_iload hx hb dX1_hand_59 (lv_at hl 0 rfl) ?_
          refine lv_dup2_11 hx hb dX1_hand_61 rfl rfl ?_
          refine x1_ald_G hx hb hK hP (by omega) dX1_hand_62 ?_
          refine lv_iconst (v := nI 1) hx hb dX1_hand_63 (by decide) ?_
          refine n_iadd hx hb dX1_hand_64 ?_
          refine x1_ast_G hx hb hK hP hD hS (by omega) dX1_hand_65 (fun H locs hP hD hS => ?_)
          rw [← ip_hd_some hch] at hP hD
          refine lv_iinc (v := nI (i + 1)) (lv' := [(5, .int (nI (i + 1))), (6, .int (nI bq)), (4, .int (nI x)), (0, .ref (a 0)), (1, .int (nI k)), (2, .int sp), (3, .int (nI ot))]) hx hb dX1_hand_66 hl (k := 1) rfl (ip_inc i) (by decide) rfl (fun ls hl => ?_)
          refine lv_goto (tgt := 30) hx hb dX1_hand_69 (by decide) ?_
          exact ih30 (i + 1) x (by omega) (by first | (rw [ip_ov_none hch, ex]) | (rw [ip_ov_some hch, ex])) (by omega) _ _ hP hD hS ls (lv_sub hl [0, 2, 3, 4, 5, 6] rfl)
  have lp3 : ∀ (N3 : Nat) (i : Nat) (Gv : Nat → Nat), (i ≤ 8) → (Gv = ip_fl (fun _ => 0) Ga i) → 8 - i < N3 → ∀ (H : Heap) (locs : List Loc), va_P D ip_cl (mw a d Wa Ra Ua Gv n pt) H → va_D A (mw a d Wa Ra Ua Gv n pt) → va_S A s.heap H locs → ∀ (ls : Array Slot), lv_has ls 7 [(4, .int (nI i)), (0, .ref (a 0)), (1, .int (nI k)), (2, .int sp), (3, .int (nI ot))] → W p l e rmX1_hand s m args below meth c H locs 0 0 Q (F0 m 3 ls []) := by
    intro N3
    induction N3 with
    | zero =>
      intro i Gv _ _ hm
      exact absurd hm (Nat.not_lt_zero _)
    | succ N3 ih3 =>
      intro i Gv hi eG hm3 H locs hP hD hS ls hl
      refine lv_iload hx hb dX1_hand_3 (lv_at hl 0 rfl) ?_
      refine lv_bipush (v := nI 8) hx hb dX1_hand_5 (by decide) ?_
      refine n_icmp_ge (tgt := 24) hx hb dX1_hand_7 (by decide) (by omega) (by omega) (fun c_7 => ?_) (fun c_7 => ?_)
      · skip
        have hP : va_P D ip_cl (mw a d Wa Ra Ua (ip_hd Wa Ra Ub n 0) n pt) H := ip_ext (k := 4) (x := a 4) (N := 8) (d := d) (g := fun j => nI (ip_hd Wa Ra Ub n 0 j)) hP rfl (fun j hj => by rw [eG, show i = 8 by omega, ip_fl_in hj]; rfl)
        have hD : va_D A (mw a d Wa Ra Ua (ip_hd Wa Ra Ub n 0) n pt) := ip_extD (k := 4) hD rfl
        refine lv_iconst (v := nI 0) hx hb dX1_hand_24 (by decide) ?_
        refine lv_istore (lv' := [(4, .int (nI 0)), (0, .ref (a 0)), (1, .int (nI k)), (2, .int sp), (3, .int (nI ot))]) hx hb dX1_hand_25 hl (by decide) rfl (fun ls hl => ?_)
        refine lv_iconst (v := nI 0) hx hb dX1_hand_27 (by decide) ?_
        refine lv_istore (lv' := [(5, .int (nI 0)), (4, .int (nI 0)), (0, .ref (a 0)), (1, .int (nI k)), (2, .int sp), (3, .int (nI ot))]) hx hb dX1_hand_28 hl (by decide) rfl (fun ls hl => ?_)
        exact lp30 _ 0 0 (by omega) (rfl) (Nat.lt_succ_self _) _ _ hP hD hS ls (lv_sub hl [0, 1, 2, 3, 4, 5] rfl)
      · skip
        refine lv_aload_n hx hb dX1_hand_10 rfl (lv_at hl 1 rfl) ?_
        refine x1_get_G hx hb hts hown hK hP dX1_hand_11 ?_
        refine lv_iload hx hb dX1_hand_14 (lv_at hl 0 rfl) ?_
        refine lv_iconst (v := nI 0) hx hb dX1_hand_16 (by decide) ?_
        refine x1_ast_G hx hb hK hP hD hS (by omega) dX1_hand_17 (fun H locs hP hD hS => ?_)
        refine lv_iinc (v := nI (i + 1)) (lv' := [(4, .int (nI (i + 1))), (0, .ref (a 0)), (1, .int (nI k)), (2, .int sp), (3, .int (nI ot))]) hx hb dX1_hand_18 hl (k := 0) rfl (ip_inc i) (by decide) rfl (fun ls hl => ?_)
        refine lv_goto (tgt := 3) hx hb dX1_hand_21 (by decide) ?_
        exact ih3 (i + 1) (ip_up Gv i 0) (by omega) (ip_fl_step eG rfl) (by omega) _ _ hP hD hS ls (lv_sub hl [0, 1, 2, 3, 4] rfl)
  refine lv_iconst (v := nI 0) hx hb dX1_hand_0 (by decide) ?_
  refine lv_istore (lv' := [(4, .int (nI 0)), (0, .ref (a 0)), (1, .int (nI k)), (2, .int sp), (3, .int (nI ot))]) hx hb dX1_hand_1 hl (by decide) rfl (fun ls hl => ?_)
  exact lp3 _ 0 Ga (by omega) (ip_fl_0 _ _) (Nat.lt_succ_self _) _ _ hP hD hS ls (lv_sub hl [0, 1, 2, 3, 4] rfl)
end
section
/-! ===== the reference: the public methods that hand out; printed by gen_model.py ===== -/
abbrev rmX1_share : Room := { frames := 3, cells := 0, slots := 0, locals := 80 }
abbrev rmX1_shareOf : Room := { frames := 3, cells := 0, slots := 0, locals := 80 }
abbrev rmX1_shareUnder : Room := { frames := 3, cells := 0, slots := 0, locals := 80 }
abbrev rmX1_leastEstate : Room := { frames := 3, cells := 0, slots := 0, locals := 80 }
abbrev rmX1_paid : Room := { frames := 3, cells := 0, slots := 0, locals := 80 }
abbrev rmX1_left : Room := { frames := 3, cells := 0, slots := 0, locals := 80 }
abbrev rmX1_next : Room := { frames := 3, cells := 0, slots := 0, locals := 80 }
abbrev rmX1_unpaid : Room := { frames := 3, cells := 0, slots := 0, locals := 80 }
abbrev rmX1_worst : Room := { frames := 3, cells := 0, slots := 0, locals := 80 }
set_option maxHeartbeats 4000000 in
set_option maxRecDepth 100000 in
theorem kX1_share (l : Launch) (D : va_G) (d : ClassId) (a : Nat → Nat) (Wa Ra Ua Ga : Nat → Nat) (n pt : Nat) (hI : ip_AI (Wa, Ra, Ua, n, pt)) (p0 : Int32)  : ip_Mi l yX1_share (ws_ yX1_share cX1_share 2 (some .int)) rmX1_share D d (mw a d Wa Ra Ua Ga n pt) [.ref (a 0), .int p0] (S := ip_S1) (fun v u => (v, u.1) = sp_share Wa Ra Ua n pt p0) (mwS a d) := by
  obtain ⟨hW, hR, hU, hn, hpt⟩ := id hI
  have hW : ∀ j, Wa j ≤ 150 := hW
  have hR : ∀ j, Ra j < 4 := hR
  have hU : ∀ j, Ua j < 4 := hU
  have hn : n ≤ 8 := hn
  have hpt : pt ≤ 1500 := hpt
  refine ip_ent_i (by decide) (Nat.le_of_ble_eq_true rfl) ?_
  intro p e s m args below meth c A Q hx hb hml hown hts hA hK hP hD hS hret ls hl
  have hown : s.vm.findClass RX1 = some m.cls := hown
  have hl : lv_has ls 2 [(0, .ref (a 0)), (1, .int p0)] := hl
  refine lv_aload_n hx hb dX1_share_0 rfl (lv_at hl 0 rfl) ?_
  refine lv_iload_n hx hb dX1_share_1 rfl (lv_at hl 1 rfl) ?_
  refine ip_callV_i (own := RX1) (C := RX1) (x := a 0) [.int p0] hx hb hml hown hts hA hK (kX1_bad l D d a Wa Ra Ua Ga n pt hI p0) (cwX1_bad hts ⟨Nat.le_of_ble_eq_true rfl, Nat.le_of_ble_eq_true rfl⟩) ⟨1, _, _, rfl, rfl, rfl⟩ hP hD hS hl.1 rfl (Nat.le_of_ble_eq_true rfl) dX1_share_2 ⟨Nat.zero_le _, Nat.zero_le _⟩ (fun r_2 u_1 H locs hw_3 hP hD hS => ?_)
  rcases hw_3 with ⟨rfl, hx_p0⟩ | ⟨rfl, k_p0, hk_p0, rfl, hx_p0⟩
  · skip
    refine n_if_eq (tgt := 10) hx hb dX1_share_5 (by decide) (by omega) (fun h => absurd h (by omega)) (fun _ => ?_)
    refine lv_iconst (v := (-1)) hx hb dX1_share_8 (by decide) ?_
    exact hret ((Wa, Ra, Ua, n, pt), Ga) _ _ _ _ _ dX1_share_9 (by simp [sp_share, hx_p0]) hP hD hS
  · skip
    refine n_if_eq (tgt := 10) hx hb dX1_share_5 (by decide) (by omega) (fun _ => ?_) (fun h => absurd h (by omega))
    refine lv_aload_n hx hb dX1_share_10 rfl (lv_at hl 0 rfl) ?_
    refine lv_aload_n hx hb dX1_share_11 rfl (lv_at hl 0 rfl) ?_
    refine x1_get_pt hx hb hts hown hK hP dX1_share_12 ?_
    refine lv_iconst (v := (-1)) hx hb dX1_share_15 (by decide) ?_
    refine lv_iconst (v := nI 0) hx hb dX1_share_16 (by decide) ?_
    refine ip_callV_i (own := RX1) (C := RX1) (x := a 0) [.int (nI pt), .int (-1), .int (nI 0)] hx hb hml hown hts hA hK (kX1_hand l D d a Wa Ra Ua Ga n pt hI pt (-1) 0 Ua (ip_hE0 Ua) hU (by omega) (by omega)) (cwX1_hand hts ⟨Nat.le_of_ble_eq_true rfl, Nat.le_of_ble_eq_true rfl⟩) ⟨1, _, _, rfl, rfl, rfl⟩ hP hD hS hl.1 rfl (Nat.le_of_ble_eq_true rfl) dX1_share_17 ⟨Nat.zero_le _, Nat.zero_le _⟩ (fun r_7 u_6 H locs hw_8 hP hD hS => ?_)
    subst hw_8
    refine lv_pop hx hb dX1_share_20 rfl ?_
    refine lv_aload_n hx hb dX1_share_21 rfl (lv_at hl 0 rfl) ?_
    refine x1_get_G hx hb hts hown hK hP dX1_share_22 ?_
    refine lv_iload_n hx hb dX1_share_25 rfl (lv_at hl 1 rfl) ?_
    refine x1_ald_G hx hb hK hP (by omega) dX1_share_26 ?_
    exact hret ((Wa, Ra, Ua, n, pt), (ip_hd Wa Ra Ua n pt)) _ _ _ _ _ dX1_share_27 (by simp [sp_share, hx_p0]) hP hD hS
set_option maxHeartbeats 4000000 in
set_option maxRecDepth 100000 in
theorem kX1_shareOf (l : Launch) (D : va_G) (d : ClassId) (a : Nat → Nat) (Wa Ra Ua Ga : Nat → Nat) (n pt : Nat) (hI : ip_AI (Wa, Ra, Ua, n, pt)) (p0 q0 : Int32)  : ip_Mi l yX1_shareOf (ws_ yX1_shareOf cX1_shareOf 3 (some .int)) rmX1_shareOf D d (mw a d Wa Ra Ua Ga n pt) [.ref (a 0), .int p0, .int q0] (S := ip_S1) (fun v u => (v, u.1) = sp_shareOf Wa Ra Ua n pt p0 q0) (mwS a d) := by
  obtain ⟨hW, hR, hU, hn, hpt⟩ := id hI
  have hW : ∀ j, Wa j ≤ 150 := hW
  have hR : ∀ j, Ra j < 4 := hR
  have hU : ∀ j, Ua j < 4 := hU
  have hn : n ≤ 8 := hn
  have hpt : pt ≤ 1500 := hpt
  refine ip_ent_i (by decide) (Nat.le_of_ble_eq_true rfl) ?_
  intro p e s m args below meth c A Q hx hb hml hown hts hA hK hP hD hS hret ls hl
  have hown : s.vm.findClass RX1 = some m.cls := hown
  have hl : lv_has ls 3 [(0, .ref (a 0)), (1, .int p0), (2, .int q0)] := hl
  refine lv_aload_n hx hb dX1_shareOf_0 rfl (lv_at hl 0 rfl) ?_
  refine lv_iload_n hx hb dX1_shareOf_1 rfl (lv_at hl 1 rfl) ?_
  refine ip_callV_i (own := RX1) (C := RX1) (x := a 0) [.int p0] hx hb hml hown hts hA hK (kX1_bad l D d a Wa Ra Ua Ga n pt hI p0) (cwX1_bad hts ⟨Nat.le_of_ble_eq_true rfl, Nat.le_of_ble_eq_true rfl⟩) ⟨1, _, _, rfl, rfl, rfl⟩ hP hD hS hl.1 rfl (Nat.le_of_ble_eq_true rfl) dX1_shareOf_2 ⟨Nat.zero_le _, Nat.zero_le _⟩ (fun r_2 u_1 H locs hw_3 hP hD hS => ?_)
  rcases hw_3 with ⟨rfl, hx_p0⟩ | ⟨rfl, k_p0, hk_p0, rfl, hx_p0⟩
  · skip
    refine n_if_eq (tgt := 10) hx hb dX1_shareOf_5 (by decide) (by omega) (fun h => absurd h (by omega)) (fun _ => ?_)
    refine lv_iconst (v := (-1)) hx hb dX1_shareOf_8 (by decide) ?_
    exact hret ((Wa, Ra, Ua, n, pt), Ga) _ _ _ _ _ dX1_shareOf_9 (by simp [sp_shareOf, hx_p0]) hP hD hS
  · skip
    refine n_if_eq (tgt := 10) hx hb dX1_shareOf_5 (by decide) (by omega) (fun _ => ?_) (fun h => absurd h (by omega))
    refine lv_iload_n hx hb dX1_shareOf_10 rfl (lv_at hl 2 rfl) ?_
    refine z_if_lt (tgt := 21) hx hb dX1_shareOf_11 (by decide) (fun c_6 => ?_) (fun c_6 => ?_)
    · skip
      refine lv_bipush (v := (-2)) hx hb dX1_shareOf_21 (by decide) ?_
      exact hret ((Wa, Ra, Ua, n, pt), Ga) _ _ _ _ _ dX1_shareOf_23 (by simp [sp_shareOf, hx_p0, ip_ix_none (p := q0) (n := 1501) (by omega)]) hP hD hS
    · skip
      refine lv_iload_n hx hb dX1_shareOf_14 rfl (lv_at hl 2 rfl) ?_
      refine lv_sipush (v := nI 1500) hx hb dX1_shareOf_15 (by decide) ?_
      refine z_icmp_le (tgt := 24) hx hb dX1_shareOf_18 (by decide) (fun c_7 => ?_) (fun c_7 => ?_)
      · skip
        rw [nI_toInt (show 1500 < 2 ^ 31 by omega)] at c_7
        obtain ⟨k_q0, hk_q0, rfl, hx_q0⟩ := ip_ix_some (p := q0) (n := 1501) (by omega) (by omega)
        refine lv_aload_n hx hb dX1_shareOf_24 rfl (lv_at hl 0 rfl) ?_
        refine lv_iload_n hx hb dX1_shareOf_25 rfl (lv_at hl 2 rfl) ?_
        refine lv_iconst (v := (-1)) hx hb dX1_shareOf_26 (by decide) ?_
        refine lv_iconst (v := nI 0) hx hb dX1_shareOf_27 (by decide) ?_
        refine ip_callV_i (own := RX1) (C := RX1) (x := a 0) [.int (nI k_q0), .int (-1), .int (nI 0)] hx hb hml hown hts hA hK (kX1_hand l D d a Wa Ra Ua Ga n pt hI k_q0 (-1) 0 Ua (ip_hE0 Ua) hU (by omega) (by omega)) (cwX1_hand hts ⟨Nat.le_of_ble_eq_true rfl, Nat.le_of_ble_eq_true rfl⟩) ⟨1, _, _, rfl, rfl, rfl⟩ hP hD hS hl.1 rfl (Nat.le_of_ble_eq_true rfl) dX1_shareOf_28 ⟨Nat.zero_le _, Nat.zero_le _⟩ (fun r_9 u_8 H locs hw_10 hP hD hS => ?_)
        subst hw_10
        refine lv_pop hx hb dX1_shareOf_31 rfl ?_
        refine lv_aload_n hx hb dX1_shareOf_32 rfl (lv_at hl 0 rfl) ?_
        refine x1_get_G hx hb hts hown hK hP dX1_shareOf_33 ?_
        refine lv_iload_n hx hb dX1_shareOf_36 rfl (lv_at hl 1 rfl) ?_
        refine x1_ald_G hx hb hK hP (by omega) dX1_shareOf_37 ?_
        exact hret ((Wa, Ra, Ua, n, pt), (ip_hd Wa Ra Ua n k_q0)) _ _ _ _ _ dX1_shareOf_38 (by simp [sp_shareOf, hx_p0, hx_q0]) hP hD hS
      · skip
        rw [nI_toInt (show 1500 < 2 ^ 31 by omega)] at c_7
        refine lv_bipush (v := (-2)) hx hb dX1_shareOf_21 (by decide) ?_
        exact hret ((Wa, Ra, Ua, n, pt), Ga) _ _ _ _ _ dX1_shareOf_23 (by simp [sp_shareOf, hx_p0, ip_ix_none (p := q0) (n := 1501) (by omega)]) hP hD hS
set_option maxHeartbeats 4000000 in
set_option maxRecDepth 100000 in
theorem kX1_shareUnder (l : Launch) (D : va_G) (d : ClassId) (a : Nat → Nat) (Wa Ra Ua Ga : Nat → Nat) (n pt : Nat) (hI : ip_AI (Wa, Ra, Ua, n, pt)) (p0 q0 : Int32)  : ip_Mi l yX1_shareUnder (ws_ yX1_shareUnder cX1_shareUnder 3 (some .int)) rmX1_shareUnder D d (mw a d Wa Ra Ua Ga n pt) [.ref (a 0), .int p0, .int q0] (S := ip_S1) (fun v u => (v, u.1) = sp_shareUnder Wa Ra Ua n pt p0 q0) (mwS a d) := by
  obtain ⟨hW, hR, hU, hn, hpt⟩ := id hI
  have hW : ∀ j, Wa j ≤ 150 := hW
  have hR : ∀ j, Ra j < 4 := hR
  have hU : ∀ j, Ua j < 4 := hU
  have hn : n ≤ 8 := hn
  have hpt : pt ≤ 1500 := hpt
  refine ip_ent_i (by decide) (Nat.le_of_ble_eq_true rfl) ?_
  intro p e s m args below meth c A Q hx hb hml hown hts hA hK hP hD hS hret ls hl
  have hown : s.vm.findClass RX1 = some m.cls := hown
  have hl : lv_has ls 3 [(0, .ref (a 0)), (1, .int p0), (2, .int q0)] := hl
  refine lv_aload_n hx hb dX1_shareUnder_0 rfl (lv_at hl 0 rfl) ?_
  refine lv_iload_n hx hb dX1_shareUnder_1 rfl (lv_at hl 1 rfl) ?_
  refine ip_callV_i (own := RX1) (C := RX1) (x := a 0) [.int p0] hx hb hml hown hts hA hK (kX1_bad l D d a Wa Ra Ua Ga n pt hI p0) (cwX1_bad hts ⟨Nat.le_of_ble_eq_true rfl, Nat.le_of_ble_eq_true rfl⟩) ⟨1, _, _, rfl, rfl, rfl⟩ hP hD hS hl.1 rfl (Nat.le_of_ble_eq_true rfl) dX1_shareUnder_2 ⟨Nat.zero_le _, Nat.zero_le _⟩ (fun r_2 u_1 H locs hw_3 hP hD hS => ?_)
  rcases hw_3 with ⟨rfl, hx_p0⟩ | ⟨rfl, k_p0, hk_p0, rfl, hx_p0⟩
  · skip
    refine n_if_eq (tgt := 10) hx hb dX1_shareUnder_5 (by decide) (by omega) (fun h => absurd h (by omega)) (fun _ => ?_)
    refine lv_iconst (v := (-1)) hx hb dX1_shareUnder_8 (by decide) ?_
    exact hret ((Wa, Ra, Ua, n, pt), Ga) _ _ _ _ _ dX1_shareUnder_9 (by simp [sp_shareUnder, hx_p0]) hP hD hS
  · skip
    refine n_if_eq (tgt := 10) hx hb dX1_shareUnder_5 (by decide) (by omega) (fun _ => ?_) (fun h => absurd h (by omega))
    refine lv_iload_n hx hb dX1_shareUnder_10 rfl (lv_at hl 2 rfl) ?_
    refine z_if_lt (tgt := 19) hx hb dX1_shareUnder_11 (by decide) (fun c_6 => ?_) (fun c_6 => ?_)
    · skip
      refine lv_bipush (v := (-2)) hx hb dX1_shareUnder_19 (by decide) ?_
      exact hret ((Wa, Ra, Ua, n, pt), Ga) _ _ _ _ _ dX1_shareUnder_21 (by simp [sp_shareUnder, hx_p0, ip_ix_none (p := q0) (n := 4) (by omega)]) hP hD hS
    · skip
      refine lv_iload_n hx hb dX1_shareUnder_14 rfl (lv_at hl 2 rfl) ?_
      refine lv_iconst (v := nI 3) hx hb dX1_shareUnder_15 (by decide) ?_
      refine z_icmp_le (tgt := 22) hx hb dX1_shareUnder_16 (by decide) (fun c_7 => ?_) (fun c_7 => ?_)
      · skip
        rw [nI_toInt (show 3 < 2 ^ 31 by omega)] at c_7
        obtain ⟨k_q0, hk_q0, rfl, hx_q0⟩ := ip_ix_some (p := q0) (n := 4) (by omega) (by omega)
        refine lv_aload_n hx hb dX1_shareUnder_22 rfl (lv_at hl 0 rfl) ?_
        refine lv_aload_n hx hb dX1_shareUnder_23 rfl (lv_at hl 0 rfl) ?_
        refine x1_get_pt hx hb hts hown hK hP dX1_shareUnder_24 ?_
        refine lv_aload_n hx hb dX1_shareUnder_27 rfl (lv_at hl 0 rfl) ?_
        refine x1_get_R hx hb hts hown hK hP dX1_shareUnder_28 ?_
        refine lv_iload_n hx hb dX1_shareUnder_31 rfl (lv_at hl 1 rfl) ?_
        refine x1_ald_R hx hb hK hP (by omega) dX1_shareUnder_32 ?_
        have b_8 := hR k_p0
        refine lv_iload_n hx hb dX1_shareUnder_33 rfl (lv_at hl 2 rfl) ?_
        refine ip_callV_i (own := RX1) (C := RX1) (x := a 0) [.int (nI pt), .int (nI (Ra k_p0)), .int (nI k_q0)] hx hb hml hown hts hA hK (kX1_hand l D d a Wa Ra Ua Ga n pt hI pt (nI (Ra k_p0)) k_q0 (ip_up Ua (Ra k_p0) k_q0) (ip_hE1 Ua (hR k_p0)) (ip_up_all (P := fun x => x < 4) hU hk_q0 (Ra k_p0)) (by omega) (by omega)) (cwX1_hand hts ⟨Nat.le_of_ble_eq_true rfl, Nat.le_of_ble_eq_true rfl⟩) ⟨1, _, _, rfl, rfl, rfl⟩ hP hD hS hl.1 rfl (Nat.le_of_ble_eq_true rfl) dX1_shareUnder_34 ⟨Nat.zero_le _, Nat.zero_le _⟩ (fun r_10 u_9 H locs hw_11 hP hD hS => ?_)
        subst hw_11
        refine lv_pop hx hb dX1_shareUnder_37 rfl ?_
        refine lv_aload_n hx hb dX1_shareUnder_38 rfl (lv_at hl 0 rfl) ?_
        refine x1_get_G hx hb hts hown hK hP dX1_shareUnder_39 ?_
        refine lv_iload_n hx hb dX1_shareUnder_42 rfl (lv_at hl 1 rfl) ?_
        refine x1_ald_G hx hb hK hP (by omega) dX1_shareUnder_43 ?_
        exact hret ((Wa, Ra, Ua, n, pt), (ip_hd Wa Ra (ip_up Ua (Ra k_p0) k_q0) n pt)) _ _ _ _ _ dX1_shareUnder_44 (by simp [sp_shareUnder, hx_p0, hx_q0]) hP hD hS
      · skip
        rw [nI_toInt (show 3 < 2 ^ 31 by omega)] at c_7
        refine lv_bipush (v := (-2)) hx hb dX1_shareUnder_19 (by decide) ?_
        exact hret ((Wa, Ra, Ua, n, pt), Ga) _ _ _ _ _ dX1_shareUnder_21 (by simp [sp_shareUnder, hx_p0, ip_ix_none (p := q0) (n := 4) (by omega)]) hP hD hS
set_option maxHeartbeats 4000000 in
set_option maxRecDepth 100000 in
theorem kX1_leastEstate (l : Launch) (D : va_G) (d : ClassId) (a : Nat → Nat) (Wa Ra Ua Ga : Nat → Nat) (n pt : Nat) (hI : ip_AI (Wa, Ra, Ua, n, pt)) (p0 q0 : Int32)  : ip_Mi l yX1_leastEstate (ws_ yX1_leastEstate cX1_leastEstate 5 (some .int)) rmX1_leastEstate D d (mw a d Wa Ra Ua Ga n pt) [.ref (a 0), .int p0, .int q0] (S := ip_S1) (fun v u => (v, u.1) = sp_leastEstate Wa Ra Ua n pt p0 q0) (mwS a d) := by
  obtain ⟨hW, hR, hU, hn, hpt⟩ := id hI
  have hW : ∀ j, Wa j ≤ 150 := hW
  have hR : ∀ j, Ra j < 4 := hR
  have hU : ∀ j, Ua j < 4 := hU
  have hn : n ≤ 8 := hn
  have hpt : pt ≤ 1500 := hpt
  refine ip_ent_i (by decide) (Nat.le_of_ble_eq_true rfl) ?_
  intro p e s m args below meth c A Q hx hb hml hown hts hA hK hP hD hS hret ls hl
  have hown : s.vm.findClass RX1 = some m.cls := hown
  have hl : lv_has ls 5 [(0, .ref (a 0)), (1, .int p0), (2, .int q0)] := hl
  refine lv_aload_n hx hb dX1_leastEstate_0 rfl (lv_at hl 0 rfl) ?_
  refine lv_iload_n hx hb dX1_leastEstate_1 rfl (lv_at hl 1 rfl) ?_
  refine ip_callV_i (own := RX1) (C := RX1) (x := a 0) [.int p0] hx hb hml hown hts hA hK (kX1_bad l D d a Wa Ra Ua Ga n pt hI p0) (cwX1_bad hts ⟨Nat.le_of_ble_eq_true rfl, Nat.le_of_ble_eq_true rfl⟩) ⟨1, _, _, rfl, rfl, rfl⟩ hP hD hS hl.1 rfl (Nat.le_of_ble_eq_true rfl) dX1_leastEstate_2 ⟨Nat.zero_le _, Nat.zero_le _⟩ (fun r_2 u_1 H locs hw_3 hP hD hS => ?_)
  rcases hw_3 with ⟨rfl, hx_p0⟩ | ⟨rfl, k_p0, hk_p0, rfl, hx_p0⟩
  · skip
    refine n_if_eq (tgt := 10) hx hb dX1_leastEstate_5 (by decide) (by omega) (fun h => absurd h (by omega)) (fun _ => ?_)
    refine lv_iconst (v := (-1)) hx hb dX1_leastEstate_8 (by decide) ?_
    exact hret ((Wa, Ra, Ua, n, pt), Ga) _ _ _ _ _ dX1_leastEstate_9 (by simp [sp_leastEstate, hx_p0]) hP hD hS
  · skip
    refine n_if_eq (tgt := 10) hx hb dX1_leastEstate_5 (by decide) (by omega) (fun _ => ?_) (fun h => absurd h (by omega))
    refine lv_aload_n hx hb dX1_leastEstate_10 rfl (lv_at hl 0 rfl) ?_
    refine lv_iload_n hx hb dX1_leastEstate_11 rfl (lv_at hl 2 rfl) ?_
    refine ip_callV_i (own := RX1) (C := RX1) (x := a 0) [.int q0] hx hb hml hown hts hA hK (kX1_badClaim l D d a Wa Ra Ua Ga n pt hI q0) (cwX1_badClaim hts ⟨Nat.le_of_ble_eq_true rfl, Nat.le_of_ble_eq_true rfl⟩) ⟨1, _, _, rfl, rfl, rfl⟩ hP hD hS hl.1 rfl (Nat.le_of_ble_eq_true rfl) dX1_leastEstate_12 ⟨Nat.zero_le _, Nat.zero_le _⟩ (fun r_7 u_6 H locs hw_8 hP hD hS => ?_)
    rcases hw_8 with ⟨rfl, hx_q0⟩ | ⟨rfl, k_q0, hk_q0, rfl, hx_q0⟩
    · skip
      refine n_if_eq (tgt := 21) hx hb dX1_leastEstate_15 (by decide) (by omega) (fun h => absurd h (by omega)) (fun _ => ?_)
      refine lv_bipush (v := (-2)) hx hb dX1_leastEstate_18 (by decide) ?_
      exact hret ((Wa, Ra, Ua, n, pt), Ga) _ _ _ _ _ dX1_leastEstate_20 (by simp [sp_leastEstate, hx_p0, hx_q0]) hP hD hS
    · skip
      refine n_if_eq (tgt := 21) hx hb dX1_leastEstate_15 (by decide) (by omega) (fun _ => ?_) (fun h => absurd h (by omega))
      refine lv_aload_n hx hb dX1_leastEstate_21 rfl (lv_at hl 0 rfl) ?_
      refine lv_iconst (v := nI 0) hx hb dX1_leastEstate_22 (by decide) ?_
      refine lv_iconst (v := (-1)) hx hb dX1_leastEstate_23 (by decide) ?_
      refine lv_iconst (v := nI 0) hx hb dX1_leastEstate_24 (by decide) ?_
      refine ip_callV_i (own := RX1) (C := RX1) (x := a 0) [.int (nI 0), .int (-1), .int (nI 0)] hx hb hml hown hts hA hK (kX1_hand l D d a Wa Ra Ua Ga n pt hI 0 (-1) 0 Ua (ip_hE0 Ua) hU (by omega) (by omega)) (cwX1_hand hts ⟨Nat.le_of_ble_eq_true rfl, Nat.le_of_ble_eq_true rfl⟩) ⟨1, _, _, rfl, rfl, rfl⟩ hP hD hS hl.1 rfl (Nat.le_of_ble_eq_true rfl) dX1_leastEstate_25 ⟨Nat.zero_le _, Nat.zero_le _⟩ (fun r_12 u_11 H locs hw_13 hP hD hS => ?_)
      subst hw_13
      refine lv_pop hx hb dX1_leastEstate_28 rfl ?_
      refine lv_iconst (v := nI 0) hx hb dX1_leastEstate_29 (by decide) ?_
      refine lv_istore_n (lv' := [(3, .int (nI 0)), (0, .ref (a 0)), (1, .int (nI k_p0)), (2, .int (nI k_q0))]) hx hb dX1_leastEstate_30 rfl hl (by decide) rfl (fun ls hl => ?_)
      have lp31 : ∀ (N31 : Nat) (e_ : Nat), (e_ ≤ ip_pf Wa Ra n 4) → (∀ j, j < e_ → ip_hd Wa Ra Ua n j k_p0 < k_q0) → 1501 - e_ < N31 → ∀ (H : Heap) (locs : List Loc), va_P D ip_cl (mw a d Wa Ra Ua (ip_hd Wa Ra Ua n e_) n pt) H → va_D A (mw a d Wa Ra Ua (ip_hd Wa Ra Ua n e_) n pt) → va_S A s.heap H locs → ∀ (ls : Array Slot), lv_has ls 5 [(3, .int (nI e_)), (0, .ref (a 0)), (1, .int (nI k_p0)), (2, .int (nI k_q0))] → W p l e rmX1_leastEstate s m args below meth c H locs 0 0 Q (F0 m 31 ls []) := by
        intro N31
        induction N31 with
        | zero =>
          intro e_ _ _ hm
          exact absurd hm (Nat.not_lt_zero _)
        | succ N31 ih31 =>
          intro e_ he hlt hm31 H locs hP hD hS ls hl
          have hpf := ip_pf_le (n := n) hW hR hn
          have b_h := ip_hd_le hW hR hU e_ k_p0 hk_p0
          have b_w := hW k_p0
          have hcc := ip_hd_ch hW hR hU (n := n) e_
          refine lv_iload_n hx hb dX1_leastEstate_31 rfl (lv_at hl 0 rfl) ?_
          refine lv_sipush (v := nI 1500) hx hb dX1_leastEstate_32 (by decide) ?_
          refine n_icmp_gt (tgt := 83) hx hb dX1_leastEstate_35 (by decide) (by omega) (by omega) (fun c_14 => absurd c_14 (by omega)) (fun _ => ?_)
          refine lv_aload_n hx hb dX1_leastEstate_38 rfl (lv_at hl 1 rfl) ?_
          refine x1_get_G hx hb hts hown hK hP dX1_leastEstate_39 ?_
          refine lv_iload_n hx hb dX1_leastEstate_42 rfl (lv_at hl 2 rfl) ?_
          refine x1_ald_G hx hb hK hP (by omega) dX1_leastEstate_43 ?_
          refine lv_iload_n hx hb dX1_leastEstate_44 rfl (lv_at hl 3 rfl) ?_
          refine n_icmp_lt (tgt := 50) hx hb dX1_leastEstate_45 (by decide) (by omega) (by omega) (fun c_15 => ?_) (fun c_15 => ?_)
          · skip
            refine lv_aload_n hx hb dX1_leastEstate_50 rfl (lv_at hl 1 rfl) ?_
            refine lv_iconst (v := (-1)) hx hb dX1_leastEstate_51 (by decide) ?_
            refine lv_iconst (v := nI 0) hx hb dX1_leastEstate_52 (by decide) ?_
            refine ip_callV_i (own := RX1) (C := RX1) (x := a 0) [.int (-1), .int (nI 0)] hx hb hml hown hts hA hK (kX1_chosen l D d a Wa Ra Ua (ip_hd Wa Ra Ua n e_) n pt hI (-1) 0 Ua (ip_hE0 Ua) hU (by omega) (ip_hd_le hW hR hU e_)) (cwX1_chosen hts ⟨Nat.le_of_ble_eq_true rfl, Nat.le_of_ble_eq_true rfl⟩) ⟨1, _, _, rfl, rfl, rfl⟩ hP hD hS hl.1 rfl (Nat.le_of_ble_eq_true rfl) dX1_leastEstate_53 ⟨Nat.zero_le _, Nat.zero_le _⟩ (fun r_17 u_16 H locs hw_18 hP hD hS => ?_)
            subst hw_18
            rcases hch : ip_ch Wa Ra Ua n (ip_hd Wa Ra Ua n e_) with _ | bq
            · skip
              refine lv_istore (lv' := [(4, .int (-1)), (3, .int (nI e_)), (0, .ref (a 0)), (1, .int (nI k_p0)), (2, .int (nI k_q0))]) hx hb dX1_leastEstate_56 hl (by decide) rfl (fun ls hl => ?_)
              refine lv_iload hx hb dX1_leastEstate_58 (lv_at hl 0 rfl) ?_
              refine z_if_ge (tgt := 66) hx hb dX1_leastEstate_60 (by decide) (fun h => absurd h (by decide)) (fun _ => ?_)
              have hfull : ip_hd Wa Ra Ua n e_ k_p0 = Wa k_p0 := by rcases hcc with ⟨q, -⟩ | ⟨-, b, -, q⟩; exact ip_hd_full hW hR hU q k_p0 hk_p0; rw [hch] at q; cases q
              refine lv_bipush (v := (-3)) hx hb dX1_leastEstate_63 (by decide) ?_
              exact hret ((Wa, Ra, Ua, n, pt), (ip_hd Wa Ra Ua n e_)) _ _ _ _ _ dX1_leastEstate_65 (by simp [sp_leastEstate, hx_p0, hx_q0, show Wa k_p0 < k_q0 by omega]) hP hD hS
            · skip
              have hbq := ip_ch_lt hch
              refine lv_istore (lv' := [(4, .int (nI bq)), (3, .int (nI e_)), (0, .ref (a 0)), (1, .int (nI k_p0)), (2, .int (nI k_q0))]) hx hb dX1_leastEstate_56 hl (by decide) rfl (fun ls hl => ?_)
              refine lv_iload hx hb dX1_leastEstate_58 (lv_at hl 0 rfl) ?_
              refine n_if_ge (tgt := 66) hx hb dX1_leastEstate_60 (by decide) (by omega) (fun _ => ?_) (fun h => h.elim)
              have hnext : e_ < ip_pf Wa Ra n 4 := by rcases hcc with ⟨-, q⟩ | ⟨q, -⟩; rw [hch] at q; cases q; exact q
              refine lv_aload_n hx hb dX1_leastEstate_66 rfl (lv_at hl 2 rfl) ?_
              refine x1_get_G hx hb hts hown hK hP dX1_leastEstate_67 ?_
              refine lv_iload hx hb dX1_leastEstate_70 (lv_at hl 0 rfl) ?_
              refine lv_dup2_11 hx hb dX1_leastEstate_72 rfl rfl ?_
              refine x1_ald_G hx hb hK hP (by omega) dX1_leastEstate_73 ?_
              refine lv_iconst (v := nI 1) hx hb dX1_leastEstate_74 (by decide) ?_
              refine n_iadd hx hb dX1_leastEstate_75 ?_
              refine x1_ast_G hx hb hK hP hD hS (by omega) dX1_leastEstate_76 (fun H locs hP hD hS => ?_)
              rw [← ip_hd_some hch] at hP hD
              refine lv_iinc (v := nI (e_ + 1)) (lv' := [(3, .int (nI (e_ + 1))), (4, .int (nI bq)), (0, .ref (a 0)), (1, .int (nI k_p0)), (2, .int (nI k_q0))]) hx hb dX1_leastEstate_77 hl (k := 1) rfl (ip_inc e_) (by decide) rfl (fun ls hl => ?_)
              refine lv_goto (tgt := 31) hx hb dX1_leastEstate_80 (by decide) ?_
              exact ih31 (e_ + 1) (by omega) (fun j hj => (Nat.lt_or_ge j e_).elim (fun q => hlt j q) (fun q => by rw [show j = e_ by omega]; omega)) (by omega) _ _ hP hD hS ls (lv_sub hl [0, 2, 3, 4] rfl)
          · skip
            refine lv_iload_n hx hb dX1_leastEstate_48 rfl (lv_at hl 0 rfl) ?_
            exact hret ((Wa, Ra, Ua, n, pt), (ip_hd Wa Ra Ua n e_)) _ _ _ _ _ dX1_leastEstate_49 (by simp [sp_leastEstate, hx_p0, hx_q0, show ¬ Wa k_p0 < k_q0 by omega, ip_ls_eq (show e_ ≤ 1500 by omega) hlt (by omega)]) hP hD hS
      exact lp31 _ 0 (by omega) (fun j hj => absurd hj (Nat.not_lt_zero j)) (Nat.lt_succ_self _) _ _ hP hD hS ls (lv_sub hl [0, 1, 2, 3] rfl)
set_option maxHeartbeats 4000000 in
set_option maxRecDepth 100000 in
theorem kX1_paid (l : Launch) (D : va_G) (d : ClassId) (a : Nat → Nat) (Wa Ra Ua Ga : Nat → Nat) (n pt : Nat) (hI : ip_AI (Wa, Ra, Ua, n, pt)) (p0 : Int32)  : ip_Mi l yX1_paid (ws_ yX1_paid cX1_paid 4 (some .int)) rmX1_paid D d (mw a d Wa Ra Ua Ga n pt) [.ref (a 0), .int p0] (S := ip_S1) (fun v u => (v, u.1) = sp_paid Wa Ra Ua n pt p0) (mwS a d) := by
  obtain ⟨hW, hR, hU, hn, hpt⟩ := id hI
  have hW : ∀ j, Wa j ≤ 150 := hW
  have hR : ∀ j, Ra j < 4 := hR
  have hU : ∀ j, Ua j < 4 := hU
  have hn : n ≤ 8 := hn
  have hpt : pt ≤ 1500 := hpt
  refine ip_ent_i (by decide) (Nat.le_of_ble_eq_true rfl) ?_
  intro p e s m args below meth c A Q hx hb hml hown hts hA hK hP hD hS hret ls hl
  have hown : s.vm.findClass RX1 = some m.cls := hown
  have hl : lv_has ls 4 [(0, .ref (a 0)), (1, .int p0)] := hl
  refine lv_aload_n hx hb dX1_paid_0 rfl (lv_at hl 0 rfl) ?_
  refine lv_iload_n hx hb dX1_paid_1 rfl (lv_at hl 1 rfl) ?_
  refine ip_callV_i (own := RX1) (C := RX1) (x := a 0) [.int p0] hx hb hml hown hts hA hK (kX1_badRank l D d a Wa Ra Ua Ga n pt hI p0) (cwX1_badRank hts ⟨Nat.le_of_ble_eq_true rfl, Nat.le_of_ble_eq_true rfl⟩) ⟨1, _, _, rfl, rfl, rfl⟩ hP hD hS hl.1 rfl (Nat.le_of_ble_eq_true rfl) dX1_paid_2 ⟨Nat.zero_le _, Nat.zero_le _⟩ (fun r_2 u_1 H locs hw_3 hP hD hS => ?_)
  rcases hw_3 with ⟨rfl, hx_p0⟩ | ⟨rfl, k_p0, hk_p0, rfl, hx_p0⟩
  · skip
    refine n_if_eq (tgt := 10) hx hb dX1_paid_5 (by decide) (by omega) (fun h => absurd h (by omega)) (fun _ => ?_)
    refine lv_iconst (v := (-1)) hx hb dX1_paid_8 (by decide) ?_
    exact hret ((Wa, Ra, Ua, n, pt), Ga) _ _ _ _ _ dX1_paid_9 (by simp [sp_paid, hx_p0]) hP hD hS
  · skip
    refine n_if_eq (tgt := 10) hx hb dX1_paid_5 (by decide) (by omega) (fun _ => ?_) (fun h => absurd h (by omega))
    refine lv_aload_n hx hb dX1_paid_10 rfl (lv_at hl 0 rfl) ?_
    refine lv_aload_n hx hb dX1_paid_11 rfl (lv_at hl 0 rfl) ?_
    refine x1_get_pt hx hb hts hown hK hP dX1_paid_12 ?_
    refine lv_iconst (v := (-1)) hx hb dX1_paid_15 (by decide) ?_
    refine lv_iconst (v := nI 0) hx hb dX1_paid_16 (by decide) ?_
    refine ip_callV_i (own := RX1) (C := RX1) (x := a 0) [.int (nI pt), .int (-1), .int (nI 0)] hx hb hml hown hts hA hK (kX1_hand l D d a Wa Ra Ua Ga n pt hI pt (-1) 0 Ua (ip_hE0 Ua) hU (by omega) (by omega)) (cwX1_hand hts ⟨Nat.le_of_ble_eq_true rfl, Nat.le_of_ble_eq_true rfl⟩) ⟨1, _, _, rfl, rfl, rfl⟩ hP hD hS hl.1 rfl (Nat.le_of_ble_eq_true rfl) dX1_paid_17 ⟨Nat.zero_le _, Nat.zero_le _⟩ (fun r_7 u_6 H locs hw_8 hP hD hS => ?_)
    subst hw_8
    refine lv_pop hx hb dX1_paid_20 rfl ?_
    refine lv_iconst (v := nI 0) hx hb dX1_paid_21 (by decide) ?_
    refine lv_istore_n (lv' := [(2, .int (nI 0)), (0, .ref (a 0)), (1, .int (nI k_p0))]) hx hb dX1_paid_22 rfl hl (by decide) rfl (fun ls hl => ?_)
    refine lv_iconst (v := nI 0) hx hb dX1_paid_23 (by decide) ?_
    refine lv_istore_n (lv' := [(3, .int (nI 0)), (2, .int (nI 0)), (0, .ref (a 0)), (1, .int (nI k_p0))]) hx hb dX1_paid_24 rfl hl (by decide) rfl (fun ls hl => ?_)
    have lp25 : ∀ (N25 : Nat) (i : Nat) (x : Nat), (i ≤ n) → (x = ip_rs Ra k_p0 (ip_hd Wa Ra Ua n pt) i) → n - i < N25 → ∀ (H : Heap) (locs : List Loc), va_P D ip_cl (mw a d Wa Ra Ua (ip_hd Wa Ra Ua n pt) n pt) H → va_D A (mw a d Wa Ra Ua (ip_hd Wa Ra Ua n pt) n pt) → va_S A s.heap H locs → ∀ (ls : Array Slot), lv_has ls 4 [(3, .int (nI i)), (2, .int (nI x)), (0, .ref (a 0)), (1, .int (nI k_p0))] → W p l e rmX1_paid s m args below meth c H locs 0 0 Q (F0 m 25 ls []) := by
      intro N25
      induction N25 with
      | zero =>
        intro i x _ _ hm
        exact absurd hm (Nat.not_lt_zero _)
      | succ N25 ih25 =>
        intro i x hi he hm25 H locs hP hD hS ls hl
        refine lv_iload_n hx hb dX1_paid_25 rfl (lv_at hl 0 rfl) ?_
        refine lv_aload_n hx hb dX1_paid_26 rfl (lv_at hl 2 rfl) ?_
        refine x1_get_n hx hb hts hown hK hP dX1_paid_27 ?_
        refine n_icmp_ge (tgt := 58) hx hb dX1_paid_30 (by decide) (by omega) (by omega) (fun c_9 => ?_) (fun c_9 => ?_)
        · skip
          refine lv_iload_n hx hb dX1_paid_58 rfl (lv_at hl 1 rfl) ?_
          exact hret ((Wa, Ra, Ua, n, pt), (ip_hd Wa Ra Ua n pt)) _ _ _ _ _ dX1_paid_59 (by rw [he, show i = n by omega]; simp [sp_paid, hx_p0]) hP hD hS
        · skip
          refine lv_aload_n hx hb dX1_paid_33 rfl (lv_at hl 2 rfl) ?_
          refine x1_get_R hx hb hts hown hK hP dX1_paid_34 ?_
          refine lv_iload_n hx hb dX1_paid_37 rfl (lv_at hl 0 rfl) ?_
          refine x1_ald_R hx hb hK hP (by omega) dX1_paid_38 ?_
          have b_10 := hR i
          refine lv_iload_n hx hb dX1_paid_39 rfl (lv_at hl 3 rfl) ?_
          refine n_icmp_ne (tgt := 52) hx hb dX1_paid_40 (by decide) (by omega) (by omega) (fun c_11 => ?_) (fun c_11 => ?_)
          · skip
            refine lv_iinc (v := nI (i + 1)) (lv' := [(3, .int (nI (i + 1))), (2, .int (nI x)), (0, .ref (a 0)), (1, .int (nI k_p0))]) hx hb dX1_paid_52 hl (k := 0) rfl (ip_inc i) (by decide) rfl (fun ls hl => ?_)
            refine lv_goto (tgt := 25) hx hb dX1_paid_55 (by decide) ?_
            exact ih25 (i + 1) x (by omega) (by rw [ip_rs_succ]; split <;> omega) (by omega) _ _ hP hD hS ls (lv_sub hl [0, 1, 2, 3] rfl)
          · skip
            refine lv_iload_n hx hb dX1_paid_43 rfl (lv_at hl 1 rfl) ?_
            refine lv_aload_n hx hb dX1_paid_44 rfl (lv_at hl 2 rfl) ?_
            refine x1_get_G hx hb hts hown hK hP dX1_paid_45 ?_
            refine lv_iload_n hx hb dX1_paid_48 rfl (lv_at hl 0 rfl) ?_
            refine x1_ald_G hx hb hK hP (by omega) dX1_paid_49 ?_
            refine n_iadd hx hb dX1_paid_50 ?_
            refine lv_istore_n (lv' := [(2, .int (nI (x + ((ip_hd Wa Ra Ua n pt) i)))), (3, .int (nI i)), (0, .ref (a 0)), (1, .int (nI k_p0))]) hx hb dX1_paid_51 rfl hl (by decide) rfl (fun ls hl => ?_)
            refine lv_iinc (v := nI (i + 1)) (lv' := [(3, .int (nI (i + 1))), (2, .int (nI (x + ((ip_hd Wa Ra Ua n pt) i)))), (0, .ref (a 0)), (1, .int (nI k_p0))]) hx hb dX1_paid_52 hl (k := 1) rfl (ip_inc i) (by decide) rfl (fun ls hl => ?_)
            refine lv_goto (tgt := 25) hx hb dX1_paid_55 (by decide) ?_
            exact ih25 (i + 1) (x + ((ip_hd Wa Ra Ua n pt) i)) (by omega) (by rw [ip_rs_succ]; split <;> omega) (by omega) _ _ hP hD hS ls (lv_sub hl [0, 1, 2, 3] rfl)
    exact lp25 _ 0 0 (by omega) (rfl) (Nat.lt_succ_self _) _ _ hP hD hS ls (lv_sub hl [0, 1, 2, 3] rfl)
set_option maxHeartbeats 4000000 in
set_option maxRecDepth 100000 in
theorem kX1_left (l : Launch) (D : va_G) (d : ClassId) (a : Nat → Nat) (Wa Ra Ua Ga : Nat → Nat) (n pt : Nat) (hI : ip_AI (Wa, Ra, Ua, n, pt))   : ip_Mi l yX1_left (ws_ yX1_left cX1_left 1 (some .int)) rmX1_left D d (mw a d Wa Ra Ua Ga n pt) [.ref (a 0)] (S := ip_S1) (fun v u => (v, u.1) = sp_left Wa Ra Ua n pt) (mwS a d) := by
  obtain ⟨hW, hR, hU, hn, hpt⟩ := id hI
  have hW : ∀ j, Wa j ≤ 150 := hW
  have hR : ∀ j, Ra j < 4 := hR
  have hU : ∀ j, Ua j < 4 := hU
  have hn : n ≤ 8 := hn
  have hpt : pt ≤ 1500 := hpt
  refine ip_ent_i (by decide) (Nat.le_of_ble_eq_true rfl) ?_
  intro p e s m args below meth c A Q hx hb hml hown hts hA hK hP hD hS hret ls hl
  have hown : s.vm.findClass RX1 = some m.cls := hown
  have hl : lv_has ls 1 [(0, .ref (a 0))] := hl
  refine lv_aload_n hx hb dX1_left_0 rfl (lv_at hl 0 rfl) ?_
  refine lv_aload_n hx hb dX1_left_1 rfl (lv_at hl 0 rfl) ?_
  refine x1_get_pt hx hb hts hown hK hP dX1_left_2 ?_
  refine lv_iconst (v := (-1)) hx hb dX1_left_5 (by decide) ?_
  refine lv_iconst (v := nI 0) hx hb dX1_left_6 (by decide) ?_
  refine ip_callV_i (own := RX1) (C := RX1) (x := a 0) [.int (nI pt), .int (-1), .int (nI 0)] hx hb hml hown hts hA hK (kX1_hand l D d a Wa Ra Ua Ga n pt hI pt (-1) 0 Ua (ip_hE0 Ua) hU (by omega) (by omega)) (cwX1_hand hts ⟨Nat.le_of_ble_eq_true rfl, Nat.le_of_ble_eq_true rfl⟩) ⟨1, _, _, rfl, rfl, rfl⟩ hP hD hS hl.1 rfl (Nat.le_of_ble_eq_true rfl) dX1_left_7 ⟨Nat.zero_le _, Nat.zero_le _⟩ (fun r_2 u_1 H locs hw_3 hP hD hS => ?_)
  subst hw_3
  exact hret ((Wa, Ra, Ua, n, pt), (ip_hd Wa Ra Ua n pt)) _ _ _ _ _ dX1_left_10 (by rw [ip_ov_eq hW hR hU]; rfl) hP hD hS
set_option maxHeartbeats 4000000 in
set_option maxRecDepth 100000 in
theorem kX1_next (l : Launch) (D : va_G) (d : ClassId) (a : Nat → Nat) (Wa Ra Ua Ga : Nat → Nat) (n pt : Nat) (hI : ip_AI (Wa, Ra, Ua, n, pt))   : ip_Mi l yX1_next (ws_ yX1_next cX1_next 1 (some .int)) rmX1_next D d (mw a d Wa Ra Ua Ga n pt) [.ref (a 0)] (S := ip_S1) (fun v u => (v, u.1) = sp_next Wa Ra Ua n pt) (mwS a d) := by
  obtain ⟨hW, hR, hU, hn, hpt⟩ := id hI
  have hW : ∀ j, Wa j ≤ 150 := hW
  have hR : ∀ j, Ra j < 4 := hR
  have hU : ∀ j, Ua j < 4 := hU
  have hn : n ≤ 8 := hn
  have hpt : pt ≤ 1500 := hpt
  refine ip_ent_i (by decide) (Nat.le_of_ble_eq_true rfl) ?_
  intro p e s m args below meth c A Q hx hb hml hown hts hA hK hP hD hS hret ls hl
  have hown : s.vm.findClass RX1 = some m.cls := hown
  have hl : lv_has ls 1 [(0, .ref (a 0))] := hl
  refine lv_aload_n hx hb dX1_next_0 rfl (lv_at hl 0 rfl) ?_
  refine lv_aload_n hx hb dX1_next_1 rfl (lv_at hl 0 rfl) ?_
  refine x1_get_pt hx hb hts hown hK hP dX1_next_2 ?_
  refine lv_iconst (v := (-1)) hx hb dX1_next_5 (by decide) ?_
  refine lv_iconst (v := nI 0) hx hb dX1_next_6 (by decide) ?_
  refine ip_callV_i (own := RX1) (C := RX1) (x := a 0) [.int (nI pt), .int (-1), .int (nI 0)] hx hb hml hown hts hA hK (kX1_hand l D d a Wa Ra Ua Ga n pt hI pt (-1) 0 Ua (ip_hE0 Ua) hU (by omega) (by omega)) (cwX1_hand hts ⟨Nat.le_of_ble_eq_true rfl, Nat.le_of_ble_eq_true rfl⟩) ⟨1, _, _, rfl, rfl, rfl⟩ hP hD hS hl.1 rfl (Nat.le_of_ble_eq_true rfl) dX1_next_7 ⟨Nat.zero_le _, Nat.zero_le _⟩ (fun r_2 u_1 H locs hw_3 hP hD hS => ?_)
  subst hw_3
  refine lv_pop hx hb dX1_next_10 rfl ?_
  refine lv_aload_n hx hb dX1_next_11 rfl (lv_at hl 0 rfl) ?_
  refine lv_iconst (v := (-1)) hx hb dX1_next_12 (by decide) ?_
  refine lv_iconst (v := nI 0) hx hb dX1_next_13 (by decide) ?_
  refine ip_callV_i (own := RX1) (C := RX1) (x := a 0) [.int (-1), .int (nI 0)] hx hb hml hown hts hA hK (kX1_chosen l D d a Wa Ra Ua (ip_hd Wa Ra Ua n pt) n pt hI (-1) 0 Ua (ip_hE0 Ua) hU (by omega) (ip_hd_le hW hR hU pt)) (cwX1_chosen hts ⟨Nat.le_of_ble_eq_true rfl, Nat.le_of_ble_eq_true rfl⟩) ⟨1, _, _, rfl, rfl, rfl⟩ hP hD hS hl.1 rfl (Nat.le_of_ble_eq_true rfl) dX1_next_14 ⟨Nat.zero_le _, Nat.zero_le _⟩ (fun r_5 u_4 H locs hw_6 hP hD hS => ?_)
  subst hw_6
  exact hret ((Wa, Ra, Ua, n, pt), (ip_hd Wa Ra Ua n pt)) _ _ _ _ _ dX1_next_17 (rfl) hP hD hS
set_option maxHeartbeats 4000000 in
set_option maxRecDepth 100000 in
theorem kX1_unpaid (l : Launch) (D : va_G) (d : ClassId) (a : Nat → Nat) (Wa Ra Ua Ga : Nat → Nat) (n pt : Nat) (hI : ip_AI (Wa, Ra, Ua, n, pt))   : ip_Mi l yX1_unpaid (ws_ yX1_unpaid cX1_unpaid 3 (some .int)) rmX1_unpaid D d (mw a d Wa Ra Ua Ga n pt) [.ref (a 0)] (S := ip_S1) (fun v u => (v, u.1) = sp_unpaid Wa Ra Ua n pt) (mwS a d) := by
  obtain ⟨hW, hR, hU, hn, hpt⟩ := id hI
  have hW : ∀ j, Wa j ≤ 150 := hW
  have hR : ∀ j, Ra j < 4 := hR
  have hU : ∀ j, Ua j < 4 := hU
  have hn : n ≤ 8 := hn
  have hpt : pt ≤ 1500 := hpt
  refine ip_ent_i (by decide) (Nat.le_of_ble_eq_true rfl) ?_
  intro p e s m args below meth c A Q hx hb hml hown hts hA hK hP hD hS hret ls hl
  have hown : s.vm.findClass RX1 = some m.cls := hown
  have hl : lv_has ls 3 [(0, .ref (a 0))] := hl
  refine lv_aload_n hx hb dX1_unpaid_0 rfl (lv_at hl 0 rfl) ?_
  refine lv_aload_n hx hb dX1_unpaid_1 rfl (lv_at hl 0 rfl) ?_
  refine x1_get_pt hx hb hts hown hK hP dX1_unpaid_2 ?_
  refine lv_iconst (v := (-1)) hx hb dX1_unpaid_5 (by decide) ?_
  refine lv_iconst (v := nI 0) hx hb dX1_unpaid_6 (by decide) ?_
  refine ip_callV_i (own := RX1) (C := RX1) (x := a 0) [.int (nI pt), .int (-1), .int (nI 0)] hx hb hml hown hts hA hK (kX1_hand l D d a Wa Ra Ua Ga n pt hI pt (-1) 0 Ua (ip_hE0 Ua) hU (by omega) (by omega)) (cwX1_hand hts ⟨Nat.le_of_ble_eq_true rfl, Nat.le_of_ble_eq_true rfl⟩) ⟨1, _, _, rfl, rfl, rfl⟩ hP hD hS hl.1 rfl (Nat.le_of_ble_eq_true rfl) dX1_unpaid_7 ⟨Nat.zero_le _, Nat.zero_le _⟩ (fun r_2 u_1 H locs hw_3 hP hD hS => ?_)
  subst hw_3
  refine lv_pop hx hb dX1_unpaid_10 rfl ?_
  refine lv_iconst (v := nI 0) hx hb dX1_unpaid_11 (by decide) ?_
  refine lv_istore_n (lv' := [(1, .int (nI 0)), (0, .ref (a 0))]) hx hb dX1_unpaid_12 rfl hl (by decide) rfl (fun ls hl => ?_)
  refine lv_iconst (v := nI 0) hx hb dX1_unpaid_13 (by decide) ?_
  refine lv_istore_n (lv' := [(2, .int (nI 0)), (1, .int (nI 0)), (0, .ref (a 0))]) hx hb dX1_unpaid_14 rfl hl (by decide) rfl (fun ls hl => ?_)
  have lp15 : ∀ (N15 : Nat) (i : Nat) (x : Nat), (i ≤ n) → (x = fb_sm (ip_un Wa (ip_hd Wa Ra Ua n pt)) i) → n - i < N15 → ∀ (H : Heap) (locs : List Loc), va_P D ip_cl (mw a d Wa Ra Ua (ip_hd Wa Ra Ua n pt) n pt) H → va_D A (mw a d Wa Ra Ua (ip_hd Wa Ra Ua n pt) n pt) → va_S A s.heap H locs → ∀ (ls : Array Slot), lv_has ls 3 [(2, .int (nI i)), (1, .int (nI x)), (0, .ref (a 0))] → W p l e rmX1_unpaid s m args below meth c H locs 0 0 Q (F0 m 15 ls []) := by
    intro N15
    induction N15 with
    | zero =>
      intro i x _ _ hm
      exact absurd hm (Nat.not_lt_zero _)
    | succ N15 ih15 =>
      intro i x hi he hm15 H locs hP hD hS ls hl
      refine lv_iload_n hx hb dX1_unpaid_15 rfl (lv_at hl 0 rfl) ?_
      refine lv_aload_n hx hb dX1_unpaid_16 rfl (lv_at hl 2 rfl) ?_
      refine x1_get_n hx hb hts hown hK hP dX1_unpaid_17 ?_
      refine n_icmp_ge (tgt := 47) hx hb dX1_unpaid_20 (by decide) (by omega) (by omega) (fun c_4 => ?_) (fun c_4 => ?_)
      · skip
        refine lv_iload_n hx hb dX1_unpaid_47 rfl (lv_at hl 1 rfl) ?_
        exact hret ((Wa, Ra, Ua, n, pt), (ip_hd Wa Ra Ua n pt)) _ _ _ _ _ dX1_unpaid_48 (by rw [he, show i = n by omega]; rfl) hP hD hS
      · skip
        have h_3 := ip_hd_le hW hR hU pt i (show i < n by omega)
        have h_5 := hW i
        refine lv_aload_n hx hb dX1_unpaid_23 rfl (lv_at hl 2 rfl) ?_
        refine x1_get_G hx hb hts hown hK hP dX1_unpaid_24 ?_
        refine lv_iload_n hx hb dX1_unpaid_27 rfl (lv_at hl 0 rfl) ?_
        refine x1_ald_G hx hb hK hP (by omega) dX1_unpaid_28 ?_
        refine lv_aload_n hx hb dX1_unpaid_29 rfl (lv_at hl 2 rfl) ?_
        refine x1_get_W hx hb hts hown hK hP dX1_unpaid_30 ?_
        refine lv_iload_n hx hb dX1_unpaid_33 rfl (lv_at hl 0 rfl) ?_
        refine x1_ald_W hx hb hK hP (by omega) dX1_unpaid_34 ?_
        refine n_icmp_ge (tgt := 41) hx hb dX1_unpaid_35 (by decide) (by omega) (by omega) (fun c_5 => ?_) (fun c_5 => ?_)
        · skip
          refine lv_iinc (v := nI (i + 1)) (lv' := [(2, .int (nI (i + 1))), (1, .int (nI x)), (0, .ref (a 0))]) hx hb dX1_unpaid_41 hl (k := 0) rfl (ip_inc i) (by decide) rfl (fun ls hl => ?_)
          refine lv_goto (tgt := 15) hx hb dX1_unpaid_44 (by decide) ?_
          exact ih15 (i + 1) x (by omega) (by rw [fb_sm_succ, ← he]; unfold ip_un; split <;> omega) (by omega) _ _ hP hD hS ls (lv_sub hl [0, 1, 2] rfl)
        · skip
          refine lv_iinc (v := nI (x + 1)) (lv' := [(1, .int (nI (x + 1))), (2, .int (nI i)), (0, .ref (a 0))]) hx hb dX1_unpaid_38 hl (k := 1) rfl (ip_inc x) (by decide) rfl (fun ls hl => ?_)
          refine lv_iinc (v := nI (i + 1)) (lv' := [(2, .int (nI (i + 1))), (1, .int (nI (x + 1))), (0, .ref (a 0))]) hx hb dX1_unpaid_41 hl (k := 1) rfl (ip_inc i) (by decide) rfl (fun ls hl => ?_)
          refine lv_goto (tgt := 15) hx hb dX1_unpaid_44 (by decide) ?_
          exact ih15 (i + 1) (x + 1) (by omega) (by rw [fb_sm_succ, ← he]; unfold ip_un; split <;> omega) (by omega) _ _ hP hD hS ls (lv_sub hl [0, 1, 2] rfl)
  exact lp15 _ 0 0 (by omega) (rfl) (Nat.lt_succ_self _) _ _ hP hD hS ls (lv_sub hl [0, 1, 2] rfl)
set_option maxHeartbeats 4000000 in
set_option maxRecDepth 100000 in
theorem kX1_worst (l : Launch) (D : va_G) (d : ClassId) (a : Nat → Nat) (Wa Ra Ua Ga : Nat → Nat) (n pt : Nat) (hI : ip_AI (Wa, Ra, Ua, n, pt))   : ip_Mi l yX1_worst (ws_ yX1_worst cX1_worst 3 (some .int)) rmX1_worst D d (mw a d Wa Ra Ua Ga n pt) [.ref (a 0)] (S := ip_S1) (fun v u => (v, u.1) = sp_worst Wa Ra Ua n pt) (mwS a d) := by
  obtain ⟨hW, hR, hU, hn, hpt⟩ := id hI
  have hW : ∀ j, Wa j ≤ 150 := hW
  have hR : ∀ j, Ra j < 4 := hR
  have hU : ∀ j, Ua j < 4 := hU
  have hn : n ≤ 8 := hn
  have hpt : pt ≤ 1500 := hpt
  refine ip_ent_i (by decide) (Nat.le_of_ble_eq_true rfl) ?_
  intro p e s m args below meth c A Q hx hb hml hown hts hA hK hP hD hS hret ls hl
  have hown : s.vm.findClass RX1 = some m.cls := hown
  have hl : lv_has ls 3 [(0, .ref (a 0))] := hl
  refine lv_aload_n hx hb dX1_worst_0 rfl (lv_at hl 0 rfl) ?_
  refine lv_aload_n hx hb dX1_worst_1 rfl (lv_at hl 0 rfl) ?_
  refine x1_get_pt hx hb hts hown hK hP dX1_worst_2 ?_
  refine lv_iconst (v := (-1)) hx hb dX1_worst_5 (by decide) ?_
  refine lv_iconst (v := nI 0) hx hb dX1_worst_6 (by decide) ?_
  refine ip_callV_i (own := RX1) (C := RX1) (x := a 0) [.int (nI pt), .int (-1), .int (nI 0)] hx hb hml hown hts hA hK (kX1_hand l D d a Wa Ra Ua Ga n pt hI pt (-1) 0 Ua (ip_hE0 Ua) hU (by omega) (by omega)) (cwX1_hand hts ⟨Nat.le_of_ble_eq_true rfl, Nat.le_of_ble_eq_true rfl⟩) ⟨1, _, _, rfl, rfl, rfl⟩ hP hD hS hl.1 rfl (Nat.le_of_ble_eq_true rfl) dX1_worst_7 ⟨Nat.zero_le _, Nat.zero_le _⟩ (fun r_2 u_1 H locs hw_3 hP hD hS => ?_)
  subst hw_3
  refine lv_pop hx hb dX1_worst_10 rfl ?_
  refine lv_iconst (v := nI 0) hx hb dX1_worst_11 (by decide) ?_
  refine lv_istore_n (lv' := [(1, .int (nI 0)), (0, .ref (a 0))]) hx hb dX1_worst_12 rfl hl (by decide) rfl (fun ls hl => ?_)
  refine lv_iconst (v := nI 0) hx hb dX1_worst_13 (by decide) ?_
  refine lv_istore_n (lv' := [(2, .int (nI 0)), (1, .int (nI 0)), (0, .ref (a 0))]) hx hb dX1_worst_14 rfl hl (by decide) rfl (fun ls hl => ?_)
  have lp15 : ∀ (N15 : Nat) (i : Nat) (x : Nat), (i ≤ n) → (x ≤ 150) → (x = ip_mx (fun c => Wa c - ip_hd Wa Ra Ua n pt c) i) → n - i < N15 → ∀ (H : Heap) (locs : List Loc), va_P D ip_cl (mw a d Wa Ra Ua (ip_hd Wa Ra Ua n pt) n pt) H → va_D A (mw a d Wa Ra Ua (ip_hd Wa Ra Ua n pt) n pt) → va_S A s.heap H locs → ∀ (ls : Array Slot), lv_has ls 3 [(2, .int (nI i)), (1, .int (nI x)), (0, .ref (a 0))] → W p l e rmX1_worst s m args below meth c H locs 0 0 Q (F0 m 15 ls []) := by
    intro N15
    induction N15 with
    | zero =>
      intro i x _ _ _ hm
      exact absurd hm (Nat.not_lt_zero _)
    | succ N15 ih15 =>
      intro i x hi hb1 he hm15 H locs hP hD hS ls hl
      refine lv_iload_n hx hb dX1_worst_15 rfl (lv_at hl 0 rfl) ?_
      refine lv_aload_n hx hb dX1_worst_16 rfl (lv_at hl 2 rfl) ?_
      refine x1_get_n hx hb hts hown hK hP dX1_worst_17 ?_
      refine n_icmp_ge (tgt := 60) hx hb dX1_worst_20 (by decide) (by omega) (by omega) (fun c_4 => ?_) (fun c_4 => ?_)
      · skip
        refine lv_iload_n hx hb dX1_worst_60 rfl (lv_at hl 1 rfl) ?_
        exact hret ((Wa, Ra, Ua, n, pt), (ip_hd Wa Ra Ua n pt)) _ _ _ _ _ dX1_worst_61 (by rw [he, show i = n by omega]; rfl) hP hD hS
      · skip
        have h_3 := ip_hd_le hW hR hU pt i (show i < n by omega)
        have h_5 := hW i
        refine lv_aload_n hx hb dX1_worst_23 rfl (lv_at hl 2 rfl) ?_
        refine x1_get_W hx hb hts hown hK hP dX1_worst_24 ?_
        refine lv_iload_n hx hb dX1_worst_27 rfl (lv_at hl 0 rfl) ?_
        refine x1_ald_W hx hb hK hP (by omega) dX1_worst_28 ?_
        refine lv_aload_n hx hb dX1_worst_29 rfl (lv_at hl 2 rfl) ?_
        refine x1_get_G hx hb hts hown hK hP dX1_worst_30 ?_
        refine lv_iload_n hx hb dX1_worst_33 rfl (lv_at hl 0 rfl) ?_
        refine x1_ald_G hx hb hK hP (by omega) dX1_worst_34 ?_
        refine n_isub hx hb dX1_worst_35 (by omega) ?_
        refine lv_iload_n hx hb dX1_worst_36 rfl (lv_at hl 1 rfl) ?_
        refine n_icmp_le (tgt := 54) hx hb dX1_worst_37 (by decide) (by omega) (by omega) (fun c_5 => ?_) (fun c_5 => ?_)
        · skip
          refine lv_iinc (v := nI (i + 1)) (lv' := [(2, .int (nI (i + 1))), (1, .int (nI x)), (0, .ref (a 0))]) hx hb dX1_worst_54 hl (k := 0) rfl (ip_inc i) (by decide) rfl (fun ls hl => ?_)
          refine lv_goto (tgt := 15) hx hb dX1_worst_57 (by decide) ?_
          exact ih15 (i + 1) x (by omega) (by omega) (by simp only [ip_mx_succ]; rw [← he]; split <;> omega) (by omega) _ _ hP hD hS ls (lv_sub hl [0, 1, 2] rfl)
        · skip
          refine lv_aload_n hx hb dX1_worst_40 rfl (lv_at hl 2 rfl) ?_
          refine x1_get_W hx hb hts hown hK hP dX1_worst_41 ?_
          refine lv_iload_n hx hb dX1_worst_44 rfl (lv_at hl 0 rfl) ?_
          refine x1_ald_W hx hb hK hP (by omega) dX1_worst_45 ?_
          refine lv_aload_n hx hb dX1_worst_46 rfl (lv_at hl 2 rfl) ?_
          refine x1_get_G hx hb hts hown hK hP dX1_worst_47 ?_
          refine lv_iload_n hx hb dX1_worst_50 rfl (lv_at hl 0 rfl) ?_
          refine x1_ald_G hx hb hK hP (by omega) dX1_worst_51 ?_
          refine n_isub hx hb dX1_worst_52 (by omega) ?_
          refine lv_istore_n (lv' := [(1, .int (nI ((Wa i) - ((ip_hd Wa Ra Ua n pt) i)))), (2, .int (nI i)), (0, .ref (a 0))]) hx hb dX1_worst_53 rfl hl (by decide) rfl (fun ls hl => ?_)
          refine lv_iinc (v := nI (i + 1)) (lv' := [(2, .int (nI (i + 1))), (1, .int (nI ((Wa i) - ((ip_hd Wa Ra Ua n pt) i)))), (0, .ref (a 0))]) hx hb dX1_worst_54 hl (k := 1) rfl (ip_inc i) (by decide) rfl (fun ls hl => ?_)
          refine lv_goto (tgt := 15) hx hb dX1_worst_57 (by decide) ?_
          exact ih15 (i + 1) ((Wa i) - ((ip_hd Wa Ra Ua n pt) i)) (by omega) (by omega) (by simp only [ip_mx_succ]; rw [← he]; split <;> omega) (by omega) _ _ hP hD hS ls (lv_sub hl [0, 1, 2] rfl)
  exact lp15 _ 0 0 (by omega) (by omega) (rfl) (Nat.lt_succ_self _) _ _ hP hD hS ls (lv_sub hl [0, 1, 2] rfl)
end
section
/-! ===== the two constructors; printed by gen_init.py ===== -/
abbrev rmX0_init : Room := { frames := 1, cells := 6, slots := 44, locals := 12 }
abbrev w0X0 (h : Nat) : va_W := [(h, .inr (0, [.null, .null, .null, .null, .null, .null, .int 0, .int 0, .int 0]))]
set_option maxHeartbeats 4000000 in
set_option maxRecDepth 100000 in
theorem kX0_init (l : Launch) (D : va_G) (h : Nat) (sz : Nat) : Met l yX0_init (ws_ yX0_init cX0_init 1 none) rmX0_init (va_Pc [.ref h] (fun U => U.heap.size = sz ∧ va_P D ip_cl (w0X0 h) U.heap ∧ va_K D ip_cl [] U ∧ va_D (fun _ => True) (w0X0 h)))
    (va_Qv (fun u : (Nat → Nat) × ClassId => u.1 0 = h) (fun u t => ip_B D u.2 (va_A (w0X0 h) sz) (pw u.1 u.2 (fun _ => 0) (fun _ => 0) (fun _ => 0) (fun _ => 0) (fun _ => 0) (fun _ => 0) 0 0 0) t) (va_A (w0X0 h) sz)) 6 44 (va_A (w0X0 h) sz) := by
  refine Met.ofW (cc := cX0_init) (maxL := 1) (ret := none) (by decide) rfl ?_
  intro p e s m args below meth c s₁ B hml hv
  obtain ⟨rfl, hsz, hP, hK, hD0⟩ := hv
  have hx := B.exec
  have hb := B.bytes
  have hr := B.returns
  have hts := atoms_spec (ws := ws_ yX0_init cX0_init 1 none) B.pre
  have hts : ∀ w ∈ lw_all, w.before _ s = true := fun w h => hts w (List.mem_cons_of_mem _ h)
  have hown : s.vm.findClass RX0 = some m.cls := findClass_of_methodNamed B.named
  have hlocks := B.notSynchronized
  have hin : meth.name = "<init>" := (name_of_methodNamed B.named B.method).1
  subst hsz
  have hD := hD0.self (sz := s.heap.size)
  generalize hAe : va_A (w0X0 h) s.heap.size = A at hD ⊢
  have hA : ∀ q : Nat, s.heap.size ≤ q → A q := fun q h => by rw [← hAe]; exact Or.inr h
  have hS : va_S A s.heap s.heap [] := va_S.rf
  have hP : va_P D ip_cl [(h, .inr (0, [.null, .null, .null, .null, .null, .null, .int 0, .int 0, .int 0]))] s.heap := hP
  have hD : va_D A [(h, .inr (0, [.null, .null, .null, .null, .null, .null, .int 0, .int 0, .int 0]))] := hD
  have hl := lv_entry ([.ref h]) (n := 1) (Nat.le_of_ble_eq_true rfl)
  rw [lg_entry_eq]
  generalize (lg_sl ([.ref h]) ++ List.replicate (1 - (lg_sl ([.ref h])).length) Slot.unset).toArray = ls at hl ⊢
  have hl : lv_has ls 1 [(0, .ref h)] := hl
  refine lv_aload_n hx hb dX0_init_0 rfl (lv_at hl 0 rfl) ?_
  refine W.objInit hx hb hown (hts _ q26) (hts _ q27) (hts _ q28) rfl (by rw [hml]; exact hl.1) rfl dX0_init_1 (Nat.le_of_ble_eq_true rfl) (Nat.le_of_ble_eq_true rfl) ?_
  refine W.eq (g2 := F0 m 4 ls []) rfl ?_
  refine lv_aload_n hx hb dX0_init_4 rfl (lv_at hl 0 rfl) ?_
  refine lv_bipush (v := nI 8) hx hb dX0_init_5 (by decide) ?_
  refine va_newa (atype := .int) (ty := .int) (a0 := (8, .inl (fun _ => nI 0))) (N' := 8) hx hb (hts _ q57) rfl hK hP hD hS hA (fun _ => rfl) (by decide) (by decide) (by decide) (Nat.le_of_ble_eq_true rfl) (Nat.le_of_ble_eq_true rfl) dX0_init_7 (fun q1 c1 H hK hP hD hS => ?_)
  have hK : va_K D ip_cl [(c1, .int)] s := hK
  have hP : va_P D ip_cl [(h, .inr (0, [.null, .null, .null, .null, .null, .null, .int 0, .int 0, .int 0])), (q1, .inl (c1, 8, .inl (fun _ => nI 0)))] H := hP
  have hD : va_D A [(h, .inr (0, [.null, .null, .null, .null, .null, .null, .int 0, .int 0, .int 0])), (q1, .inl (c1, 8, .inl (fun _ => nI 0)))] := hD
  refine va_putF (D := D) (ci := 0) (v := .ref q1) (ty := .array .int) (C := RX0) (T := TX0) (N := 9) hx hb hts in_X0 tyX0 tyX0_ok nmX0 hown hK hP hD hS 0 rfl rfl 0 (by decide) (hts _ q29) (fun _ h9 => h9) rfl hin rfl (by decide +kernel) rfl rfl (Nat.le_of_ble_eq_true rfl) dX0_init_9 (fun H locs hP hD hS => ?_)
  have hP : va_P D ip_cl [(h, .inr (0, [.ref q1, .null, .null, .null, .null, .null, .int 0, .int 0, .int 0])), (q1, .inl (c1, 8, .inl (fun _ => nI 0)))] H := hP
  have hD : va_D A [(h, .inr (0, [.ref q1, .null, .null, .null, .null, .null, .int 0, .int 0, .int 0])), (q1, .inl (c1, 8, .inl (fun _ => nI 0)))] := hD
  refine lv_aload_n hx hb dX0_init_12 rfl (lv_at hl 0 rfl) ?_
  refine lv_bipush (v := nI 8) hx hb dX0_init_13 (by decide) ?_
  refine va_newa (atype := .int) (ty := .int) (a0 := (8, .inl (fun _ => nI 0))) (N' := 8) hx hb (hts _ q57) rfl hK hP hD hS hA (fun _ => rfl) (by decide) (by decide) (by decide) (Nat.le_of_ble_eq_true rfl) (Nat.le_of_ble_eq_true rfl) dX0_init_15 (fun q2 c2 H hK hP hD hS => ?_)
  have ec : c2 = c1 := ip_one_d (hK.sub (tys' := [(c2, .int)]) [1] rfl) (hK.sub (tys' := [(c1, .int)]) [0] rfl)
  rw [ec] at hP hD
  have hK := hK.sub (tys' := [(c1, .int)]) [0] rfl
  have hP : va_P D ip_cl [(h, .inr (0, [.ref q1, .null, .null, .null, .null, .null, .int 0, .int 0, .int 0])), (q1, .inl (c1, 8, .inl (fun _ => nI 0))), (q2, .inl (c1, 8, .inl (fun _ => nI 0)))] H := hP
  have hD : va_D A [(h, .inr (0, [.ref q1, .null, .null, .null, .null, .null, .int 0, .int 0, .int 0])), (q1, .inl (c1, 8, .inl (fun _ => nI 0))), (q2, .inl (c1, 8, .inl (fun _ => nI 0)))] := hD
  refine va_putF (D := D) (ci := 0) (v := .ref q2) (ty := .array .int) (C := RX0) (T := TX0) (N := 9) hx hb hts in_X0 tyX0 tyX0_ok nmX0 hown hK hP hD hS 0 rfl rfl 1 (by decide) (hts _ q30) (fun _ h9 => h9) rfl hin rfl (by decide +kernel) rfl rfl (Nat.le_of_ble_eq_true rfl) dX0_init_17 (fun H locs hP hD hS => ?_)
  have hP : va_P D ip_cl [(h, .inr (0, [.ref q1, .ref q2, .null, .null, .null, .null, .int 0, .int 0, .int 0])), (q1, .inl (c1, 8, .inl (fun _ => nI 0))), (q2, .inl (c1, 8, .inl (fun _ => nI 0)))] H := hP
  have hD : va_D A [(h, .inr (0, [.ref q1, .ref q2, .null, .null, .null, .null, .int 0, .int 0, .int 0])), (q1, .inl (c1, 8, .inl (fun _ => nI 0))), (q2, .inl (c1, 8, .inl (fun _ => nI 0)))] := hD
  refine lv_aload_n hx hb dX0_init_20 rfl (lv_at hl 0 rfl) ?_
  refine lv_iconst (v := nI 4) hx hb dX0_init_21 (by decide) ?_
  refine va_newa (atype := .int) (ty := .int) (a0 := (4, .inl (fun _ => nI 0))) (N' := 4) hx hb (hts _ q57) rfl hK hP hD hS hA (fun _ => rfl) (by decide) (by decide) (by decide) (Nat.le_of_ble_eq_true rfl) (Nat.le_of_ble_eq_true rfl) dX0_init_22 (fun q3 c3 H hK hP hD hS => ?_)
  have ec : c3 = c1 := ip_one_d (hK.sub (tys' := [(c3, .int)]) [1] rfl) (hK.sub (tys' := [(c1, .int)]) [0] rfl)
  rw [ec] at hP hD
  have hK := hK.sub (tys' := [(c1, .int)]) [0] rfl
  have hP : va_P D ip_cl [(h, .inr (0, [.ref q1, .ref q2, .null, .null, .null, .null, .int 0, .int 0, .int 0])), (q1, .inl (c1, 8, .inl (fun _ => nI 0))), (q2, .inl (c1, 8, .inl (fun _ => nI 0))), (q3, .inl (c1, 4, .inl (fun _ => nI 0)))] H := hP
  have hD : va_D A [(h, .inr (0, [.ref q1, .ref q2, .null, .null, .null, .null, .int 0, .int 0, .int 0])), (q1, .inl (c1, 8, .inl (fun _ => nI 0))), (q2, .inl (c1, 8, .inl (fun _ => nI 0))), (q3, .inl (c1, 4, .inl (fun _ => nI 0)))] := hD
  refine va_putF (D := D) (ci := 0) (v := .ref q3) (ty := .array .int) (C := RX0) (T := TX0) (N := 9) hx hb hts in_X0 tyX0 tyX0_ok nmX0 hown hK hP hD hS 0 rfl rfl 2 (by decide) (hts _ q31) (fun _ h9 => h9) rfl hin rfl (by decide +kernel) rfl rfl (Nat.le_of_ble_eq_true rfl) dX0_init_24 (fun H locs hP hD hS => ?_)
  have hP : va_P D ip_cl [(h, .inr (0, [.ref q1, .ref q2, .ref q3, .null, .null, .null, .int 0, .int 0, .int 0])), (q1, .inl (c1, 8, .inl (fun _ => nI 0))), (q2, .inl (c1, 8, .inl (fun _ => nI 0))), (q3, .inl (c1, 4, .inl (fun _ => nI 0)))] H := hP
  have hD : va_D A [(h, .inr (0, [.ref q1, .ref q2, .ref q3, .null, .null, .null, .int 0, .int 0, .int 0])), (q1, .inl (c1, 8, .inl (fun _ => nI 0))), (q2, .inl (c1, 8, .inl (fun _ => nI 0))), (q3, .inl (c1, 4, .inl (fun _ => nI 0)))] := hD
  refine lv_aload_n hx hb dX0_init_27 rfl (lv_at hl 0 rfl) ?_
  refine lv_bipush (v := nI 8) hx hb dX0_init_28 (by decide) ?_
  refine va_newa (atype := .int) (ty := .int) (a0 := (8, .inl (fun _ => nI 0))) (N' := 8) hx hb (hts _ q57) rfl hK hP hD hS hA (fun _ => rfl) (by decide) (by decide) (by decide) (Nat.le_of_ble_eq_true rfl) (Nat.le_of_ble_eq_true rfl) dX0_init_30 (fun q4 c4 H hK hP hD hS => ?_)
  have ec : c4 = c1 := ip_one_d (hK.sub (tys' := [(c4, .int)]) [1] rfl) (hK.sub (tys' := [(c1, .int)]) [0] rfl)
  rw [ec] at hP hD
  have hK := hK.sub (tys' := [(c1, .int)]) [0] rfl
  have hP : va_P D ip_cl [(h, .inr (0, [.ref q1, .ref q2, .ref q3, .null, .null, .null, .int 0, .int 0, .int 0])), (q1, .inl (c1, 8, .inl (fun _ => nI 0))), (q2, .inl (c1, 8, .inl (fun _ => nI 0))), (q3, .inl (c1, 4, .inl (fun _ => nI 0))), (q4, .inl (c1, 8, .inl (fun _ => nI 0)))] H := hP
  have hD : va_D A [(h, .inr (0, [.ref q1, .ref q2, .ref q3, .null, .null, .null, .int 0, .int 0, .int 0])), (q1, .inl (c1, 8, .inl (fun _ => nI 0))), (q2, .inl (c1, 8, .inl (fun _ => nI 0))), (q3, .inl (c1, 4, .inl (fun _ => nI 0))), (q4, .inl (c1, 8, .inl (fun _ => nI 0)))] := hD
  refine va_putF (D := D) (ci := 0) (v := .ref q4) (ty := .array .int) (C := RX0) (T := TX0) (N := 9) hx hb hts in_X0 tyX0 tyX0_ok nmX0 hown hK hP hD hS 0 rfl rfl 3 (by decide) (hts _ q32) (fun _ h9 => h9) rfl hin rfl (by decide +kernel) rfl rfl (Nat.le_of_ble_eq_true rfl) dX0_init_32 (fun H locs hP hD hS => ?_)
  have hP : va_P D ip_cl [(h, .inr (0, [.ref q1, .ref q2, .ref q3, .ref q4, .null, .null, .int 0, .int 0, .int 0])), (q1, .inl (c1, 8, .inl (fun _ => nI 0))), (q2, .inl (c1, 8, .inl (fun _ => nI 0))), (q3, .inl (c1, 4, .inl (fun _ => nI 0))), (q4, .inl (c1, 8, .inl (fun _ => nI 0)))] H := hP
  have hD : va_D A [(h, .inr (0, [.ref q1, .ref q2, .ref q3, .ref q4, .null, .null, .int 0, .int 0, .int 0])), (q1, .inl (c1, 8, .inl (fun _ => nI 0))), (q2, .inl (c1, 8, .inl (fun _ => nI 0))), (q3, .inl (c1, 4, .inl (fun _ => nI 0))), (q4, .inl (c1, 8, .inl (fun _ => nI 0)))] := hD
  refine lv_aload_n hx hb dX0_init_35 rfl (lv_at hl 0 rfl) ?_
  refine lv_bipush (v := nI 8) hx hb dX0_init_36 (by decide) ?_
  refine va_newa (atype := .int) (ty := .int) (a0 := (8, .inl (fun _ => nI 0))) (N' := 8) hx hb (hts _ q57) rfl hK hP hD hS hA (fun _ => rfl) (by decide) (by decide) (by decide) (Nat.le_of_ble_eq_true rfl) (Nat.le_of_ble_eq_true rfl) dX0_init_38 (fun q5 c5 H hK hP hD hS => ?_)
  have ec : c5 = c1 := ip_one_d (hK.sub (tys' := [(c5, .int)]) [1] rfl) (hK.sub (tys' := [(c1, .int)]) [0] rfl)
  rw [ec] at hP hD
  have hK := hK.sub (tys' := [(c1, .int)]) [0] rfl
  have hP : va_P D ip_cl [(h, .inr (0, [.ref q1, .ref q2, .ref q3, .ref q4, .null, .null, .int 0, .int 0, .int 0])), (q1, .inl (c1, 8, .inl (fun _ => nI 0))), (q2, .inl (c1, 8, .inl (fun _ => nI 0))), (q3, .inl (c1, 4, .inl (fun _ => nI 0))), (q4, .inl (c1, 8, .inl (fun _ => nI 0))), (q5, .inl (c1, 8, .inl (fun _ => nI 0)))] H := hP
  have hD : va_D A [(h, .inr (0, [.ref q1, .ref q2, .ref q3, .ref q4, .null, .null, .int 0, .int 0, .int 0])), (q1, .inl (c1, 8, .inl (fun _ => nI 0))), (q2, .inl (c1, 8, .inl (fun _ => nI 0))), (q3, .inl (c1, 4, .inl (fun _ => nI 0))), (q4, .inl (c1, 8, .inl (fun _ => nI 0))), (q5, .inl (c1, 8, .inl (fun _ => nI 0)))] := hD
  refine va_putF (D := D) (ci := 0) (v := .ref q5) (ty := .array .int) (C := RX0) (T := TX0) (N := 9) hx hb hts in_X0 tyX0 tyX0_ok nmX0 hown hK hP hD hS 0 rfl rfl 4 (by decide) (hts _ q33) (fun _ h9 => h9) rfl hin rfl (by decide +kernel) rfl rfl (Nat.le_of_ble_eq_true rfl) dX0_init_40 (fun H locs hP hD hS => ?_)
  have hP : va_P D ip_cl [(h, .inr (0, [.ref q1, .ref q2, .ref q3, .ref q4, .ref q5, .null, .int 0, .int 0, .int 0])), (q1, .inl (c1, 8, .inl (fun _ => nI 0))), (q2, .inl (c1, 8, .inl (fun _ => nI 0))), (q3, .inl (c1, 4, .inl (fun _ => nI 0))), (q4, .inl (c1, 8, .inl (fun _ => nI 0))), (q5, .inl (c1, 8, .inl (fun _ => nI 0)))] H := hP
  have hD : va_D A [(h, .inr (0, [.ref q1, .ref q2, .ref q3, .ref q4, .ref q5, .null, .int 0, .int 0, .int 0])), (q1, .inl (c1, 8, .inl (fun _ => nI 0))), (q2, .inl (c1, 8, .inl (fun _ => nI 0))), (q3, .inl (c1, 4, .inl (fun _ => nI 0))), (q4, .inl (c1, 8, .inl (fun _ => nI 0))), (q5, .inl (c1, 8, .inl (fun _ => nI 0)))] := hD
  refine lv_aload_n hx hb dX0_init_43 rfl (lv_at hl 0 rfl) ?_
  refine lv_bipush (v := nI 8) hx hb dX0_init_44 (by decide) ?_
  refine va_newa (atype := .int) (ty := .int) (a0 := (8, .inl (fun _ => nI 0))) (N' := 8) hx hb (hts _ q57) rfl hK hP hD hS hA (fun _ => rfl) (by decide) (by decide) (by decide) (Nat.le_of_ble_eq_true rfl) (Nat.le_of_ble_eq_true rfl) dX0_init_46 (fun q6 c6 H hK hP hD hS => ?_)
  have ec : c6 = c1 := ip_one_d (hK.sub (tys' := [(c6, .int)]) [1] rfl) (hK.sub (tys' := [(c1, .int)]) [0] rfl)
  rw [ec] at hP hD
  have hK := hK.sub (tys' := [(c1, .int)]) [0] rfl
  have hP : va_P D ip_cl [(h, .inr (0, [.ref q1, .ref q2, .ref q3, .ref q4, .ref q5, .null, .int 0, .int 0, .int 0])), (q1, .inl (c1, 8, .inl (fun _ => nI 0))), (q2, .inl (c1, 8, .inl (fun _ => nI 0))), (q3, .inl (c1, 4, .inl (fun _ => nI 0))), (q4, .inl (c1, 8, .inl (fun _ => nI 0))), (q5, .inl (c1, 8, .inl (fun _ => nI 0))), (q6, .inl (c1, 8, .inl (fun _ => nI 0)))] H := hP
  have hD : va_D A [(h, .inr (0, [.ref q1, .ref q2, .ref q3, .ref q4, .ref q5, .null, .int 0, .int 0, .int 0])), (q1, .inl (c1, 8, .inl (fun _ => nI 0))), (q2, .inl (c1, 8, .inl (fun _ => nI 0))), (q3, .inl (c1, 4, .inl (fun _ => nI 0))), (q4, .inl (c1, 8, .inl (fun _ => nI 0))), (q5, .inl (c1, 8, .inl (fun _ => nI 0))), (q6, .inl (c1, 8, .inl (fun _ => nI 0)))] := hD
  refine va_putF (D := D) (ci := 0) (v := .ref q6) (ty := .array .int) (C := RX0) (T := TX0) (N := 9) hx hb hts in_X0 tyX0 tyX0_ok nmX0 hown hK hP hD hS 0 rfl rfl 5 (by decide) (hts _ q34) (fun _ h9 => h9) rfl hin rfl (by decide +kernel) rfl rfl (Nat.le_of_ble_eq_true rfl) dX0_init_48 (fun H locs hP hD hS => ?_)
  have hP : va_P D ip_cl [(h, .inr (0, [.ref q1, .ref q2, .ref q3, .ref q4, .ref q5, .ref q6, .int 0, .int 0, .int 0])), (q1, .inl (c1, 8, .inl (fun _ => nI 0))), (q2, .inl (c1, 8, .inl (fun _ => nI 0))), (q3, .inl (c1, 4, .inl (fun _ => nI 0))), (q4, .inl (c1, 8, .inl (fun _ => nI 0))), (q5, .inl (c1, 8, .inl (fun _ => nI 0))), (q6, .inl (c1, 8, .inl (fun _ => nI 0)))] H := hP
  have hD : va_D A [(h, .inr (0, [.ref q1, .ref q2, .ref q3, .ref q4, .ref q5, .ref q6, .int 0, .int 0, .int 0])), (q1, .inl (c1, 8, .inl (fun _ => nI 0))), (q2, .inl (c1, 8, .inl (fun _ => nI 0))), (q3, .inl (c1, 4, .inl (fun _ => nI 0))), (q4, .inl (c1, 8, .inl (fun _ => nI 0))), (q5, .inl (c1, 8, .inl (fun _ => nI 0))), (q6, .inl (c1, 8, .inl (fun _ => nI 0)))] := hD
  refine lv_aload_n hx hb dX0_init_51 rfl (lv_at hl 0 rfl) ?_
  refine lv_iconst (v := nI 0) hx hb dX0_init_52 (by decide) ?_
  refine va_put (D := D) (ci := 0) (v := .int (nI 0)) (ty := .int) (C := RX0) (T := TX0) (N := 9) hx hb hts in_X0 tyX0 tyX0_ok nmX0 hown hK hP hD hS 0 rfl rfl 6 (by decide) (hts _ q35) (fun _ h9 => h9) rfl (by decide +kernel) rfl rfl (Nat.le_of_ble_eq_true rfl) dX0_init_53 (fun H locs hP hD hS => ?_)
  have hP : va_P D ip_cl [(h, .inr (0, [.ref q1, .ref q2, .ref q3, .ref q4, .ref q5, .ref q6, .int (nI 0), .int 0, .int 0])), (q1, .inl (c1, 8, .inl (fun _ => nI 0))), (q2, .inl (c1, 8, .inl (fun _ => nI 0))), (q3, .inl (c1, 4, .inl (fun _ => nI 0))), (q4, .inl (c1, 8, .inl (fun _ => nI 0))), (q5, .inl (c1, 8, .inl (fun _ => nI 0))), (q6, .inl (c1, 8, .inl (fun _ => nI 0)))] H := hP
  have hD : va_D A [(h, .inr (0, [.ref q1, .ref q2, .ref q3, .ref q4, .ref q5, .ref q6, .int (nI 0), .int 0, .int 0])), (q1, .inl (c1, 8, .inl (fun _ => nI 0))), (q2, .inl (c1, 8, .inl (fun _ => nI 0))), (q3, .inl (c1, 4, .inl (fun _ => nI 0))), (q4, .inl (c1, 8, .inl (fun _ => nI 0))), (q5, .inl (c1, 8, .inl (fun _ => nI 0))), (q6, .inl (c1, 8, .inl (fun _ => nI 0)))] := hD
  refine W.widen (k := 6) (n := 44) (Nat.le_of_ble_eq_true rfl) (Nat.le_of_ble_eq_true rfl) ?_
  exact W.vret hx hb hr (fun t ht hW => ⟨⟨((fun k => match k with | 0 => h | 1 => q1 | 2 => q2 | 3 => q3 | 4 => q4 | 5 => q5 | _ => q6), c1), rfl, rfl, by rw [ht]; exact hP, va_K.moved hW.alike hK, hD⟩, hS.F ht⟩) hS.2.2 dX0_init_56
abbrev rmX1_init : Room := { frames := 1, cells := 4, slots := 28, locals := 12 }
abbrev w0X1 (h : Nat) : va_W := [(h, .inr (1, [.int 0, .null, .null, .null, .int 0, .null]))]
set_option maxHeartbeats 4000000 in
set_option maxRecDepth 100000 in
theorem kX1_init (l : Launch) (D : va_G) (h : Nat) (sz : Nat) : Met l yX1_init (ws_ yX1_init cX1_init 1 none) rmX1_init (va_Pc [.ref h] (fun U => U.heap.size = sz ∧ va_P D ip_cl (w0X1 h) U.heap ∧ va_K D ip_cl [] U ∧ va_D (fun _ => True) (w0X1 h)))
    (va_Qv (fun u : (Nat → Nat) × ClassId => u.1 0 = h) (fun u t => ip_B D u.2 (va_A (w0X1 h) sz) (mw u.1 u.2 (fun _ => 0) (fun _ => 0) (fun _ => 0) (fun _ => 0) 0 0) t) (va_A (w0X1 h) sz)) 4 28 (va_A (w0X1 h) sz) := by
  refine Met.ofW (cc := cX1_init) (maxL := 1) (ret := none) (by decide) rfl ?_
  intro p e s m args below meth c s₁ B hml hv
  obtain ⟨rfl, hsz, hP, hK, hD0⟩ := hv
  have hx := B.exec
  have hb := B.bytes
  have hr := B.returns
  have hts := atoms_spec (ws := ws_ yX1_init cX1_init 1 none) B.pre
  have hts : ∀ w ∈ lw_all, w.before _ s = true := fun w h => hts w (List.mem_cons_of_mem _ h)
  have hown : s.vm.findClass RX1 = some m.cls := findClass_of_methodNamed B.named
  have hlocks := B.notSynchronized
  have hin : meth.name = "<init>" := (name_of_methodNamed B.named B.method).1
  subst hsz
  have hD := hD0.self (sz := s.heap.size)
  generalize hAe : va_A (w0X1 h) s.heap.size = A at hD ⊢
  have hA : ∀ q : Nat, s.heap.size ≤ q → A q := fun q h => by rw [← hAe]; exact Or.inr h
  have hS : va_S A s.heap s.heap [] := va_S.rf
  have hP : va_P D ip_cl [(h, .inr (1, [.int 0, .null, .null, .null, .int 0, .null]))] s.heap := hP
  have hD : va_D A [(h, .inr (1, [.int 0, .null, .null, .null, .int 0, .null]))] := hD
  have hl := lv_entry ([.ref h]) (n := 1) (Nat.le_of_ble_eq_true rfl)
  rw [lg_entry_eq]
  generalize (lg_sl ([.ref h]) ++ List.replicate (1 - (lg_sl ([.ref h])).length) Slot.unset).toArray = ls at hl ⊢
  have hl : lv_has ls 1 [(0, .ref h)] := hl
  refine lv_aload_n hx hb dX1_init_0 rfl (lv_at hl 0 rfl) ?_
  refine W.objInit hx hb hown (hts _ q185) (hts _ q27) (hts _ q28) rfl (by rw [hml]; exact hl.1) rfl dX1_init_1 (Nat.le_of_ble_eq_true rfl) (Nat.le_of_ble_eq_true rfl) ?_
  refine W.eq (g2 := F0 m 4 ls []) rfl ?_
  refine lv_aload_n hx hb dX1_init_4 rfl (lv_at hl 0 rfl) ?_
  refine lv_bipush (v := nI 8) hx hb dX1_init_5 (by decide) ?_
  refine va_newa (atype := .int) (ty := .int) (a0 := (8, .inl (fun _ => nI 0))) (N' := 8) hx hb (hts _ q57) rfl hK hP hD hS hA (fun _ => rfl) (by decide) (by decide) (by decide) (Nat.le_of_ble_eq_true rfl) (Nat.le_of_ble_eq_true rfl) dX1_init_7 (fun q1 c1 H hK hP hD hS => ?_)
  have hK : va_K D ip_cl [(c1, .int)] s := hK
  have hP : va_P D ip_cl [(h, .inr (1, [.int 0, .null, .null, .null, .int 0, .null])), (q1, .inl (c1, 8, .inl (fun _ => nI 0)))] H := hP
  have hD : va_D A [(h, .inr (1, [.int 0, .null, .null, .null, .int 0, .null])), (q1, .inl (c1, 8, .inl (fun _ => nI 0)))] := hD
  refine va_put (D := D) (ci := 1) (v := .ref q1) (ty := .array .int) (C := RX1) (T := TX1) (N := 6) hx hb hts in_X1 tyX1 tyX1_ok nmX1 hown hK hP hD hS 0 rfl rfl 1 (by decide) (hts _ q187) (fun _ h9 => h9) rfl (by decide +kernel) rfl rfl (Nat.le_of_ble_eq_true rfl) dX1_init_9 (fun H locs hP hD hS => ?_)
  have hP : va_P D ip_cl [(h, .inr (1, [.int 0, .ref q1, .null, .null, .int 0, .null])), (q1, .inl (c1, 8, .inl (fun _ => nI 0)))] H := hP
  have hD : va_D A [(h, .inr (1, [.int 0, .ref q1, .null, .null, .int 0, .null])), (q1, .inl (c1, 8, .inl (fun _ => nI 0)))] := hD
  refine lv_aload_n hx hb dX1_init_12 rfl (lv_at hl 0 rfl) ?_
  refine lv_bipush (v := nI 8) hx hb dX1_init_13 (by decide) ?_
  refine va_newa (atype := .int) (ty := .int) (a0 := (8, .inl (fun _ => nI 0))) (N' := 8) hx hb (hts _ q57) rfl hK hP hD hS hA (fun _ => rfl) (by decide) (by decide) (by decide) (Nat.le_of_ble_eq_true rfl) (Nat.le_of_ble_eq_true rfl) dX1_init_15 (fun q2 c2 H hK hP hD hS => ?_)
  have ec : c2 = c1 := ip_one_d (hK.sub (tys' := [(c2, .int)]) [1] rfl) (hK.sub (tys' := [(c1, .int)]) [0] rfl)
  rw [ec] at hP hD
  have hK := hK.sub (tys' := [(c1, .int)]) [0] rfl
  have hP : va_P D ip_cl [(h, .inr (1, [.int 0, .ref q1, .null, .null, .int 0, .null])), (q1, .inl (c1, 8, .inl (fun _ => nI 0))), (q2, .inl (c1, 8, .inl (fun _ => nI 0)))] H := hP
  have hD : va_D A [(h, .inr (1, [.int 0, .ref q1, .null, .null, .int 0, .null])), (q1, .inl (c1, 8, .inl (fun _ => nI 0))), (q2, .inl (c1, 8, .inl (fun _ => nI 0)))] := hD
  refine va_put (D := D) (ci := 1) (v := .ref q2) (ty := .array .int) (C := RX1) (T := TX1) (N := 6) hx hb hts in_X1 tyX1 tyX1_ok nmX1 hown hK hP hD hS 0 rfl rfl 2 (by decide) (hts _ q188) (fun _ h9 => h9) rfl (by decide +kernel) rfl rfl (Nat.le_of_ble_eq_true rfl) dX1_init_17 (fun H locs hP hD hS => ?_)
  have hP : va_P D ip_cl [(h, .inr (1, [.int 0, .ref q1, .ref q2, .null, .int 0, .null])), (q1, .inl (c1, 8, .inl (fun _ => nI 0))), (q2, .inl (c1, 8, .inl (fun _ => nI 0)))] H := hP
  have hD : va_D A [(h, .inr (1, [.int 0, .ref q1, .ref q2, .null, .int 0, .null])), (q1, .inl (c1, 8, .inl (fun _ => nI 0))), (q2, .inl (c1, 8, .inl (fun _ => nI 0)))] := hD
  refine lv_aload_n hx hb dX1_init_20 rfl (lv_at hl 0 rfl) ?_
  refine lv_iconst (v := nI 4) hx hb dX1_init_21 (by decide) ?_
  refine va_newa (atype := .int) (ty := .int) (a0 := (4, .inl (fun _ => nI 0))) (N' := 4) hx hb (hts _ q57) rfl hK hP hD hS hA (fun _ => rfl) (by decide) (by decide) (by decide) (Nat.le_of_ble_eq_true rfl) (Nat.le_of_ble_eq_true rfl) dX1_init_22 (fun q3 c3 H hK hP hD hS => ?_)
  have ec : c3 = c1 := ip_one_d (hK.sub (tys' := [(c3, .int)]) [1] rfl) (hK.sub (tys' := [(c1, .int)]) [0] rfl)
  rw [ec] at hP hD
  have hK := hK.sub (tys' := [(c1, .int)]) [0] rfl
  have hP : va_P D ip_cl [(h, .inr (1, [.int 0, .ref q1, .ref q2, .null, .int 0, .null])), (q1, .inl (c1, 8, .inl (fun _ => nI 0))), (q2, .inl (c1, 8, .inl (fun _ => nI 0))), (q3, .inl (c1, 4, .inl (fun _ => nI 0)))] H := hP
  have hD : va_D A [(h, .inr (1, [.int 0, .ref q1, .ref q2, .null, .int 0, .null])), (q1, .inl (c1, 8, .inl (fun _ => nI 0))), (q2, .inl (c1, 8, .inl (fun _ => nI 0))), (q3, .inl (c1, 4, .inl (fun _ => nI 0)))] := hD
  refine va_put (D := D) (ci := 1) (v := .ref q3) (ty := .array .int) (C := RX1) (T := TX1) (N := 6) hx hb hts in_X1 tyX1 tyX1_ok nmX1 hown hK hP hD hS 0 rfl rfl 3 (by decide) (hts _ q189) (fun _ h9 => h9) rfl (by decide +kernel) rfl rfl (Nat.le_of_ble_eq_true rfl) dX1_init_24 (fun H locs hP hD hS => ?_)
  have hP : va_P D ip_cl [(h, .inr (1, [.int 0, .ref q1, .ref q2, .ref q3, .int 0, .null])), (q1, .inl (c1, 8, .inl (fun _ => nI 0))), (q2, .inl (c1, 8, .inl (fun _ => nI 0))), (q3, .inl (c1, 4, .inl (fun _ => nI 0)))] H := hP
  have hD : va_D A [(h, .inr (1, [.int 0, .ref q1, .ref q2, .ref q3, .int 0, .null])), (q1, .inl (c1, 8, .inl (fun _ => nI 0))), (q2, .inl (c1, 8, .inl (fun _ => nI 0))), (q3, .inl (c1, 4, .inl (fun _ => nI 0)))] := hD
  refine lv_aload_n hx hb dX1_init_27 rfl (lv_at hl 0 rfl) ?_
  refine lv_bipush (v := nI 8) hx hb dX1_init_28 (by decide) ?_
  refine va_newa (atype := .int) (ty := .int) (a0 := (8, .inl (fun _ => nI 0))) (N' := 8) hx hb (hts _ q57) rfl hK hP hD hS hA (fun _ => rfl) (by decide) (by decide) (by decide) (Nat.le_of_ble_eq_true rfl) (Nat.le_of_ble_eq_true rfl) dX1_init_30 (fun q4 c4 H hK hP hD hS => ?_)
  have ec : c4 = c1 := ip_one_d (hK.sub (tys' := [(c4, .int)]) [1] rfl) (hK.sub (tys' := [(c1, .int)]) [0] rfl)
  rw [ec] at hP hD
  have hK := hK.sub (tys' := [(c1, .int)]) [0] rfl
  have hP : va_P D ip_cl [(h, .inr (1, [.int 0, .ref q1, .ref q2, .ref q3, .int 0, .null])), (q1, .inl (c1, 8, .inl (fun _ => nI 0))), (q2, .inl (c1, 8, .inl (fun _ => nI 0))), (q3, .inl (c1, 4, .inl (fun _ => nI 0))), (q4, .inl (c1, 8, .inl (fun _ => nI 0)))] H := hP
  have hD : va_D A [(h, .inr (1, [.int 0, .ref q1, .ref q2, .ref q3, .int 0, .null])), (q1, .inl (c1, 8, .inl (fun _ => nI 0))), (q2, .inl (c1, 8, .inl (fun _ => nI 0))), (q3, .inl (c1, 4, .inl (fun _ => nI 0))), (q4, .inl (c1, 8, .inl (fun _ => nI 0)))] := hD
  refine va_put (D := D) (ci := 1) (v := .ref q4) (ty := .array .int) (C := RX1) (T := TX1) (N := 6) hx hb hts in_X1 tyX1 tyX1_ok nmX1 hown hK hP hD hS 0 rfl rfl 5 (by decide) (hts _ q191) (fun _ h9 => h9) rfl (by decide +kernel) rfl rfl (Nat.le_of_ble_eq_true rfl) dX1_init_32 (fun H locs hP hD hS => ?_)
  have hP : va_P D ip_cl [(h, .inr (1, [.int 0, .ref q1, .ref q2, .ref q3, .int 0, .ref q4])), (q1, .inl (c1, 8, .inl (fun _ => nI 0))), (q2, .inl (c1, 8, .inl (fun _ => nI 0))), (q3, .inl (c1, 4, .inl (fun _ => nI 0))), (q4, .inl (c1, 8, .inl (fun _ => nI 0)))] H := hP
  have hD : va_D A [(h, .inr (1, [.int 0, .ref q1, .ref q2, .ref q3, .int 0, .ref q4])), (q1, .inl (c1, 8, .inl (fun _ => nI 0))), (q2, .inl (c1, 8, .inl (fun _ => nI 0))), (q3, .inl (c1, 4, .inl (fun _ => nI 0))), (q4, .inl (c1, 8, .inl (fun _ => nI 0)))] := hD
  refine W.widen (k := 4) (n := 28) (Nat.le_of_ble_eq_true rfl) (Nat.le_of_ble_eq_true rfl) ?_
  exact W.vret hx hb hr (fun t ht hW => ⟨⟨((fun k => match k with | 0 => h | 1 => q1 | 2 => q2 | 3 => q3 | _ => q4), c1), rfl, rfl, by rw [ht]; exact hP, va_K.moved hW.alike hK, hD⟩, hS.F ht⟩) hS.2.2 dX1_init_35
end
section
/-! ===== decode rows of the law; printed by gen_init.py ===== -/
set_option maxRecDepth 100000
theorem d_law_0 : decode code 0 = .ok (.new 7, 3) := by decide +kernel
theorem d_law_3 : decode code 3 = .ok (.dup, 1) := by decide +kernel
theorem d_law_4 : decode code 4 = .ok (.invokespecial 9, 3) := by decide +kernel
theorem d_law_7 : decode code 7 = .ok (.astore_n 1, 1) := by decide +kernel
theorem d_law_8 : decode code 8 = .ok (.new 10, 3) := by decide +kernel
theorem d_law_11 : decode code 11 = .ok (.dup, 1) := by decide +kernel
theorem d_law_12 : decode code 12 = .ok (.invokespecial 12, 3) := by decide +kernel
theorem d_law_15 : decode code 15 = .ok (.astore_n 2, 1) := by decide +kernel
theorem d_law_16 : decode code 16 = .ok (.iconst 0, 1) := by decide +kernel
theorem d_law_17 : decode code 17 = .ok (.istore_n 3, 1) := by decide +kernel
theorem d_law_18 : decode code 18 = .ok (.iload_n 3, 1) := by decide +kernel
theorem d_law_19 : decode code 19 = .ok (.aload_n 0, 1) := by decide +kernel
theorem d_law_20 : decode code 20 = .ok (.arraylength, 1) := by decide +kernel
theorem d_law_21 : decode code 21 = .ok (.iconst 3, 1) := by decide +kernel
theorem d_law_22 : decode code 22 = .ok (.isub, 1) := by decide +kernel
theorem d_law_23 : decode code 23 = .ok (.if_icmp .gt 537, 3) := by decide +kernel
theorem d_law_26 : decode code 26 = .ok (.aload_n 0, 1) := by decide +kernel
theorem d_law_27 : decode code 27 = .ok (.iload_n 3, 1) := by decide +kernel
theorem d_law_28 : decode code 28 = .ok (.iaload, 1) := by decide +kernel
theorem d_law_29 : decode code 29 = .ok (.bipush 31, 2) := by decide +kernel
theorem d_law_31 : decode code 31 = .ok (.iand, 1) := by decide +kernel
theorem d_law_32 : decode code 32 = .ok (.tableswitch 522 0 17 #[88, 121, 144, 177, 210, 243, 266, 279, 302, 325, 358, 391, 424, 447, 470, 483, 496, 509], 88) := by decide +kernel
theorem d_law_120 : decode code 120 = .ok (.aload_n 1, 1) := by decide +kernel
theorem d_law_121 : decode code 121 = .ok (.aload_n 0, 1) := by decide +kernel
theorem d_law_122 : decode code 122 = .ok (.iload_n 3, 1) := by decide +kernel
theorem d_law_123 : decode code 123 = .ok (.iconst 1, 1) := by decide +kernel
theorem d_law_124 : decode code 124 = .ok (.iadd, 1) := by decide +kernel
theorem d_law_125 : decode code 125 = .ok (.iaload, 1) := by decide +kernel
theorem d_law_126 : decode code 126 = .ok (.aload_n 0, 1) := by decide +kernel
theorem d_law_127 : decode code 127 = .ok (.iload_n 3, 1) := by decide +kernel
theorem d_law_128 : decode code 128 = .ok (.iconst 2, 1) := by decide +kernel
theorem d_law_129 : decode code 129 = .ok (.iadd, 1) := by decide +kernel
theorem d_law_130 : decode code 130 = .ok (.iaload, 1) := by decide +kernel
theorem d_law_131 : decode code 131 = .ok (.invokevirtual 13, 3) := by decide +kernel
theorem d_law_134 : decode code 134 = .ok (.aload_n 2, 1) := by decide +kernel
theorem d_law_135 : decode code 135 = .ok (.aload_n 0, 1) := by decide +kernel
theorem d_law_136 : decode code 136 = .ok (.iload_n 3, 1) := by decide +kernel
theorem d_law_137 : decode code 137 = .ok (.iconst 1, 1) := by decide +kernel
theorem d_law_138 : decode code 138 = .ok (.iadd, 1) := by decide +kernel
theorem d_law_139 : decode code 139 = .ok (.iaload, 1) := by decide +kernel
theorem d_law_140 : decode code 140 = .ok (.aload_n 0, 1) := by decide +kernel
theorem d_law_141 : decode code 141 = .ok (.iload_n 3, 1) := by decide +kernel
theorem d_law_142 : decode code 142 = .ok (.iconst 2, 1) := by decide +kernel
theorem d_law_143 : decode code 143 = .ok (.iadd, 1) := by decide +kernel
theorem d_law_144 : decode code 144 = .ok (.iaload, 1) := by decide +kernel
theorem d_law_145 : decode code 145 = .ok (.invokevirtual 17, 3) := by decide +kernel
theorem d_law_148 : decode code 148 = .ok (.if_icmp .eq 406, 3) := by decide +kernel
theorem d_law_151 : decode code 151 = .ok (.iconst 0, 1) := by decide +kernel
theorem d_law_152 : decode code 152 = .ok (.ireturn, 1) := by decide +kernel
theorem d_law_153 : decode code 153 = .ok (.aload_n 1, 1) := by decide +kernel
theorem d_law_154 : decode code 154 = .ok (.aload_n 0, 1) := by decide +kernel
theorem d_law_155 : decode code 155 = .ok (.iload_n 3, 1) := by decide +kernel
theorem d_law_156 : decode code 156 = .ok (.iconst 1, 1) := by decide +kernel
theorem d_law_157 : decode code 157 = .ok (.iadd, 1) := by decide +kernel
theorem d_law_158 : decode code 158 = .ok (.iaload, 1) := by decide +kernel
theorem d_law_159 : decode code 159 = .ok (.invokevirtual 18, 3) := by decide +kernel
theorem d_law_162 : decode code 162 = .ok (.aload_n 2, 1) := by decide +kernel
theorem d_law_163 : decode code 163 = .ok (.aload_n 0, 1) := by decide +kernel
theorem d_law_164 : decode code 164 = .ok (.iload_n 3, 1) := by decide +kernel
theorem d_law_165 : decode code 165 = .ok (.iconst 1, 1) := by decide +kernel
end
section
/-! ===== decode rows of the law; printed by gen_init.py ===== -/
set_option maxRecDepth 100000
theorem d_law_166 : decode code 166 = .ok (.iadd, 1) := by decide +kernel
theorem d_law_167 : decode code 167 = .ok (.iaload, 1) := by decide +kernel
theorem d_law_168 : decode code 168 = .ok (.invokevirtual 22, 3) := by decide +kernel
theorem d_law_171 : decode code 171 = .ok (.if_icmp .eq 383, 3) := by decide +kernel
theorem d_law_174 : decode code 174 = .ok (.iconst 0, 1) := by decide +kernel
theorem d_law_175 : decode code 175 = .ok (.ireturn, 1) := by decide +kernel
theorem d_law_176 : decode code 176 = .ok (.aload_n 1, 1) := by decide +kernel
theorem d_law_177 : decode code 177 = .ok (.aload_n 0, 1) := by decide +kernel
theorem d_law_178 : decode code 178 = .ok (.iload_n 3, 1) := by decide +kernel
theorem d_law_179 : decode code 179 = .ok (.iconst 1, 1) := by decide +kernel
theorem d_law_180 : decode code 180 = .ok (.iadd, 1) := by decide +kernel
theorem d_law_181 : decode code 181 = .ok (.iaload, 1) := by decide +kernel
theorem d_law_182 : decode code 182 = .ok (.aload_n 0, 1) := by decide +kernel
theorem d_law_183 : decode code 183 = .ok (.iload_n 3, 1) := by decide +kernel
theorem d_law_184 : decode code 184 = .ok (.iconst 2, 1) := by decide +kernel
theorem d_law_185 : decode code 185 = .ok (.iadd, 1) := by decide +kernel
theorem d_law_186 : decode code 186 = .ok (.iaload, 1) := by decide +kernel
theorem d_law_187 : decode code 187 = .ok (.invokevirtual 23, 3) := by decide +kernel
theorem d_law_190 : decode code 190 = .ok (.aload_n 2, 1) := by decide +kernel
theorem d_law_191 : decode code 191 = .ok (.aload_n 0, 1) := by decide +kernel
theorem d_law_192 : decode code 192 = .ok (.iload_n 3, 1) := by decide +kernel
theorem d_law_193 : decode code 193 = .ok (.iconst 1, 1) := by decide +kernel
theorem d_law_194 : decode code 194 = .ok (.iadd, 1) := by decide +kernel
theorem d_law_195 : decode code 195 = .ok (.iaload, 1) := by decide +kernel
theorem d_law_196 : decode code 196 = .ok (.aload_n 0, 1) := by decide +kernel
theorem d_law_197 : decode code 197 = .ok (.iload_n 3, 1) := by decide +kernel
theorem d_law_198 : decode code 198 = .ok (.iconst 2, 1) := by decide +kernel
theorem d_law_199 : decode code 199 = .ok (.iadd, 1) := by decide +kernel
theorem d_law_200 : decode code 200 = .ok (.iaload, 1) := by decide +kernel
theorem d_law_201 : decode code 201 = .ok (.invokevirtual 26, 3) := by decide +kernel
theorem d_law_204 : decode code 204 = .ok (.if_icmp .eq 350, 3) := by decide +kernel
theorem d_law_207 : decode code 207 = .ok (.iconst 0, 1) := by decide +kernel
theorem d_law_208 : decode code 208 = .ok (.ireturn, 1) := by decide +kernel
theorem d_law_209 : decode code 209 = .ok (.aload_n 1, 1) := by decide +kernel
theorem d_law_210 : decode code 210 = .ok (.aload_n 0, 1) := by decide +kernel
theorem d_law_211 : decode code 211 = .ok (.iload_n 3, 1) := by decide +kernel
theorem d_law_212 : decode code 212 = .ok (.iconst 1, 1) := by decide +kernel
theorem d_law_213 : decode code 213 = .ok (.iadd, 1) := by decide +kernel
theorem d_law_214 : decode code 214 = .ok (.iaload, 1) := by decide +kernel
theorem d_law_215 : decode code 215 = .ok (.aload_n 0, 1) := by decide +kernel
theorem d_law_216 : decode code 216 = .ok (.iload_n 3, 1) := by decide +kernel
theorem d_law_217 : decode code 217 = .ok (.iconst 2, 1) := by decide +kernel
theorem d_law_218 : decode code 218 = .ok (.iadd, 1) := by decide +kernel
theorem d_law_219 : decode code 219 = .ok (.iaload, 1) := by decide +kernel
theorem d_law_220 : decode code 220 = .ok (.invokevirtual 27, 3) := by decide +kernel
theorem d_law_223 : decode code 223 = .ok (.aload_n 2, 1) := by decide +kernel
theorem d_law_224 : decode code 224 = .ok (.aload_n 0, 1) := by decide +kernel
theorem d_law_225 : decode code 225 = .ok (.iload_n 3, 1) := by decide +kernel
theorem d_law_226 : decode code 226 = .ok (.iconst 1, 1) := by decide +kernel
theorem d_law_227 : decode code 227 = .ok (.iadd, 1) := by decide +kernel
theorem d_law_228 : decode code 228 = .ok (.iaload, 1) := by decide +kernel
theorem d_law_229 : decode code 229 = .ok (.aload_n 0, 1) := by decide +kernel
theorem d_law_230 : decode code 230 = .ok (.iload_n 3, 1) := by decide +kernel
theorem d_law_231 : decode code 231 = .ok (.iconst 2, 1) := by decide +kernel
theorem d_law_232 : decode code 232 = .ok (.iadd, 1) := by decide +kernel
theorem d_law_233 : decode code 233 = .ok (.iaload, 1) := by decide +kernel
theorem d_law_234 : decode code 234 = .ok (.invokevirtual 30, 3) := by decide +kernel
theorem d_law_237 : decode code 237 = .ok (.if_icmp .eq 317, 3) := by decide +kernel
theorem d_law_240 : decode code 240 = .ok (.iconst 0, 1) := by decide +kernel
theorem d_law_241 : decode code 241 = .ok (.ireturn, 1) := by decide +kernel
end
section
/-! ===== decode rows of the law; printed by gen_init.py ===== -/
set_option maxRecDepth 100000
theorem d_law_242 : decode code 242 = .ok (.aload_n 1, 1) := by decide +kernel
theorem d_law_243 : decode code 243 = .ok (.aload_n 0, 1) := by decide +kernel
theorem d_law_244 : decode code 244 = .ok (.iload_n 3, 1) := by decide +kernel
theorem d_law_245 : decode code 245 = .ok (.iconst 1, 1) := by decide +kernel
theorem d_law_246 : decode code 246 = .ok (.iadd, 1) := by decide +kernel
theorem d_law_247 : decode code 247 = .ok (.iaload, 1) := by decide +kernel
theorem d_law_248 : decode code 248 = .ok (.aload_n 0, 1) := by decide +kernel
theorem d_law_249 : decode code 249 = .ok (.iload_n 3, 1) := by decide +kernel
theorem d_law_250 : decode code 250 = .ok (.iconst 2, 1) := by decide +kernel
theorem d_law_251 : decode code 251 = .ok (.iadd, 1) := by decide +kernel
theorem d_law_252 : decode code 252 = .ok (.iaload, 1) := by decide +kernel
theorem d_law_253 : decode code 253 = .ok (.invokevirtual 31, 3) := by decide +kernel
theorem d_law_256 : decode code 256 = .ok (.aload_n 2, 1) := by decide +kernel
theorem d_law_257 : decode code 257 = .ok (.aload_n 0, 1) := by decide +kernel
theorem d_law_258 : decode code 258 = .ok (.iload_n 3, 1) := by decide +kernel
theorem d_law_259 : decode code 259 = .ok (.iconst 1, 1) := by decide +kernel
theorem d_law_260 : decode code 260 = .ok (.iadd, 1) := by decide +kernel
theorem d_law_261 : decode code 261 = .ok (.iaload, 1) := by decide +kernel
theorem d_law_262 : decode code 262 = .ok (.aload_n 0, 1) := by decide +kernel
theorem d_law_263 : decode code 263 = .ok (.iload_n 3, 1) := by decide +kernel
theorem d_law_264 : decode code 264 = .ok (.iconst 2, 1) := by decide +kernel
theorem d_law_265 : decode code 265 = .ok (.iadd, 1) := by decide +kernel
theorem d_law_266 : decode code 266 = .ok (.iaload, 1) := by decide +kernel
theorem d_law_267 : decode code 267 = .ok (.invokevirtual 34, 3) := by decide +kernel
theorem d_law_270 : decode code 270 = .ok (.if_icmp .eq 284, 3) := by decide +kernel
theorem d_law_273 : decode code 273 = .ok (.iconst 0, 1) := by decide +kernel
theorem d_law_274 : decode code 274 = .ok (.ireturn, 1) := by decide +kernel
theorem d_law_275 : decode code 275 = .ok (.aload_n 1, 1) := by decide +kernel
theorem d_law_276 : decode code 276 = .ok (.aload_n 0, 1) := by decide +kernel
theorem d_law_277 : decode code 277 = .ok (.iload_n 3, 1) := by decide +kernel
theorem d_law_278 : decode code 278 = .ok (.iconst 1, 1) := by decide +kernel
theorem d_law_279 : decode code 279 = .ok (.iadd, 1) := by decide +kernel
theorem d_law_280 : decode code 280 = .ok (.iaload, 1) := by decide +kernel
theorem d_law_281 : decode code 281 = .ok (.invokevirtual 35, 3) := by decide +kernel
theorem d_law_284 : decode code 284 = .ok (.aload_n 2, 1) := by decide +kernel
theorem d_law_285 : decode code 285 = .ok (.aload_n 0, 1) := by decide +kernel
theorem d_law_286 : decode code 286 = .ok (.iload_n 3, 1) := by decide +kernel
theorem d_law_287 : decode code 287 = .ok (.iconst 1, 1) := by decide +kernel
theorem d_law_288 : decode code 288 = .ok (.iadd, 1) := by decide +kernel
theorem d_law_289 : decode code 289 = .ok (.iaload, 1) := by decide +kernel
theorem d_law_290 : decode code 290 = .ok (.invokevirtual 38, 3) := by decide +kernel
theorem d_law_293 : decode code 293 = .ok (.if_icmp .eq 261, 3) := by decide +kernel
theorem d_law_296 : decode code 296 = .ok (.iconst 0, 1) := by decide +kernel
theorem d_law_297 : decode code 297 = .ok (.ireturn, 1) := by decide +kernel
theorem d_law_298 : decode code 298 = .ok (.aload_n 1, 1) := by decide +kernel
theorem d_law_299 : decode code 299 = .ok (.invokevirtual 39, 3) := by decide +kernel
theorem d_law_302 : decode code 302 = .ok (.aload_n 2, 1) := by decide +kernel
theorem d_law_303 : decode code 303 = .ok (.invokevirtual 43, 3) := by decide +kernel
theorem d_law_306 : decode code 306 = .ok (.if_icmp .eq 248, 3) := by decide +kernel
theorem d_law_309 : decode code 309 = .ok (.iconst 0, 1) := by decide +kernel
theorem d_law_310 : decode code 310 = .ok (.ireturn, 1) := by decide +kernel
theorem d_law_311 : decode code 311 = .ok (.aload_n 1, 1) := by decide +kernel
theorem d_law_312 : decode code 312 = .ok (.aload_n 0, 1) := by decide +kernel
theorem d_law_313 : decode code 313 = .ok (.iload_n 3, 1) := by decide +kernel
theorem d_law_314 : decode code 314 = .ok (.iconst 1, 1) := by decide +kernel
theorem d_law_315 : decode code 315 = .ok (.iadd, 1) := by decide +kernel
theorem d_law_316 : decode code 316 = .ok (.iaload, 1) := by decide +kernel
theorem d_law_317 : decode code 317 = .ok (.invokevirtual 44, 3) := by decide +kernel
theorem d_law_320 : decode code 320 = .ok (.aload_n 2, 1) := by decide +kernel
theorem d_law_321 : decode code 321 = .ok (.aload_n 0, 1) := by decide +kernel
end
section
/-! ===== decode rows of the law; printed by gen_init.py ===== -/
set_option maxRecDepth 100000
theorem d_law_322 : decode code 322 = .ok (.iload_n 3, 1) := by decide +kernel
theorem d_law_323 : decode code 323 = .ok (.iconst 1, 1) := by decide +kernel
theorem d_law_324 : decode code 324 = .ok (.iadd, 1) := by decide +kernel
theorem d_law_325 : decode code 325 = .ok (.iaload, 1) := by decide +kernel
theorem d_law_326 : decode code 326 = .ok (.invokevirtual 47, 3) := by decide +kernel
theorem d_law_329 : decode code 329 = .ok (.if_icmp .eq 225, 3) := by decide +kernel
theorem d_law_332 : decode code 332 = .ok (.iconst 0, 1) := by decide +kernel
theorem d_law_333 : decode code 333 = .ok (.ireturn, 1) := by decide +kernel
theorem d_law_334 : decode code 334 = .ok (.aload_n 1, 1) := by decide +kernel
theorem d_law_335 : decode code 335 = .ok (.aload_n 0, 1) := by decide +kernel
theorem d_law_336 : decode code 336 = .ok (.iload_n 3, 1) := by decide +kernel
theorem d_law_337 : decode code 337 = .ok (.iconst 1, 1) := by decide +kernel
theorem d_law_338 : decode code 338 = .ok (.iadd, 1) := by decide +kernel
theorem d_law_339 : decode code 339 = .ok (.iaload, 1) := by decide +kernel
theorem d_law_340 : decode code 340 = .ok (.invokevirtual 48, 3) := by decide +kernel
theorem d_law_343 : decode code 343 = .ok (.aload_n 2, 1) := by decide +kernel
theorem d_law_344 : decode code 344 = .ok (.aload_n 0, 1) := by decide +kernel
theorem d_law_345 : decode code 345 = .ok (.iload_n 3, 1) := by decide +kernel
theorem d_law_346 : decode code 346 = .ok (.iconst 1, 1) := by decide +kernel
theorem d_law_347 : decode code 347 = .ok (.iadd, 1) := by decide +kernel
theorem d_law_348 : decode code 348 = .ok (.iaload, 1) := by decide +kernel
theorem d_law_349 : decode code 349 = .ok (.invokevirtual 51, 3) := by decide +kernel
theorem d_law_352 : decode code 352 = .ok (.if_icmp .eq 202, 3) := by decide +kernel
theorem d_law_355 : decode code 355 = .ok (.iconst 0, 1) := by decide +kernel
theorem d_law_356 : decode code 356 = .ok (.ireturn, 1) := by decide +kernel
theorem d_law_357 : decode code 357 = .ok (.aload_n 1, 1) := by decide +kernel
theorem d_law_358 : decode code 358 = .ok (.aload_n 0, 1) := by decide +kernel
theorem d_law_359 : decode code 359 = .ok (.iload_n 3, 1) := by decide +kernel
theorem d_law_360 : decode code 360 = .ok (.iconst 1, 1) := by decide +kernel
theorem d_law_361 : decode code 361 = .ok (.iadd, 1) := by decide +kernel
theorem d_law_362 : decode code 362 = .ok (.iaload, 1) := by decide +kernel
theorem d_law_363 : decode code 363 = .ok (.aload_n 0, 1) := by decide +kernel
theorem d_law_364 : decode code 364 = .ok (.iload_n 3, 1) := by decide +kernel
theorem d_law_365 : decode code 365 = .ok (.iconst 2, 1) := by decide +kernel
theorem d_law_366 : decode code 366 = .ok (.iadd, 1) := by decide +kernel
theorem d_law_367 : decode code 367 = .ok (.iaload, 1) := by decide +kernel
theorem d_law_368 : decode code 368 = .ok (.invokevirtual 52, 3) := by decide +kernel
theorem d_law_371 : decode code 371 = .ok (.aload_n 2, 1) := by decide +kernel
theorem d_law_372 : decode code 372 = .ok (.aload_n 0, 1) := by decide +kernel
theorem d_law_373 : decode code 373 = .ok (.iload_n 3, 1) := by decide +kernel
theorem d_law_374 : decode code 374 = .ok (.iconst 1, 1) := by decide +kernel
theorem d_law_375 : decode code 375 = .ok (.iadd, 1) := by decide +kernel
theorem d_law_376 : decode code 376 = .ok (.iaload, 1) := by decide +kernel
theorem d_law_377 : decode code 377 = .ok (.aload_n 0, 1) := by decide +kernel
theorem d_law_378 : decode code 378 = .ok (.iload_n 3, 1) := by decide +kernel
theorem d_law_379 : decode code 379 = .ok (.iconst 2, 1) := by decide +kernel
theorem d_law_380 : decode code 380 = .ok (.iadd, 1) := by decide +kernel
theorem d_law_381 : decode code 381 = .ok (.iaload, 1) := by decide +kernel
theorem d_law_382 : decode code 382 = .ok (.invokevirtual 55, 3) := by decide +kernel
theorem d_law_385 : decode code 385 = .ok (.if_icmp .eq 169, 3) := by decide +kernel
theorem d_law_388 : decode code 388 = .ok (.iconst 0, 1) := by decide +kernel
theorem d_law_389 : decode code 389 = .ok (.ireturn, 1) := by decide +kernel
theorem d_law_390 : decode code 390 = .ok (.aload_n 1, 1) := by decide +kernel
theorem d_law_391 : decode code 391 = .ok (.aload_n 0, 1) := by decide +kernel
theorem d_law_392 : decode code 392 = .ok (.iload_n 3, 1) := by decide +kernel
theorem d_law_393 : decode code 393 = .ok (.iconst 1, 1) := by decide +kernel
theorem d_law_394 : decode code 394 = .ok (.iadd, 1) := by decide +kernel
theorem d_law_395 : decode code 395 = .ok (.iaload, 1) := by decide +kernel
theorem d_law_396 : decode code 396 = .ok (.aload_n 0, 1) := by decide +kernel
theorem d_law_397 : decode code 397 = .ok (.iload_n 3, 1) := by decide +kernel
end
section
/-! ===== decode rows of the law; printed by gen_init.py ===== -/
set_option maxRecDepth 100000
theorem d_law_398 : decode code 398 = .ok (.iconst 2, 1) := by decide +kernel
theorem d_law_399 : decode code 399 = .ok (.iadd, 1) := by decide +kernel
theorem d_law_400 : decode code 400 = .ok (.iaload, 1) := by decide +kernel
theorem d_law_401 : decode code 401 = .ok (.invokevirtual 56, 3) := by decide +kernel
theorem d_law_404 : decode code 404 = .ok (.aload_n 2, 1) := by decide +kernel
theorem d_law_405 : decode code 405 = .ok (.aload_n 0, 1) := by decide +kernel
theorem d_law_406 : decode code 406 = .ok (.iload_n 3, 1) := by decide +kernel
theorem d_law_407 : decode code 407 = .ok (.iconst 1, 1) := by decide +kernel
theorem d_law_408 : decode code 408 = .ok (.iadd, 1) := by decide +kernel
theorem d_law_409 : decode code 409 = .ok (.iaload, 1) := by decide +kernel
theorem d_law_410 : decode code 410 = .ok (.aload_n 0, 1) := by decide +kernel
theorem d_law_411 : decode code 411 = .ok (.iload_n 3, 1) := by decide +kernel
theorem d_law_412 : decode code 412 = .ok (.iconst 2, 1) := by decide +kernel
theorem d_law_413 : decode code 413 = .ok (.iadd, 1) := by decide +kernel
theorem d_law_414 : decode code 414 = .ok (.iaload, 1) := by decide +kernel
theorem d_law_415 : decode code 415 = .ok (.invokevirtual 59, 3) := by decide +kernel
theorem d_law_418 : decode code 418 = .ok (.if_icmp .eq 136, 3) := by decide +kernel
theorem d_law_421 : decode code 421 = .ok (.iconst 0, 1) := by decide +kernel
theorem d_law_422 : decode code 422 = .ok (.ireturn, 1) := by decide +kernel
theorem d_law_423 : decode code 423 = .ok (.aload_n 1, 1) := by decide +kernel
theorem d_law_424 : decode code 424 = .ok (.aload_n 0, 1) := by decide +kernel
theorem d_law_425 : decode code 425 = .ok (.iload_n 3, 1) := by decide +kernel
theorem d_law_426 : decode code 426 = .ok (.iconst 1, 1) := by decide +kernel
theorem d_law_427 : decode code 427 = .ok (.iadd, 1) := by decide +kernel
theorem d_law_428 : decode code 428 = .ok (.iaload, 1) := by decide +kernel
theorem d_law_429 : decode code 429 = .ok (.aload_n 0, 1) := by decide +kernel
theorem d_law_430 : decode code 430 = .ok (.iload_n 3, 1) := by decide +kernel
theorem d_law_431 : decode code 431 = .ok (.iconst 2, 1) := by decide +kernel
theorem d_law_432 : decode code 432 = .ok (.iadd, 1) := by decide +kernel
theorem d_law_433 : decode code 433 = .ok (.iaload, 1) := by decide +kernel
theorem d_law_434 : decode code 434 = .ok (.invokevirtual 60, 3) := by decide +kernel
theorem d_law_437 : decode code 437 = .ok (.aload_n 2, 1) := by decide +kernel
theorem d_law_438 : decode code 438 = .ok (.aload_n 0, 1) := by decide +kernel
theorem d_law_439 : decode code 439 = .ok (.iload_n 3, 1) := by decide +kernel
theorem d_law_440 : decode code 440 = .ok (.iconst 1, 1) := by decide +kernel
theorem d_law_441 : decode code 441 = .ok (.iadd, 1) := by decide +kernel
theorem d_law_442 : decode code 442 = .ok (.iaload, 1) := by decide +kernel
theorem d_law_443 : decode code 443 = .ok (.aload_n 0, 1) := by decide +kernel
theorem d_law_444 : decode code 444 = .ok (.iload_n 3, 1) := by decide +kernel
theorem d_law_445 : decode code 445 = .ok (.iconst 2, 1) := by decide +kernel
theorem d_law_446 : decode code 446 = .ok (.iadd, 1) := by decide +kernel
theorem d_law_447 : decode code 447 = .ok (.iaload, 1) := by decide +kernel
theorem d_law_448 : decode code 448 = .ok (.invokevirtual 63, 3) := by decide +kernel
theorem d_law_451 : decode code 451 = .ok (.if_icmp .eq 103, 3) := by decide +kernel
theorem d_law_454 : decode code 454 = .ok (.iconst 0, 1) := by decide +kernel
theorem d_law_455 : decode code 455 = .ok (.ireturn, 1) := by decide +kernel
theorem d_law_456 : decode code 456 = .ok (.aload_n 1, 1) := by decide +kernel
theorem d_law_457 : decode code 457 = .ok (.aload_n 0, 1) := by decide +kernel
theorem d_law_458 : decode code 458 = .ok (.iload_n 3, 1) := by decide +kernel
theorem d_law_459 : decode code 459 = .ok (.iconst 1, 1) := by decide +kernel
theorem d_law_460 : decode code 460 = .ok (.iadd, 1) := by decide +kernel
theorem d_law_461 : decode code 461 = .ok (.iaload, 1) := by decide +kernel
theorem d_law_462 : decode code 462 = .ok (.invokevirtual 64, 3) := by decide +kernel
theorem d_law_465 : decode code 465 = .ok (.aload_n 2, 1) := by decide +kernel
theorem d_law_466 : decode code 466 = .ok (.aload_n 0, 1) := by decide +kernel
theorem d_law_467 : decode code 467 = .ok (.iload_n 3, 1) := by decide +kernel
theorem d_law_468 : decode code 468 = .ok (.iconst 1, 1) := by decide +kernel
theorem d_law_469 : decode code 469 = .ok (.iadd, 1) := by decide +kernel
theorem d_law_470 : decode code 470 = .ok (.iaload, 1) := by decide +kernel
theorem d_law_471 : decode code 471 = .ok (.invokevirtual 67, 3) := by decide +kernel
end
section
/-! ===== decode rows of the law; printed by gen_init.py ===== -/
set_option maxRecDepth 100000
theorem d_law_474 : decode code 474 = .ok (.if_icmp .eq 80, 3) := by decide +kernel
theorem d_law_477 : decode code 477 = .ok (.iconst 0, 1) := by decide +kernel
theorem d_law_478 : decode code 478 = .ok (.ireturn, 1) := by decide +kernel
theorem d_law_479 : decode code 479 = .ok (.aload_n 1, 1) := by decide +kernel
theorem d_law_480 : decode code 480 = .ok (.aload_n 0, 1) := by decide +kernel
theorem d_law_481 : decode code 481 = .ok (.iload_n 3, 1) := by decide +kernel
theorem d_law_482 : decode code 482 = .ok (.iconst 1, 1) := by decide +kernel
theorem d_law_483 : decode code 483 = .ok (.iadd, 1) := by decide +kernel
theorem d_law_484 : decode code 484 = .ok (.iaload, 1) := by decide +kernel
theorem d_law_485 : decode code 485 = .ok (.invokevirtual 68, 3) := by decide +kernel
theorem d_law_488 : decode code 488 = .ok (.aload_n 2, 1) := by decide +kernel
theorem d_law_489 : decode code 489 = .ok (.aload_n 0, 1) := by decide +kernel
theorem d_law_490 : decode code 490 = .ok (.iload_n 3, 1) := by decide +kernel
theorem d_law_491 : decode code 491 = .ok (.iconst 1, 1) := by decide +kernel
theorem d_law_492 : decode code 492 = .ok (.iadd, 1) := by decide +kernel
theorem d_law_493 : decode code 493 = .ok (.iaload, 1) := by decide +kernel
theorem d_law_494 : decode code 494 = .ok (.invokevirtual 71, 3) := by decide +kernel
theorem d_law_497 : decode code 497 = .ok (.if_icmp .eq 57, 3) := by decide +kernel
theorem d_law_500 : decode code 500 = .ok (.iconst 0, 1) := by decide +kernel
theorem d_law_501 : decode code 501 = .ok (.ireturn, 1) := by decide +kernel
theorem d_law_502 : decode code 502 = .ok (.aload_n 1, 1) := by decide +kernel
theorem d_law_503 : decode code 503 = .ok (.invokevirtual 72, 3) := by decide +kernel
theorem d_law_506 : decode code 506 = .ok (.aload_n 2, 1) := by decide +kernel
theorem d_law_507 : decode code 507 = .ok (.invokevirtual 75, 3) := by decide +kernel
theorem d_law_510 : decode code 510 = .ok (.if_icmp .eq 44, 3) := by decide +kernel
theorem d_law_513 : decode code 513 = .ok (.iconst 0, 1) := by decide +kernel
theorem d_law_514 : decode code 514 = .ok (.ireturn, 1) := by decide +kernel
theorem d_law_515 : decode code 515 = .ok (.aload_n 1, 1) := by decide +kernel
theorem d_law_516 : decode code 516 = .ok (.invokevirtual 76, 3) := by decide +kernel
theorem d_law_519 : decode code 519 = .ok (.aload_n 2, 1) := by decide +kernel
theorem d_law_520 : decode code 520 = .ok (.invokevirtual 79, 3) := by decide +kernel
theorem d_law_523 : decode code 523 = .ok (.if_icmp .eq 31, 3) := by decide +kernel
theorem d_law_526 : decode code 526 = .ok (.iconst 0, 1) := by decide +kernel
theorem d_law_527 : decode code 527 = .ok (.ireturn, 1) := by decide +kernel
theorem d_law_528 : decode code 528 = .ok (.aload_n 1, 1) := by decide +kernel
theorem d_law_529 : decode code 529 = .ok (.invokevirtual 80, 3) := by decide +kernel
theorem d_law_532 : decode code 532 = .ok (.aload_n 2, 1) := by decide +kernel
theorem d_law_533 : decode code 533 = .ok (.invokevirtual 83, 3) := by decide +kernel
theorem d_law_536 : decode code 536 = .ok (.if_icmp .eq 18, 3) := by decide +kernel
theorem d_law_539 : decode code 539 = .ok (.iconst 0, 1) := by decide +kernel
theorem d_law_540 : decode code 540 = .ok (.ireturn, 1) := by decide +kernel
theorem d_law_541 : decode code 541 = .ok (.aload_n 1, 1) := by decide +kernel
theorem d_law_542 : decode code 542 = .ok (.invokevirtual 84, 3) := by decide +kernel
theorem d_law_545 : decode code 545 = .ok (.aload_n 2, 1) := by decide +kernel
theorem d_law_546 : decode code 546 = .ok (.invokevirtual 87, 3) := by decide +kernel
theorem d_law_549 : decode code 549 = .ok (.if_icmp .eq 5, 3) := by decide +kernel
theorem d_law_552 : decode code 552 = .ok (.iconst 0, 1) := by decide +kernel
theorem d_law_553 : decode code 553 = .ok (.ireturn, 1) := by decide +kernel
theorem d_law_554 : decode code 554 = .ok (.iinc 3 3, 3) := by decide +kernel
theorem d_law_557 : decode code 557 = .ok (.goto (-539), 3) := by decide +kernel
theorem d_law_560 : decode code 560 = .ok (.iconst 1, 1) := by decide +kernel
theorem d_law_561 : decode code 561 = .ok (.ireturn, 1) := by decide +kernel
end
section
/-! THE CLAIM OUT OF ONE WALK OF THE LAW'S BODY. Your part is whole_start (and what it stands on); all else here is the same for every law, but numbers. -/
def R_law : String := "InsolvencyPoolLaw"
def lw_P (b : Addr) (xs : List Int32) (args : Array Value) (s : State) : Prop := args = #[.ref b] ∧ s.IntsAt b xs ∧ xs.length ≤ 192 ∧ (Jvm.Cond.and given_1 narrow_1).before args s = true
def lw_Q (_ : Array Value) (s : State) (o : Outcome) (t : State) : Prop := o = .returned (some (.int 1)) ∧ Framed s o t [] 600000 7290000
def lw_Z (below : List Frame) (a : Array Value) (s : State) : State → Prop := fun t => ∃ o, t.status = .running ∧ Ended t below o ∧ lw_Q a s o t
/-- the law's own end, with 1 on the stack, nothing written that was there before, its room as the claim has it -/
theorem lw_ret {p : Program} {l : Launch} {e : Env} {s : State} {m : MethodId} {below : List Frame} {meth : Method} {c : Code} {b : Nat} (hx : p.tables.exec = Jvm.exec) (hb : c.code = code) (hr : meth.sig.returnType = ret) (hlocks : meth.locks = false) {pc : Nat} {H : Heap} {ls : Array Slot} (hdg : decode code pc = .ok (.ireturn, 1)) : W p l e room_1 s m #[Value.ref b] below meth c H [] 600000 7290000 (lw_Z below #[Value.ref b] s) (F0 m pc ls [.int 1]) := by
  intro T hT X
  obtain ⟨fs, hret, hrun, hended, hW, hframe⟩ := X.leave (v := some (.int 1)) (hlocks := hlocks) (fun h => by rw [hr] at h; cases h)
  have hmeth' : T.vm.method? m = some meth := X.method'
  refine ⟨T.setFrames fs, ?_, .returned (some (.int 1)), hrun, hended, rfl, ⟨_, rfl⟩, hW, hframe⟩
  jvm_step X.here [X.here.top, hx, hb, hdg, hmeth', hr, ret, narrow_b1]
  (try refine ⟨rfl, ?_⟩); (try refine ⟨rfl, ?_⟩)
  first | (intro acts; rw [hret _ acts rfl rfl rfl]) | rw [hret _ _ rfl rfl rfl]
  exact Steps.refl _
/-- what holds at the law's entry: the machine, the code, the tables' words (any of lw_tbl by 'hts w (by decide +kernel)'), the script of L ints xs at the cell b, what the Statement gives of the start (any of its parts by flat_of_before) -/
def lw_At (p : Program) (s : State) (m : MethodId) (meth : Method) (c : Code) (b L : Nat) (xs : Nat → Int32) : Prop :=
  p.tables.exec = Jvm.exec ∧ c.code = code ∧ meth.sig.returnType = ret ∧ c.maxLocals = 4 ∧ s.vm.findClass R_law = some m.cls ∧ (∀ w ∈ lw_tbl, w.before #[Value.ref b] s = true) ∧ va_X b L xs s s.heap ∧ b < s.heap.size ∧ meth.locks = false ∧ (Jvm.Cond.and given_1 narrow_1).before #[Value.ref b] s = true
/-! ===== rows for the law's calls; printed by gen_law.py ===== -/
section IPL
variable {p : Program} {l : Launch} {e : Env} {Rm : Room} {s : State} {m : MethodId} {args : Array Value} {below : List Frame} {meth : Method} {c : Code} {H : Heap} {locs : List Loc} {cells slots : Nat} {Q : State → Prop} {cc : ByteArray} {pc : Nat} {ls : Array Slot} {rest : List Value} {D : va_G} {A : Nat → Prop} {d : ClassId} {own : String} {nL idx L2 : Nat} {y : MethodName} {b2 : ByteArray} {ret2 : Option FieldType} {rm2 : Room} {a am : Nat → Nat} {Wa Ra Ua Ga La Ea Gm : Nat → Nat} {n pt ov : Nat} {st0 : List Value} {u0 : ip_S0}
theorem lw_cP {post : Int32 → ip_S0 → Prop} (As : List Value) (hx : p.tables.exec = Jvm.exec) (hb : c.code = cc) (hml : c.maxLocals = nL) (hown : s.vm.findClass own = some m.cls) (hts : ∀ w ∈ lw_all, w.before args s = true) (hA : ∀ q : Nat, s.heap.size ≤ q → A q) (hK : va_K D ip_cl [(d, .int)] s) (hM : ip_Mi l y (ws_ y b2 L2 ret2) rm2 D d (pw a d Wa Ra Ua Ga La Ea n pt ov) (.ref (a 0) :: As) post (pwS a d)) (cw : CallW Rm s args own RX0 idx y b2 L2 ret2 (ws_ y b2 L2 ret2) rm2 0 0 As.length)
    (hP : va_P D ip_cl ((pw a d Wa Ra Ua Ga La Ea n pt ov) ++ (mw am d Wa Ra Ua Gm n pt)) H) (hD : va_D A ((pw a d Wa Ra Ua Ga La Ea n pt ov) ++ (mw am d Wa Ra Ua Gm n pt))) (hS : va_S A s.heap H locs) (hsz : ls.size = nL) (hst : st0 = As.reverse ++ .ref (a 0) :: rest) (hW : (rest.map fun v => v.category).sum ≤ 8) (hdg : decode cc pc = .ok (.invokevirtual idx, 3)) (hf : cells ≤ Rm.cells ∧ slots ≤ Rm.slots)
    (kk : ∀ (r : Int32) (u : ip_S0) (H1 : Heap) (locs1 : List Loc), post r u → va_P D ip_cl ((mw am d Wa Ra Ua Gm n pt) ++ pwS a d u) H1 → va_D A ((mw am d Wa Ra Ua Gm n pt) ++ pwS a d u) → va_S A s.heap H1 locs1 → W p l e Rm s m args below meth c H1 locs1 cells slots Q (F0 m (pc + 3) ls (.int r :: rest))) : W p l e Rm s m args below meth c H locs cells slots Q (F0 m pc ls st0) := by
  have hPc := hP.sub (ws' := (pw a d Wa Ra Ua Ga La Ea n pt ov)) [0, 1, 2, 3, 4, 5, 6] rfl
  have hDc := hD.sub (ws' := (pw a d Wa Ra Ua Ga La Ea n pt ov)) [0, 1, 2, 3, 4, 5, 6] (by decide) rfl
  have hFc := va_free (wc := (pw a d Wa Ra Ua Ga La Ea n pt ov)) hD hS hA [0, 1, 2, 3, 4, 5, 6] rfl
  refine va_calli (va_runV (As := As) (rest := rest) ⟨hx, hb, hml, hown, hts⟩ (hM H.size) cw ⟨ip_blind D d _ H.size _, va_recv hK hPc (ci := 0) (q0 := 0) rfl rfl, fun U hU hW => ⟨rfl, by rw [hU], by rw [hU]; exact hPc, va_K.moved hW.alike hK, hDc.weaken (fun _ _ _ _ => trivial)⟩⟩ rfl rfl hsz hst (lv_room hW) hdg hf) hS (fun q _ h => hFc q h) hFc (fun r u t H1 locs1 ht hvm hw hB hz hk hS1 => ?_)
  obtain ⟨hP1, hK1, hD1⟩ := hB
  rw [ht] at hP1
  obtain ⟨hP2, hD2⟩ := va_join (wr := (mw am d Wa Ra Ua Gm n pt)) (w1 := pwS a d u) hP hD [0, 1, 2, 3, 4, 5, 6] [7, 8, 9, 10, 11] rfl rfl (by decide) (by decide) hk hFc hP1 hD1
  exact kk r u H1 locs1 hw hP2 hD2 hS1
theorem lw_cM {post : Int32 → ip_S1 → Prop} (As : List Value) (hx : p.tables.exec = Jvm.exec) (hb : c.code = cc) (hml : c.maxLocals = nL) (hown : s.vm.findClass own = some m.cls) (hts : ∀ w ∈ lw_all, w.before args s = true) (hA : ∀ q : Nat, s.heap.size ≤ q → A q) (hK : va_K D ip_cl [(d, .int)] s) (hM : ip_Mi l y (ws_ y b2 L2 ret2) rm2 D d (mw am d Wa Ra Ua Gm n pt) (.ref (am 0) :: As) post (mwS am d)) (cw : CallW Rm s args own RX1 idx y b2 L2 ret2 (ws_ y b2 L2 ret2) rm2 0 0 As.length)
    (hP : va_P D ip_cl ((mw am d Wa Ra Ua Gm n pt) ++ (pwS a d u0)) H) (hD : va_D A ((mw am d Wa Ra Ua Gm n pt) ++ (pwS a d u0))) (hS : va_S A s.heap H locs) (hsz : ls.size = nL) (hst : st0 = As.reverse ++ .ref (am 0) :: rest) (hW : (rest.map fun v => v.category).sum ≤ 8) (hdg : decode cc pc = .ok (.invokevirtual idx, 3)) (hf : cells ≤ Rm.cells ∧ slots ≤ Rm.slots)
    (kk : ∀ (r : Int32) (u : ip_S1) (H1 : Heap) (locs1 : List Loc), post r u → va_P D ip_cl ((pwS a d u0) ++ mwS am d u) H1 → va_D A ((pwS a d u0) ++ mwS am d u) → va_S A s.heap H1 locs1 → W p l e Rm s m args below meth c H1 locs1 cells slots Q (F0 m (pc + 3) ls (.int r :: rest))) : W p l e Rm s m args below meth c H locs cells slots Q (F0 m pc ls st0) := by
  have hPc := hP.sub (ws' := (mw am d Wa Ra Ua Gm n pt)) [0, 1, 2, 3, 4] rfl
  have hDc := hD.sub (ws' := (mw am d Wa Ra Ua Gm n pt)) [0, 1, 2, 3, 4] (by decide) rfl
  have hFc := va_free (wc := (mw am d Wa Ra Ua Gm n pt)) hD hS hA [0, 1, 2, 3, 4] rfl
  refine va_calli (va_runV (As := As) (rest := rest) ⟨hx, hb, hml, hown, hts⟩ (hM H.size) cw ⟨ip_blind D d _ H.size _, va_recv hK hPc (ci := 1) (q0 := 0) rfl rfl, fun U hU hW => ⟨rfl, by rw [hU], by rw [hU]; exact hPc, va_K.moved hW.alike hK, hDc.weaken (fun _ _ _ _ => trivial)⟩⟩ rfl rfl hsz hst (lv_room hW) hdg hf) hS (fun q _ h => hFc q h) hFc (fun r u t H1 locs1 ht hvm hw hB hz hk hS1 => ?_)
  obtain ⟨hP1, hK1, hD1⟩ := hB
  rw [ht] at hP1
  obtain ⟨hP2, hD2⟩ := va_join (wr := (pwS a d u0)) (w1 := mwS am d u) hP hD [0, 1, 2, 3, 4] [5, 6, 7, 8, 9, 10, 11] rfl rfl (by decide) (by decide) hk hFc hP1 hD1
  exact kk r u H1 locs1 hw hP2 hD2 hS1
theorem lw_sld {b L k : Nat} {xs : Nat → Int32} (hx : p.tables.exec = Jvm.exec) (hb : c.code = cc) (hX : va_X b L xs s s.heap) (hbl : b < s.heap.size) (hS : va_S (fun q : Nat => s.heap.size ≤ q) s.heap H locs) (hk : k < L) (hL : L ≤ 192) (hdg : decode cc pc = .ok (.iaload, 1))
    (kk : W p l e Rm s m args below meth c H locs cells slots Q (F0 m (pc + 1) ls (.int (xs k) :: rest))) : W p l e Rm s m args below meth c H locs cells slots Q (F0 m pc ls (.int (nI k) :: .ref b :: rest)) := by
  refine va_sld hx hb hX hbl (Nat.not_le.mpr hbl) hS (vp_in_nI hk (by omega)) hdg ?_
  rw [nI_clamp (show k < 2 ^ 31 by omega)]
  exact kk
end IPL
theorem ip_inc3 (t : Nat) : nI t + Int32.ofInt 3 = nI (t + 3) := nI_add t 3
theorem lwX0_add {s : State} {args : Array Value} (hts : ∀ w ∈ lw_all, w.before args s = true) : CallW room_1 s args R_law RX0 13 yX0_add cX0_add 3 (some .int) (ws_ yX0_add cX0_add 3 (some .int)) rmX0_add 0 0 2 :=
  cwV 2 hts (lw_V q58 q59 q60 q19 q61) rfl rfl rfl (by decide +kernel) ⟨Nat.le_of_ble_eq_true rfl, Nat.le_of_ble_eq_true rfl⟩
theorem lwX0_remove {s : State} {args : Array Value} (hts : ∀ w ∈ lw_all, w.before args s = true) : CallW room_1 s args R_law RX0 18 yX0_remove cX0_remove 3 (some .int) (ws_ yX0_remove cX0_remove 3 (some .int)) rmX0_remove 0 0 1 :=
  cwV 1 hts (lw_V q65 q66 q67 q19 q68) rfl rfl rfl (by decide +kernel) ⟨Nat.le_of_ble_eq_true rfl, Nat.le_of_ble_eq_true rfl⟩
theorem lwX0_change {s : State} {args : Array Value} (hts : ∀ w ∈ lw_all, w.before args s = true) : CallW room_1 s args R_law RX0 23 yX0_change cX0_change 4 (some .int) (ws_ yX0_change cX0_change 4 (some .int)) rmX0_change 0 0 2 :=
  cwV 2 hts (lw_V q73 q74 q75 q19 q76) rfl rfl rfl (by decide +kernel) ⟨Nat.le_of_ble_eq_true rfl, Nat.le_of_ble_eq_true rfl⟩
theorem lwX0_move {s : State} {args : Array Value} (hts : ∀ w ∈ lw_all, w.before args s = true) : CallW room_1 s args R_law RX0 27 yX0_move cX0_move 4 (some .int) (ws_ yX0_move cX0_move 4 (some .int)) rmX0_move 0 0 2 :=
  cwV 2 hts (lw_V q77 q78 q79 q19 q80) rfl rfl rfl (by decide +kernel) ⟨Nat.le_of_ble_eq_true rfl, Nat.le_of_ble_eq_true rfl⟩
theorem lwX0_rule {s : State} {args : Array Value} (hts : ∀ w ∈ lw_all, w.before args s = true) : CallW room_1 s args R_law RX0 31 yX0_rule cX0_rule 4 (some .int) (ws_ yX0_rule cX0_rule 4 (some .int)) rmX0_rule 0 0 2 :=
  cwV 2 hts (lw_V q81 q82 q83 q19 q84) rfl rfl rfl (by decide +kernel) ⟨Nat.le_of_ble_eq_true rfl, Nat.le_of_ble_eq_true rfl⟩
theorem lwX0_estate {s : State} {args : Array Value} (hts : ∀ w ∈ lw_all, w.before args s = true) : CallW room_1 s args R_law RX0 35 yX0_estate cX0_estate 2 (some .int) (ws_ yX0_estate cX0_estate 2 (some .int)) rmX0_estate 0 0 1 :=
  cwV 1 hts (lw_V q88 q89 q90 q19 q91) rfl rfl rfl (by decide +kernel) ⟨Nat.le_of_ble_eq_true rfl, Nat.le_of_ble_eq_true rfl⟩
theorem lwX0_creditors {s : State} {args : Array Value} (hts : ∀ w ∈ lw_all, w.before args s = true) : CallW room_1 s args R_law RX0 39 yX0_creditors cX0_creditors 1 (some .int) (ws_ yX0_creditors cX0_creditors 1 (some .int)) rmX0_creditors 0 0 0 :=
  cwV 0 hts (lw_V q92 q93 q94 q19 q95) rfl rfl rfl (by decide +kernel) ⟨Nat.le_of_ble_eq_true rfl, Nat.le_of_ble_eq_true rfl⟩
theorem lwX0_claimOf {s : State} {args : Array Value} (hts : ∀ w ∈ lw_all, w.before args s = true) : CallW room_1 s args R_law RX0 44 yX0_claimOf cX0_claimOf 2 (some .int) (ws_ yX0_claimOf cX0_claimOf 2 (some .int)) rmX0_claimOf 0 0 1 :=
  cwV 1 hts (lw_V q96 q97 q98 q19 q99) rfl rfl rfl (by decide +kernel) ⟨Nat.le_of_ble_eq_true rfl, Nat.le_of_ble_eq_true rfl⟩
theorem lwX0_share {s : State} {args : Array Value} (hts : ∀ w ∈ lw_all, w.before args s = true) : CallW room_1 s args R_law RX0 48 yX0_share cX0_share 2 (some .int) (ws_ yX0_share cX0_share 2 (some .int)) rmX0_share 0 0 1 :=
  cwV 1 hts (lw_V q100 q101 q102 q19 q103) rfl rfl rfl (by decide +kernel) ⟨Nat.le_of_ble_eq_true rfl, Nat.le_of_ble_eq_true rfl⟩
theorem lwX0_shareOf {s : State} {args : Array Value} (hts : ∀ w ∈ lw_all, w.before args s = true) : CallW room_1 s args R_law RX0 52 yX0_shareOf cX0_shareOf 3 (some .int) (ws_ yX0_shareOf cX0_shareOf 3 (some .int)) rmX0_shareOf 0 0 2 :=
  cwV 2 hts (lw_V q144 q145 q146 q19 q147) rfl rfl rfl (by decide +kernel) ⟨Nat.le_of_ble_eq_true rfl, Nat.le_of_ble_eq_true rfl⟩
theorem lwX0_shareUnder {s : State} {args : Array Value} (hts : ∀ w ∈ lw_all, w.before args s = true) : CallW room_1 s args R_law RX0 56 yX0_shareUnder cX0_shareUnder 5 (some .int) (ws_ yX0_shareUnder cX0_shareUnder 5 (some .int)) rmX0_shareUnder 0 0 2 :=
  cwV 2 hts (lw_V q148 q149 q150 q19 q151) rfl rfl rfl (by decide +kernel) ⟨Nat.le_of_ble_eq_true rfl, Nat.le_of_ble_eq_true rfl⟩
theorem lwX0_leastEstate {s : State} {args : Array Value} (hts : ∀ w ∈ lw_all, w.before args s = true) : CallW room_1 s args R_law RX0 60 yX0_leastEstate cX0_leastEstate 7 (some .int) (ws_ yX0_leastEstate cX0_leastEstate 7 (some .int)) rmX0_leastEstate 0 0 2 :=
  cwV 2 hts (lw_V q152 q153 q154 q19 q155) rfl rfl rfl (by decide +kernel) ⟨Nat.le_of_ble_eq_true rfl, Nat.le_of_ble_eq_true rfl⟩
theorem lwX0_claims {s : State} {args : Array Value} (hts : ∀ w ∈ lw_all, w.before args s = true) : CallW room_1 s args R_law RX0 64 yX0_claims cX0_claims 2 (some .int) (ws_ yX0_claims cX0_claims 2 (some .int)) rmX0_claims 0 0 1 :=
  cwV 1 hts (lw_V q156 q157 q158 q19 q159) rfl rfl rfl (by decide +kernel) ⟨Nat.le_of_ble_eq_true rfl, Nat.le_of_ble_eq_true rfl⟩
theorem lwX0_paid {s : State} {args : Array Value} (hts : ∀ w ∈ lw_all, w.before args s = true) : CallW room_1 s args R_law RX0 68 yX0_paid cX0_paid 4 (some .int) (ws_ yX0_paid cX0_paid 4 (some .int)) rmX0_paid 0 0 1 :=
  cwV 1 hts (lw_V q160 q161 q162 q19 q163) rfl rfl rfl (by decide +kernel) ⟨Nat.le_of_ble_eq_true rfl, Nat.le_of_ble_eq_true rfl⟩
theorem lwX0_left {s : State} {args : Array Value} (hts : ∀ w ∈ lw_all, w.before args s = true) : CallW room_1 s args R_law RX0 72 yX0_left cX0_left 1 (some .int) (ws_ yX0_left cX0_left 1 (some .int)) rmX0_left 0 0 0 :=
  cwV 0 hts (lw_V q164 q165 q166 q19 q167) rfl rfl rfl (by decide +kernel) ⟨Nat.le_of_ble_eq_true rfl, Nat.le_of_ble_eq_true rfl⟩
theorem lwX0_next {s : State} {args : Array Value} (hts : ∀ w ∈ lw_all, w.before args s = true) : CallW room_1 s args R_law RX0 76 yX0_next cX0_next 2 (some .int) (ws_ yX0_next cX0_next 2 (some .int)) rmX0_next 0 0 0 :=
  cwV 0 hts (lw_V q168 q169 q170 q19 q171) rfl rfl rfl (by decide +kernel) ⟨Nat.le_of_ble_eq_true rfl, Nat.le_of_ble_eq_true rfl⟩
theorem lwX0_unpaid {s : State} {args : Array Value} (hts : ∀ w ∈ lw_all, w.before args s = true) : CallW room_1 s args R_law RX0 80 yX0_unpaid cX0_unpaid 3 (some .int) (ws_ yX0_unpaid cX0_unpaid 3 (some .int)) rmX0_unpaid 0 0 0 :=
  cwV 0 hts (lw_V q172 q173 q174 q19 q175) rfl rfl rfl (by decide +kernel) ⟨Nat.le_of_ble_eq_true rfl, Nat.le_of_ble_eq_true rfl⟩
theorem lwX0_worst {s : State} {args : Array Value} (hts : ∀ w ∈ lw_all, w.before args s = true) : CallW room_1 s args R_law RX0 84 yX0_worst cX0_worst 4 (some .int) (ws_ yX0_worst cX0_worst 4 (some .int)) rmX0_worst 0 0 0 :=
  cwV 0 hts (lw_V q176 q177 q178 q19 q179) rfl rfl rfl (by decide +kernel) ⟨Nat.le_of_ble_eq_true rfl, Nat.le_of_ble_eq_true rfl⟩
theorem lwX1_add {s : State} {args : Array Value} (hts : ∀ w ∈ lw_all, w.before args s = true) : CallW room_1 s args R_law RX1 17 yX1_add cX1_add 4 (some .int) (ws_ yX1_add cX1_add 4 (some .int)) rmX1_add 0 0 2 :=
  cwV 2 hts (lw_V q205 q206 q207 q20 q208) rfl rfl rfl (by decide +kernel) ⟨Nat.le_of_ble_eq_true rfl, Nat.le_of_ble_eq_true rfl⟩
theorem lwX1_remove {s : State} {args : Array Value} (hts : ∀ w ∈ lw_all, w.before args s = true) : CallW room_1 s args R_law RX1 22 yX1_remove cX1_remove 3 (some .int) (ws_ yX1_remove cX1_remove 3 (some .int)) rmX1_remove 0 0 1 :=
  cwV 1 hts (lw_V q217 q218 q219 q20 q220) rfl rfl rfl (by decide +kernel) ⟨Nat.le_of_ble_eq_true rfl, Nat.le_of_ble_eq_true rfl⟩
theorem lwX1_change {s : State} {args : Array Value} (hts : ∀ w ∈ lw_all, w.before args s = true) : CallW room_1 s args R_law RX1 26 yX1_change cX1_change 4 (some .int) (ws_ yX1_change cX1_change 4 (some .int)) rmX1_change 0 0 2 :=
  cwV 2 hts (lw_V q225 q226 q227 q20 q228) rfl rfl rfl (by decide +kernel) ⟨Nat.le_of_ble_eq_true rfl, Nat.le_of_ble_eq_true rfl⟩
theorem lwX1_move {s : State} {args : Array Value} (hts : ∀ w ∈ lw_all, w.before args s = true) : CallW room_1 s args R_law RX1 30 yX1_move cX1_move 4 (some .int) (ws_ yX1_move cX1_move 4 (some .int)) rmX1_move 0 0 2 :=
  cwV 2 hts (lw_V q229 q230 q231 q20 q232) rfl rfl rfl (by decide +kernel) ⟨Nat.le_of_ble_eq_true rfl, Nat.le_of_ble_eq_true rfl⟩
theorem lwX1_rule {s : State} {args : Array Value} (hts : ∀ w ∈ lw_all, w.before args s = true) : CallW room_1 s args R_law RX1 34 yX1_rule cX1_rule 4 (some .int) (ws_ yX1_rule cX1_rule 4 (some .int)) rmX1_rule 0 0 2 :=
  cwV 2 hts (lw_V q233 q234 q235 q20 q236) rfl rfl rfl (by decide +kernel) ⟨Nat.le_of_ble_eq_true rfl, Nat.le_of_ble_eq_true rfl⟩
theorem lwX1_estate {s : State} {args : Array Value} (hts : ∀ w ∈ lw_all, w.before args s = true) : CallW room_1 s args R_law RX1 38 yX1_estate cX1_estate 2 (some .int) (ws_ yX1_estate cX1_estate 2 (some .int)) rmX1_estate 0 0 1 :=
  cwV 1 hts (lw_V q237 q238 q239 q20 q240) rfl rfl rfl (by decide +kernel) ⟨Nat.le_of_ble_eq_true rfl, Nat.le_of_ble_eq_true rfl⟩
theorem lwX1_creditors {s : State} {args : Array Value} (hts : ∀ w ∈ lw_all, w.before args s = true) : CallW room_1 s args R_law RX1 43 yX1_creditors cX1_creditors 1 (some .int) (ws_ yX1_creditors cX1_creditors 1 (some .int)) rmX1_creditors 0 0 0 :=
  cwV 0 hts (lw_V q241 q242 q243 q20 q244) rfl rfl rfl (by decide +kernel) ⟨Nat.le_of_ble_eq_true rfl, Nat.le_of_ble_eq_true rfl⟩
theorem lwX1_claimOf {s : State} {args : Array Value} (hts : ∀ w ∈ lw_all, w.before args s = true) : CallW room_1 s args R_law RX1 47 yX1_claimOf cX1_claimOf 2 (some .int) (ws_ yX1_claimOf cX1_claimOf 2 (some .int)) rmX1_claimOf 0 0 1 :=
  cwV 1 hts (lw_V q245 q246 q247 q20 q248) rfl rfl rfl (by decide +kernel) ⟨Nat.le_of_ble_eq_true rfl, Nat.le_of_ble_eq_true rfl⟩
theorem lwX1_share {s : State} {args : Array Value} (hts : ∀ w ∈ lw_all, w.before args s = true) : CallW room_1 s args R_law RX1 51 yX1_share cX1_share 2 (some .int) (ws_ yX1_share cX1_share 2 (some .int)) rmX1_share 0 0 1 :=
  cwV 1 hts (lw_V q249 q250 q251 q20 q252) rfl rfl rfl (by decide +kernel) ⟨Nat.le_of_ble_eq_true rfl, Nat.le_of_ble_eq_true rfl⟩
theorem lwX1_shareOf {s : State} {args : Array Value} (hts : ∀ w ∈ lw_all, w.before args s = true) : CallW room_1 s args R_law RX1 55 yX1_shareOf cX1_shareOf 3 (some .int) (ws_ yX1_shareOf cX1_shareOf 3 (some .int)) rmX1_shareOf 0 0 2 :=
  cwV 2 hts (lw_V q269 q270 q271 q20 q272) rfl rfl rfl (by decide +kernel) ⟨Nat.le_of_ble_eq_true rfl, Nat.le_of_ble_eq_true rfl⟩
theorem lwX1_shareUnder {s : State} {args : Array Value} (hts : ∀ w ∈ lw_all, w.before args s = true) : CallW room_1 s args R_law RX1 59 yX1_shareUnder cX1_shareUnder 3 (some .int) (ws_ yX1_shareUnder cX1_shareUnder 3 (some .int)) rmX1_shareUnder 0 0 2 :=
  cwV 2 hts (lw_V q273 q274 q275 q20 q276) rfl rfl rfl (by decide +kernel) ⟨Nat.le_of_ble_eq_true rfl, Nat.le_of_ble_eq_true rfl⟩
theorem lwX1_leastEstate {s : State} {args : Array Value} (hts : ∀ w ∈ lw_all, w.before args s = true) : CallW room_1 s args R_law RX1 63 yX1_leastEstate cX1_leastEstate 5 (some .int) (ws_ yX1_leastEstate cX1_leastEstate 5 (some .int)) rmX1_leastEstate 0 0 2 :=
  cwV 2 hts (lw_V q277 q278 q279 q20 q280) rfl rfl rfl (by decide +kernel) ⟨Nat.le_of_ble_eq_true rfl, Nat.le_of_ble_eq_true rfl⟩
theorem lwX1_claims {s : State} {args : Array Value} (hts : ∀ w ∈ lw_all, w.before args s = true) : CallW room_1 s args R_law RX1 67 yX1_claims cX1_claims 4 (some .int) (ws_ yX1_claims cX1_claims 4 (some .int)) rmX1_claims 0 0 1 :=
  cwV 1 hts (lw_V q281 q282 q283 q20 q284) rfl rfl rfl (by decide +kernel) ⟨Nat.le_of_ble_eq_true rfl, Nat.le_of_ble_eq_true rfl⟩
theorem lwX1_paid {s : State} {args : Array Value} (hts : ∀ w ∈ lw_all, w.before args s = true) : CallW room_1 s args R_law RX1 71 yX1_paid cX1_paid 4 (some .int) (ws_ yX1_paid cX1_paid 4 (some .int)) rmX1_paid 0 0 1 :=
  cwV 1 hts (lw_V q285 q286 q287 q20 q288) rfl rfl rfl (by decide +kernel) ⟨Nat.le_of_ble_eq_true rfl, Nat.le_of_ble_eq_true rfl⟩
theorem lwX1_left {s : State} {args : Array Value} (hts : ∀ w ∈ lw_all, w.before args s = true) : CallW room_1 s args R_law RX1 75 yX1_left cX1_left 1 (some .int) (ws_ yX1_left cX1_left 1 (some .int)) rmX1_left 0 0 0 :=
  cwV 0 hts (lw_V q289 q290 q291 q20 q292) rfl rfl rfl (by decide +kernel) ⟨Nat.le_of_ble_eq_true rfl, Nat.le_of_ble_eq_true rfl⟩
theorem lwX1_next {s : State} {args : Array Value} (hts : ∀ w ∈ lw_all, w.before args s = true) : CallW room_1 s args R_law RX1 79 yX1_next cX1_next 1 (some .int) (ws_ yX1_next cX1_next 1 (some .int)) rmX1_next 0 0 0 :=
  cwV 0 hts (lw_V q293 q294 q295 q20 q296) rfl rfl rfl (by decide +kernel) ⟨Nat.le_of_ble_eq_true rfl, Nat.le_of_ble_eq_true rfl⟩
theorem lwX1_unpaid {s : State} {args : Array Value} (hts : ∀ w ∈ lw_all, w.before args s = true) : CallW room_1 s args R_law RX1 83 yX1_unpaid cX1_unpaid 3 (some .int) (ws_ yX1_unpaid cX1_unpaid 3 (some .int)) rmX1_unpaid 0 0 0 :=
  cwV 0 hts (lw_V q297 q298 q299 q20 q300) rfl rfl rfl (by decide +kernel) ⟨Nat.le_of_ble_eq_true rfl, Nat.le_of_ble_eq_true rfl⟩
theorem lwX1_worst {s : State} {args : Array Value} (hts : ∀ w ∈ lw_all, w.before args s = true) : CallW room_1 s args R_law RX1 87 yX1_worst cX1_worst 3 (some .int) (ws_ yX1_worst cX1_worst 3 (some .int)) rmX1_worst 0 0 0 :=
  cwV 0 hts (lw_V q301 q302 q303 q20 q304) rfl rfl rfl (by decide +kernel) ⟨Nat.le_of_ble_eq_true rfl, Nat.le_of_ble_eq_true rfl⟩
end
section
set_option maxHeartbeats 4000000 in
set_option maxRecDepth 100000 in
/-- the law's loop at its head: both objects hold the same state -/
theorem law_loop {p : Program} {e : Env} {s : State} {m : MethodId} {below : List Frame} {meth : Method} {c : Code} (l : Launch) {b L : Nat} {xs : Nat → Int32} (hL : L ≤ 192) (C0 : lw_At p s m meth c b L xs) {D : va_G} {d : ClassId} (hK : va_K D ip_cl [(d, .int)] s) (a am : Nat → Nat) :
    ∀ (N i : Nat) (Wa Ra Ua Ga La Ea Gm : Nat → Nat) (n pt ov : Nat), ip_AI (Wa, Ra, Ua, n, pt) → i ≤ L + 3 → L + 3 - i < N → ∀ (H : Heap) (locs : List Loc), va_P D ip_cl (pw a d Wa Ra Ua Ga La Ea n pt ov ++ mw am d Wa Ra Ua Gm n pt) H → va_D (fun q : Nat => s.heap.size ≤ q) (pw a d Wa Ra Ua Ga La Ea n pt ov ++ mw am d Wa Ra Ua Gm n pt) → va_S (fun q : Nat => s.heap.size ≤ q) s.heap H locs → ∀ (ls : Array Slot), lv_has ls 4 [(3, .int (nI i)), (0, .ref b), (1, .ref (a 0)), (2, .ref (am 0))] → W p l e room_1 s m #[Value.ref b] below meth c H locs 12 87 (lw_Z below #[Value.ref b] s) (F0 m 18 ls []) := by
  obtain ⟨hx, hb, hr, hml, hown, hts0, hX, hbl, hlocks, hgv⟩ := id C0
  have hts : ∀ w ∈ lw_all, w.before #[Value.ref b] s = true := fun w h => hts0 w (lw_all_tbl h)
  have hA : ∀ q : Nat, s.heap.size ≤ q → (fun q : Nat => s.heap.size ≤ q) q := fun _ h => h
  intro N
  induction N with
  | zero =>
    intro i Wa Ra Ua Ga La Ea Gm n pt ov _ _ hm
    exact absurd hm (Nat.not_lt_zero _)
  | succ N ih =>
    intro i Wa Ra Ua Ga La Ea Gm n pt ov hI hi hm H locs hP hD hS ls hl
    refine lv_iload_n hx hb d_law_18 rfl (lv_at hl 0 rfl) ?_
    refine lv_aload_n hx hb d_law_19 rfl (lv_at hl 1 rfl) ?_
    refine va_slen hx hb hX hbl (Nat.not_le.mpr hbl) hS d_law_20 ?_
    refine lv_iconst (v := nI 3) hx hb d_law_21 (by decide) ?_
    refine lv_isub hx hb d_law_22 ?_
    have e1 : (Int32.ofNat L - nI 3).toInt = (L : Int) - 3 := pk_sub_toInt (a := L) (b := 3) (by omega) (by omega)
    refine z_icmp_gt (tgt := 560) hx hb d_law_23 (by decide) (fun c1 => ?_) (fun c1 => ?_)
    · refine lv_iconst (v := 1) hx hb d_law_560 (by decide) ?_
      refine va_forget (fun q hq => hS.2.2 q hq) ?_
      refine W.widen (k := 600000) (n := 7290000) (Nat.le_of_ble_eq_true rfl) (Nat.le_of_ble_eq_true rfl) ?_
      exact lw_ret hx hb hr hlocks d_law_561
    · rw [e1, nI_toInt (show i < 2 ^ 31 by omega)] at c1
      have hi3 : i + 3 ≤ L := by omega
      have back : ∀ (u : ip_S0) (v : ip_S1), u.1 = v.1 → ip_AI u.1 → ∀ (H : Heap) (locs : List Loc), va_P D ip_cl (pwS a d u ++ mwS am d v) H → va_D (fun q : Nat => s.heap.size ≤ q) (pwS a d u ++ mwS am d v) → va_S (fun q : Nat => s.heap.size ≤ q) s.heap H locs → ∀ (ls : Array Slot), lv_has ls 4 [(3, .int (nI i)), (0, .ref b), (1, .ref (a 0)), (2, .ref (am 0))] → W p l e room_1 s m #[Value.ref b] below meth c H locs 12 87 (lw_Z below #[Value.ref b] s) (F0 m 554 ls []) := by
        intro u v huv hAI H locs hP hD hS ls hl
        obtain ⟨⟨W2, R2, U2, n2, pt2⟩, G2, L2, E2, ov2⟩ := u
        obtain ⟨st2, Gm2⟩ := v
        have huv : (W2, R2, U2, n2, pt2) = st2 := huv
        subst huv
        refine lv_iinc (v := nI (i + 3)) (lv' := [(3, .int (nI (i + 3))), (0, .ref b), (1, .ref (a 0)), (2, .ref (am 0))]) hx hb d_law_554 hl (k := 0) rfl (ip_inc3 i) (by decide) rfl (fun ls hl => ?_)
        refine lv_goto (tgt := 18) hx hb d_law_557 (by decide) ?_
        exact ih (i + 3) W2 R2 U2 G2 L2 E2 Gm2 n2 pt2 ov2 hAI (by omega) (by omega) _ _ hP hD hS ls hl
      refine lv_aload_n hx hb d_law_26 rfl (lv_at hl 1 rfl) ?_
      refine lv_iload_n hx hb d_law_27 rfl (lv_at hl 0 rfl) ?_
      refine lw_sld hx hb hX hbl hS (by omega) hL d_law_28 ?_
      refine lv_bipush (v := nI 31) hx hb d_law_29 (by decide) ?_
      refine lv_iand hx hb d_law_31 ?_
      obtain ⟨j, hj, ej⟩ := pk_andE (xs i) (m := nI 31) 5 (by decide)
      rw [ej]
      by_cases hj18 : 18 ≤ j
      · refine lv_tableOut (tgt := 554) hx hb d_law_32 (by rw [nI_toInt (show j < 2 ^ 31 by omega)]; omega) (by decide) ?_
        exact back ((Wa, Ra, Ua, n, pt), Ga, La, Ea, ov) ((Wa, Ra, Ua, n, pt), Gm) rfl hI _ _ hP hD hS ls hl
      · rcases (show j = 0 ∨ j = 1 ∨ j = 2 ∨ j = 3 ∨ j = 4 ∨ j = 5 ∨ j = 6 ∨ j = 7 ∨ j = 8 ∨ j = 9 ∨ j = 10 ∨ j = 11 ∨ j = 12 ∨ j = 13 ∨ j = 14 ∨ j = 15 ∨ j = 16 ∨ j = 17 by omega) with rfl | rfl | rfl | rfl | rfl | rfl | rfl | rfl | rfl | rfl | rfl | rfl | rfl | rfl | rfl | rfl | rfl | rfl
        · refine lv_tableIn (off := 88) (tgt := 120) hx hb d_law_32 (by decide) (by decide) rfl (by decide) ?_
          refine lv_aload_n hx hb d_law_120 rfl (lv_at hl 2 rfl) ?_
          refine lv_aload_n hx hb d_law_121 rfl (lv_at hl 1 rfl) ?_
          refine lv_iload_n hx hb d_law_122 rfl (lv_at hl 0 rfl) ?_
          refine lv_iconst (v := nI 1) hx hb d_law_123 (by decide) ?_
          refine n_iadd hx hb d_law_124 ?_
          refine lw_sld hx hb hX hbl hS (by omega) hL d_law_125 ?_
          refine lv_aload_n hx hb d_law_126 rfl (lv_at hl 1 rfl) ?_
          refine lv_iload_n hx hb d_law_127 rfl (lv_at hl 0 rfl) ?_
          refine lv_iconst (v := nI 2) hx hb d_law_128 (by decide) ?_
          refine n_iadd hx hb d_law_129 ?_
          refine lw_sld hx hb hX hbl hS (by omega) hL d_law_130 ?_
          refine lw_cP [.int (xs (i + 1)), .int (xs (i + 2))] hx hb hml hown hts hA hK (kX0_add l D d a Wa Ra Ua Ga La Ea n pt ov hI (xs (i + 1)) (xs (i + 2))) (lwX0_add hts) hP hD hS hl.1 rfl (Nat.le_of_ble_eq_true rfl) d_law_131 ⟨Nat.le_of_ble_eq_true rfl, Nat.le_of_ble_eq_true rfl⟩ (fun r1 u H locs hw1 hP hD hS => ?_)
          refine lv_aload_n hx hb d_law_134 rfl (lv_at hl 3 rfl) ?_
          refine lv_aload_n hx hb d_law_135 rfl (lv_at hl 1 rfl) ?_
          refine lv_iload_n hx hb d_law_136 rfl (lv_at hl 0 rfl) ?_
          refine lv_iconst (v := nI 1) hx hb d_law_137 (by decide) ?_
          refine n_iadd hx hb d_law_138 ?_
          refine lw_sld hx hb hX hbl hS (by omega) hL d_law_139 ?_
          refine lv_aload_n hx hb d_law_140 rfl (lv_at hl 1 rfl) ?_
          refine lv_iload_n hx hb d_law_141 rfl (lv_at hl 0 rfl) ?_
          refine lv_iconst (v := nI 2) hx hb d_law_142 (by decide) ?_
          refine n_iadd hx hb d_law_143 ?_
          refine lw_sld hx hb hX hbl hS (by omega) hL d_law_144 ?_
          refine lw_cM [.int (xs (i + 1)), .int (xs (i + 2))] hx hb hml hown hts hA hK (kX1_add l D d am Wa Ra Ua Gm n pt hI (xs (i + 1)) (xs (i + 2))) (lwX1_add hts) hP hD hS hl.1 rfl (Nat.le_of_ble_eq_true rfl) d_law_145 ⟨Nat.le_of_ble_eq_true rfl, Nat.le_of_ble_eq_true rfl⟩ (fun r2 v H locs hw2 hP hD hS => ?_)
          have hr12 : r1 = r2 := congrArg Prod.fst (hw1.trans hw2.symm)
          refine z_icmp_eq (tgt := 554) hx hb d_law_148 (by decide) (fun _ => ?_) (fun c2 => absurd (by rw [hr12]) c2)
          have hu1 : u.1 = (sp_add Wa Ra Ua n pt (xs (i + 1)) (xs (i + 2))).2 := congrArg Prod.snd hw1
          exact back u v (congrArg Prod.snd (hw1.trans hw2.symm)) (by rw [hu1]; exact ok_add hI _ _) _ _ hP hD hS ls hl
        · refine lv_tableIn (off := 121) (tgt := 153) hx hb d_law_32 (by decide) (by decide) rfl (by decide) ?_
          refine lv_aload_n hx hb d_law_153 rfl (lv_at hl 2 rfl) ?_
          refine lv_aload_n hx hb d_law_154 rfl (lv_at hl 1 rfl) ?_
          refine lv_iload_n hx hb d_law_155 rfl (lv_at hl 0 rfl) ?_
          refine lv_iconst (v := nI 1) hx hb d_law_156 (by decide) ?_
          refine n_iadd hx hb d_law_157 ?_
          refine lw_sld hx hb hX hbl hS (by omega) hL d_law_158 ?_
          refine lw_cP [.int (xs (i + 1))] hx hb hml hown hts hA hK (kX0_remove l D d a Wa Ra Ua Ga La Ea n pt ov hI (xs (i + 1))) (lwX0_remove hts) hP hD hS hl.1 rfl (Nat.le_of_ble_eq_true rfl) d_law_159 ⟨Nat.le_of_ble_eq_true rfl, Nat.le_of_ble_eq_true rfl⟩ (fun r1 u H locs hw1 hP hD hS => ?_)
          refine lv_aload_n hx hb d_law_162 rfl (lv_at hl 3 rfl) ?_
          refine lv_aload_n hx hb d_law_163 rfl (lv_at hl 1 rfl) ?_
          refine lv_iload_n hx hb d_law_164 rfl (lv_at hl 0 rfl) ?_
          refine lv_iconst (v := nI 1) hx hb d_law_165 (by decide) ?_
          refine n_iadd hx hb d_law_166 ?_
          refine lw_sld hx hb hX hbl hS (by omega) hL d_law_167 ?_
          refine lw_cM [.int (xs (i + 1))] hx hb hml hown hts hA hK (kX1_remove l D d am Wa Ra Ua Gm n pt hI (xs (i + 1))) (lwX1_remove hts) hP hD hS hl.1 rfl (Nat.le_of_ble_eq_true rfl) d_law_168 ⟨Nat.le_of_ble_eq_true rfl, Nat.le_of_ble_eq_true rfl⟩ (fun r2 v H locs hw2 hP hD hS => ?_)
          have hr12 : r1 = r2 := congrArg Prod.fst (hw1.trans hw2.symm)
          refine z_icmp_eq (tgt := 554) hx hb d_law_171 (by decide) (fun _ => ?_) (fun c2 => absurd (by rw [hr12]) c2)
          have hu1 : u.1 = (sp_remove Wa Ra Ua n pt (xs (i + 1))).2 := congrArg Prod.snd hw1
          exact back u v (congrArg Prod.snd (hw1.trans hw2.symm)) (by rw [hu1]; exact ok_remove hI _) _ _ hP hD hS ls hl
        · refine lv_tableIn (off := 144) (tgt := 176) hx hb d_law_32 (by decide) (by decide) rfl (by decide) ?_
          refine lv_aload_n hx hb d_law_176 rfl (lv_at hl 2 rfl) ?_
          refine lv_aload_n hx hb d_law_177 rfl (lv_at hl 1 rfl) ?_
          refine lv_iload_n hx hb d_law_178 rfl (lv_at hl 0 rfl) ?_
          refine lv_iconst (v := nI 1) hx hb d_law_179 (by decide) ?_
          refine n_iadd hx hb d_law_180 ?_
          refine lw_sld hx hb hX hbl hS (by omega) hL d_law_181 ?_
          refine lv_aload_n hx hb d_law_182 rfl (lv_at hl 1 rfl) ?_
          refine lv_iload_n hx hb d_law_183 rfl (lv_at hl 0 rfl) ?_
          refine lv_iconst (v := nI 2) hx hb d_law_184 (by decide) ?_
          refine n_iadd hx hb d_law_185 ?_
          refine lw_sld hx hb hX hbl hS (by omega) hL d_law_186 ?_
          refine lw_cP [.int (xs (i + 1)), .int (xs (i + 2))] hx hb hml hown hts hA hK (kX0_change l D d a Wa Ra Ua Ga La Ea n pt ov hI (xs (i + 1)) (xs (i + 2))) (lwX0_change hts) hP hD hS hl.1 rfl (Nat.le_of_ble_eq_true rfl) d_law_187 ⟨Nat.le_of_ble_eq_true rfl, Nat.le_of_ble_eq_true rfl⟩ (fun r1 u H locs hw1 hP hD hS => ?_)
          refine lv_aload_n hx hb d_law_190 rfl (lv_at hl 3 rfl) ?_
          refine lv_aload_n hx hb d_law_191 rfl (lv_at hl 1 rfl) ?_
          refine lv_iload_n hx hb d_law_192 rfl (lv_at hl 0 rfl) ?_
          refine lv_iconst (v := nI 1) hx hb d_law_193 (by decide) ?_
          refine n_iadd hx hb d_law_194 ?_
          refine lw_sld hx hb hX hbl hS (by omega) hL d_law_195 ?_
          refine lv_aload_n hx hb d_law_196 rfl (lv_at hl 1 rfl) ?_
          refine lv_iload_n hx hb d_law_197 rfl (lv_at hl 0 rfl) ?_
          refine lv_iconst (v := nI 2) hx hb d_law_198 (by decide) ?_
          refine n_iadd hx hb d_law_199 ?_
          refine lw_sld hx hb hX hbl hS (by omega) hL d_law_200 ?_
          refine lw_cM [.int (xs (i + 1)), .int (xs (i + 2))] hx hb hml hown hts hA hK (kX1_change l D d am Wa Ra Ua Gm n pt hI (xs (i + 1)) (xs (i + 2))) (lwX1_change hts) hP hD hS hl.1 rfl (Nat.le_of_ble_eq_true rfl) d_law_201 ⟨Nat.le_of_ble_eq_true rfl, Nat.le_of_ble_eq_true rfl⟩ (fun r2 v H locs hw2 hP hD hS => ?_)
          have hr12 : r1 = r2 := congrArg Prod.fst (hw1.trans hw2.symm)
          refine z_icmp_eq (tgt := 554) hx hb d_law_204 (by decide) (fun _ => ?_) (fun c2 => absurd (by rw [hr12]) c2)
          have hu1 : u.1 = (sp_change Wa Ra Ua n pt (xs (i + 1)) (xs (i + 2))).2 := congrArg Prod.snd hw1
          exact back u v (congrArg Prod.snd (hw1.trans hw2.symm)) (by rw [hu1]; exact ok_change hI _ _) _ _ hP hD hS ls hl
        · refine lv_tableIn (off := 177) (tgt := 209) hx hb d_law_32 (by decide) (by decide) rfl (by decide) ?_
          refine lv_aload_n hx hb d_law_209 rfl (lv_at hl 2 rfl) ?_
          refine lv_aload_n hx hb d_law_210 rfl (lv_at hl 1 rfl) ?_
          refine lv_iload_n hx hb d_law_211 rfl (lv_at hl 0 rfl) ?_
          refine lv_iconst (v := nI 1) hx hb d_law_212 (by decide) ?_
          refine n_iadd hx hb d_law_213 ?_
          refine lw_sld hx hb hX hbl hS (by omega) hL d_law_214 ?_
          refine lv_aload_n hx hb d_law_215 rfl (lv_at hl 1 rfl) ?_
          refine lv_iload_n hx hb d_law_216 rfl (lv_at hl 0 rfl) ?_
          refine lv_iconst (v := nI 2) hx hb d_law_217 (by decide) ?_
          refine n_iadd hx hb d_law_218 ?_
          refine lw_sld hx hb hX hbl hS (by omega) hL d_law_219 ?_
          refine lw_cP [.int (xs (i + 1)), .int (xs (i + 2))] hx hb hml hown hts hA hK (kX0_move l D d a Wa Ra Ua Ga La Ea n pt ov hI (xs (i + 1)) (xs (i + 2))) (lwX0_move hts) hP hD hS hl.1 rfl (Nat.le_of_ble_eq_true rfl) d_law_220 ⟨Nat.le_of_ble_eq_true rfl, Nat.le_of_ble_eq_true rfl⟩ (fun r1 u H locs hw1 hP hD hS => ?_)
          refine lv_aload_n hx hb d_law_223 rfl (lv_at hl 3 rfl) ?_
          refine lv_aload_n hx hb d_law_224 rfl (lv_at hl 1 rfl) ?_
          refine lv_iload_n hx hb d_law_225 rfl (lv_at hl 0 rfl) ?_
          refine lv_iconst (v := nI 1) hx hb d_law_226 (by decide) ?_
          refine n_iadd hx hb d_law_227 ?_
          refine lw_sld hx hb hX hbl hS (by omega) hL d_law_228 ?_
          refine lv_aload_n hx hb d_law_229 rfl (lv_at hl 1 rfl) ?_
          refine lv_iload_n hx hb d_law_230 rfl (lv_at hl 0 rfl) ?_
          refine lv_iconst (v := nI 2) hx hb d_law_231 (by decide) ?_
          refine n_iadd hx hb d_law_232 ?_
          refine lw_sld hx hb hX hbl hS (by omega) hL d_law_233 ?_
          refine lw_cM [.int (xs (i + 1)), .int (xs (i + 2))] hx hb hml hown hts hA hK (kX1_move l D d am Wa Ra Ua Gm n pt hI (xs (i + 1)) (xs (i + 2))) (lwX1_move hts) hP hD hS hl.1 rfl (Nat.le_of_ble_eq_true rfl) d_law_234 ⟨Nat.le_of_ble_eq_true rfl, Nat.le_of_ble_eq_true rfl⟩ (fun r2 v H locs hw2 hP hD hS => ?_)
          have hr12 : r1 = r2 := congrArg Prod.fst (hw1.trans hw2.symm)
          refine z_icmp_eq (tgt := 554) hx hb d_law_237 (by decide) (fun _ => ?_) (fun c2 => absurd (by rw [hr12]) c2)
          have hu1 : u.1 = (sp_move Wa Ra Ua n pt (xs (i + 1)) (xs (i + 2))).2 := congrArg Prod.snd hw1
          exact back u v (congrArg Prod.snd (hw1.trans hw2.symm)) (by rw [hu1]; exact ok_move hI _ _) _ _ hP hD hS ls hl
        · refine lv_tableIn (off := 210) (tgt := 242) hx hb d_law_32 (by decide) (by decide) rfl (by decide) ?_
          refine lv_aload_n hx hb d_law_242 rfl (lv_at hl 2 rfl) ?_
          refine lv_aload_n hx hb d_law_243 rfl (lv_at hl 1 rfl) ?_
          refine lv_iload_n hx hb d_law_244 rfl (lv_at hl 0 rfl) ?_
          refine lv_iconst (v := nI 1) hx hb d_law_245 (by decide) ?_
          refine n_iadd hx hb d_law_246 ?_
          refine lw_sld hx hb hX hbl hS (by omega) hL d_law_247 ?_
          refine lv_aload_n hx hb d_law_248 rfl (lv_at hl 1 rfl) ?_
          refine lv_iload_n hx hb d_law_249 rfl (lv_at hl 0 rfl) ?_
          refine lv_iconst (v := nI 2) hx hb d_law_250 (by decide) ?_
          refine n_iadd hx hb d_law_251 ?_
          refine lw_sld hx hb hX hbl hS (by omega) hL d_law_252 ?_
          refine lw_cP [.int (xs (i + 1)), .int (xs (i + 2))] hx hb hml hown hts hA hK (kX0_rule l D d a Wa Ra Ua Ga La Ea n pt ov hI (xs (i + 1)) (xs (i + 2))) (lwX0_rule hts) hP hD hS hl.1 rfl (Nat.le_of_ble_eq_true rfl) d_law_253 ⟨Nat.le_of_ble_eq_true rfl, Nat.le_of_ble_eq_true rfl⟩ (fun r1 u H locs hw1 hP hD hS => ?_)
          refine lv_aload_n hx hb d_law_256 rfl (lv_at hl 3 rfl) ?_
          refine lv_aload_n hx hb d_law_257 rfl (lv_at hl 1 rfl) ?_
          refine lv_iload_n hx hb d_law_258 rfl (lv_at hl 0 rfl) ?_
          refine lv_iconst (v := nI 1) hx hb d_law_259 (by decide) ?_
          refine n_iadd hx hb d_law_260 ?_
          refine lw_sld hx hb hX hbl hS (by omega) hL d_law_261 ?_
          refine lv_aload_n hx hb d_law_262 rfl (lv_at hl 1 rfl) ?_
          refine lv_iload_n hx hb d_law_263 rfl (lv_at hl 0 rfl) ?_
          refine lv_iconst (v := nI 2) hx hb d_law_264 (by decide) ?_
          refine n_iadd hx hb d_law_265 ?_
          refine lw_sld hx hb hX hbl hS (by omega) hL d_law_266 ?_
          refine lw_cM [.int (xs (i + 1)), .int (xs (i + 2))] hx hb hml hown hts hA hK (kX1_rule l D d am Wa Ra Ua Gm n pt hI (xs (i + 1)) (xs (i + 2))) (lwX1_rule hts) hP hD hS hl.1 rfl (Nat.le_of_ble_eq_true rfl) d_law_267 ⟨Nat.le_of_ble_eq_true rfl, Nat.le_of_ble_eq_true rfl⟩ (fun r2 v H locs hw2 hP hD hS => ?_)
          have hr12 : r1 = r2 := congrArg Prod.fst (hw1.trans hw2.symm)
          refine z_icmp_eq (tgt := 554) hx hb d_law_270 (by decide) (fun _ => ?_) (fun c2 => absurd (by rw [hr12]) c2)
          have hu1 : u.1 = (sp_rule Wa Ra Ua n pt (xs (i + 1)) (xs (i + 2))).2 := congrArg Prod.snd hw1
          exact back u v (congrArg Prod.snd (hw1.trans hw2.symm)) (by rw [hu1]; exact ok_rule hI _ _) _ _ hP hD hS ls hl
        · refine lv_tableIn (off := 243) (tgt := 275) hx hb d_law_32 (by decide) (by decide) rfl (by decide) ?_
          refine lv_aload_n hx hb d_law_275 rfl (lv_at hl 2 rfl) ?_
          refine lv_aload_n hx hb d_law_276 rfl (lv_at hl 1 rfl) ?_
          refine lv_iload_n hx hb d_law_277 rfl (lv_at hl 0 rfl) ?_
          refine lv_iconst (v := nI 1) hx hb d_law_278 (by decide) ?_
          refine n_iadd hx hb d_law_279 ?_
          refine lw_sld hx hb hX hbl hS (by omega) hL d_law_280 ?_
          refine lw_cP [.int (xs (i + 1))] hx hb hml hown hts hA hK (kX0_estate l D d a Wa Ra Ua Ga La Ea n pt ov hI (xs (i + 1))) (lwX0_estate hts) hP hD hS hl.1 rfl (Nat.le_of_ble_eq_true rfl) d_law_281 ⟨Nat.le_of_ble_eq_true rfl, Nat.le_of_ble_eq_true rfl⟩ (fun r1 u H locs hw1 hP hD hS => ?_)
          refine lv_aload_n hx hb d_law_284 rfl (lv_at hl 3 rfl) ?_
          refine lv_aload_n hx hb d_law_285 rfl (lv_at hl 1 rfl) ?_
          refine lv_iload_n hx hb d_law_286 rfl (lv_at hl 0 rfl) ?_
          refine lv_iconst (v := nI 1) hx hb d_law_287 (by decide) ?_
          refine n_iadd hx hb d_law_288 ?_
          refine lw_sld hx hb hX hbl hS (by omega) hL d_law_289 ?_
          refine lw_cM [.int (xs (i + 1))] hx hb hml hown hts hA hK (kX1_estate l D d am Wa Ra Ua Gm n pt hI (xs (i + 1))) (lwX1_estate hts) hP hD hS hl.1 rfl (Nat.le_of_ble_eq_true rfl) d_law_290 ⟨Nat.le_of_ble_eq_true rfl, Nat.le_of_ble_eq_true rfl⟩ (fun r2 v H locs hw2 hP hD hS => ?_)
          have hr12 : r1 = r2 := congrArg Prod.fst (hw1.trans hw2.symm)
          refine z_icmp_eq (tgt := 554) hx hb d_law_293 (by decide) (fun _ => ?_) (fun c2 => absurd (by rw [hr12]) c2)
          have hu1 : u.1 = (sp_estate Wa Ra Ua n pt (xs (i + 1))).2 := congrArg Prod.snd hw1
          exact back u v (congrArg Prod.snd (hw1.trans hw2.symm)) (by rw [hu1]; exact ok_estate hI _) _ _ hP hD hS ls hl
        · refine lv_tableIn (off := 266) (tgt := 298) hx hb d_law_32 (by decide) (by decide) rfl (by decide) ?_
          refine lv_aload_n hx hb d_law_298 rfl (lv_at hl 2 rfl) ?_
          refine lw_cP [] hx hb hml hown hts hA hK (kX0_creditors l D d a Wa Ra Ua Ga La Ea n pt ov hI ) (lwX0_creditors hts) hP hD hS hl.1 rfl (Nat.le_of_ble_eq_true rfl) d_law_299 ⟨Nat.le_of_ble_eq_true rfl, Nat.le_of_ble_eq_true rfl⟩ (fun r1 u H locs hw1 hP hD hS => ?_)
          refine lv_aload_n hx hb d_law_302 rfl (lv_at hl 3 rfl) ?_
          refine lw_cM [] hx hb hml hown hts hA hK (kX1_creditors l D d am Wa Ra Ua Gm n pt hI ) (lwX1_creditors hts) hP hD hS hl.1 rfl (Nat.le_of_ble_eq_true rfl) d_law_303 ⟨Nat.le_of_ble_eq_true rfl, Nat.le_of_ble_eq_true rfl⟩ (fun r2 v H locs hw2 hP hD hS => ?_)
          have hr12 : r1 = r2 := congrArg Prod.fst (hw1.trans hw2.symm)
          refine z_icmp_eq (tgt := 554) hx hb d_law_306 (by decide) (fun _ => ?_) (fun c2 => absurd (by rw [hr12]) c2)
          have hu1 : u.1 = (sp_creditors Wa Ra Ua n pt ).2 := congrArg Prod.snd hw1
          exact back u v (congrArg Prod.snd (hw1.trans hw2.symm)) (by rw [hu1]; exact ok_creditors hI ) _ _ hP hD hS ls hl
        · refine lv_tableIn (off := 279) (tgt := 311) hx hb d_law_32 (by decide) (by decide) rfl (by decide) ?_
          refine lv_aload_n hx hb d_law_311 rfl (lv_at hl 2 rfl) ?_
          refine lv_aload_n hx hb d_law_312 rfl (lv_at hl 1 rfl) ?_
          refine lv_iload_n hx hb d_law_313 rfl (lv_at hl 0 rfl) ?_
          refine lv_iconst (v := nI 1) hx hb d_law_314 (by decide) ?_
          refine n_iadd hx hb d_law_315 ?_
          refine lw_sld hx hb hX hbl hS (by omega) hL d_law_316 ?_
          refine lw_cP [.int (xs (i + 1))] hx hb hml hown hts hA hK (kX0_claimOf l D d a Wa Ra Ua Ga La Ea n pt ov hI (xs (i + 1))) (lwX0_claimOf hts) hP hD hS hl.1 rfl (Nat.le_of_ble_eq_true rfl) d_law_317 ⟨Nat.le_of_ble_eq_true rfl, Nat.le_of_ble_eq_true rfl⟩ (fun r1 u H locs hw1 hP hD hS => ?_)
          refine lv_aload_n hx hb d_law_320 rfl (lv_at hl 3 rfl) ?_
          refine lv_aload_n hx hb d_law_321 rfl (lv_at hl 1 rfl) ?_
          refine lv_iload_n hx hb d_law_322 rfl (lv_at hl 0 rfl) ?_
          refine lv_iconst (v := nI 1) hx hb d_law_323 (by decide) ?_
          refine n_iadd hx hb d_law_324 ?_
          refine lw_sld hx hb hX hbl hS (by omega) hL d_law_325 ?_
          refine lw_cM [.int (xs (i + 1))] hx hb hml hown hts hA hK (kX1_claimOf l D d am Wa Ra Ua Gm n pt hI (xs (i + 1))) (lwX1_claimOf hts) hP hD hS hl.1 rfl (Nat.le_of_ble_eq_true rfl) d_law_326 ⟨Nat.le_of_ble_eq_true rfl, Nat.le_of_ble_eq_true rfl⟩ (fun r2 v H locs hw2 hP hD hS => ?_)
          have hr12 : r1 = r2 := congrArg Prod.fst (hw1.trans hw2.symm)
          refine z_icmp_eq (tgt := 554) hx hb d_law_329 (by decide) (fun _ => ?_) (fun c2 => absurd (by rw [hr12]) c2)
          have hu1 : u.1 = (sp_claimOf Wa Ra Ua n pt (xs (i + 1))).2 := congrArg Prod.snd hw1
          exact back u v (congrArg Prod.snd (hw1.trans hw2.symm)) (by rw [hu1]; exact ok_claimOf hI _) _ _ hP hD hS ls hl
        · refine lv_tableIn (off := 302) (tgt := 334) hx hb d_law_32 (by decide) (by decide) rfl (by decide) ?_
          refine lv_aload_n hx hb d_law_334 rfl (lv_at hl 2 rfl) ?_
          refine lv_aload_n hx hb d_law_335 rfl (lv_at hl 1 rfl) ?_
          refine lv_iload_n hx hb d_law_336 rfl (lv_at hl 0 rfl) ?_
          refine lv_iconst (v := nI 1) hx hb d_law_337 (by decide) ?_
          refine n_iadd hx hb d_law_338 ?_
          refine lw_sld hx hb hX hbl hS (by omega) hL d_law_339 ?_
          refine lw_cP [.int (xs (i + 1))] hx hb hml hown hts hA hK (kX0_share l D d a Wa Ra Ua Ga La Ea n pt ov hI (xs (i + 1))) (lwX0_share hts) hP hD hS hl.1 rfl (Nat.le_of_ble_eq_true rfl) d_law_340 ⟨Nat.le_of_ble_eq_true rfl, Nat.le_of_ble_eq_true rfl⟩ (fun r1 u H locs hw1 hP hD hS => ?_)
          refine lv_aload_n hx hb d_law_343 rfl (lv_at hl 3 rfl) ?_
          refine lv_aload_n hx hb d_law_344 rfl (lv_at hl 1 rfl) ?_
          refine lv_iload_n hx hb d_law_345 rfl (lv_at hl 0 rfl) ?_
          refine lv_iconst (v := nI 1) hx hb d_law_346 (by decide) ?_
          refine n_iadd hx hb d_law_347 ?_
          refine lw_sld hx hb hX hbl hS (by omega) hL d_law_348 ?_
          refine lw_cM [.int (xs (i + 1))] hx hb hml hown hts hA hK (kX1_share l D d am Wa Ra Ua Gm n pt hI (xs (i + 1))) (lwX1_share hts) hP hD hS hl.1 rfl (Nat.le_of_ble_eq_true rfl) d_law_349 ⟨Nat.le_of_ble_eq_true rfl, Nat.le_of_ble_eq_true rfl⟩ (fun r2 v H locs hw2 hP hD hS => ?_)
          have hr12 : r1 = r2 := congrArg Prod.fst (hw1.trans hw2.symm)
          refine z_icmp_eq (tgt := 554) hx hb d_law_352 (by decide) (fun _ => ?_) (fun c2 => absurd (by rw [hr12]) c2)
          have hu1 : u.1 = (sp_share Wa Ra Ua n pt (xs (i + 1))).2 := congrArg Prod.snd hw1
          exact back u v (congrArg Prod.snd (hw1.trans hw2.symm)) (by rw [hu1]; exact ok_share hI _) _ _ hP hD hS ls hl
        · refine lv_tableIn (off := 325) (tgt := 357) hx hb d_law_32 (by decide) (by decide) rfl (by decide) ?_
          refine lv_aload_n hx hb d_law_357 rfl (lv_at hl 2 rfl) ?_
          refine lv_aload_n hx hb d_law_358 rfl (lv_at hl 1 rfl) ?_
          refine lv_iload_n hx hb d_law_359 rfl (lv_at hl 0 rfl) ?_
          refine lv_iconst (v := nI 1) hx hb d_law_360 (by decide) ?_
          refine n_iadd hx hb d_law_361 ?_
          refine lw_sld hx hb hX hbl hS (by omega) hL d_law_362 ?_
          refine lv_aload_n hx hb d_law_363 rfl (lv_at hl 1 rfl) ?_
          refine lv_iload_n hx hb d_law_364 rfl (lv_at hl 0 rfl) ?_
          refine lv_iconst (v := nI 2) hx hb d_law_365 (by decide) ?_
          refine n_iadd hx hb d_law_366 ?_
          refine lw_sld hx hb hX hbl hS (by omega) hL d_law_367 ?_
          refine lw_cP [.int (xs (i + 1)), .int (xs (i + 2))] hx hb hml hown hts hA hK (kX0_shareOf l D d a Wa Ra Ua Ga La Ea n pt ov hI (xs (i + 1)) (xs (i + 2))) (lwX0_shareOf hts) hP hD hS hl.1 rfl (Nat.le_of_ble_eq_true rfl) d_law_368 ⟨Nat.le_of_ble_eq_true rfl, Nat.le_of_ble_eq_true rfl⟩ (fun r1 u H locs hw1 hP hD hS => ?_)
          refine lv_aload_n hx hb d_law_371 rfl (lv_at hl 3 rfl) ?_
          refine lv_aload_n hx hb d_law_372 rfl (lv_at hl 1 rfl) ?_
          refine lv_iload_n hx hb d_law_373 rfl (lv_at hl 0 rfl) ?_
          refine lv_iconst (v := nI 1) hx hb d_law_374 (by decide) ?_
          refine n_iadd hx hb d_law_375 ?_
          refine lw_sld hx hb hX hbl hS (by omega) hL d_law_376 ?_
          refine lv_aload_n hx hb d_law_377 rfl (lv_at hl 1 rfl) ?_
          refine lv_iload_n hx hb d_law_378 rfl (lv_at hl 0 rfl) ?_
          refine lv_iconst (v := nI 2) hx hb d_law_379 (by decide) ?_
          refine n_iadd hx hb d_law_380 ?_
          refine lw_sld hx hb hX hbl hS (by omega) hL d_law_381 ?_
          refine lw_cM [.int (xs (i + 1)), .int (xs (i + 2))] hx hb hml hown hts hA hK (kX1_shareOf l D d am Wa Ra Ua Gm n pt hI (xs (i + 1)) (xs (i + 2))) (lwX1_shareOf hts) hP hD hS hl.1 rfl (Nat.le_of_ble_eq_true rfl) d_law_382 ⟨Nat.le_of_ble_eq_true rfl, Nat.le_of_ble_eq_true rfl⟩ (fun r2 v H locs hw2 hP hD hS => ?_)
          have hr12 : r1 = r2 := congrArg Prod.fst (hw1.trans hw2.symm)
          refine z_icmp_eq (tgt := 554) hx hb d_law_385 (by decide) (fun _ => ?_) (fun c2 => absurd (by rw [hr12]) c2)
          have hu1 : u.1 = (sp_shareOf Wa Ra Ua n pt (xs (i + 1)) (xs (i + 2))).2 := congrArg Prod.snd hw1
          exact back u v (congrArg Prod.snd (hw1.trans hw2.symm)) (by rw [hu1]; exact ok_shareOf hI _ _) _ _ hP hD hS ls hl
        · refine lv_tableIn (off := 358) (tgt := 390) hx hb d_law_32 (by decide) (by decide) rfl (by decide) ?_
          refine lv_aload_n hx hb d_law_390 rfl (lv_at hl 2 rfl) ?_
          refine lv_aload_n hx hb d_law_391 rfl (lv_at hl 1 rfl) ?_
          refine lv_iload_n hx hb d_law_392 rfl (lv_at hl 0 rfl) ?_
          refine lv_iconst (v := nI 1) hx hb d_law_393 (by decide) ?_
          refine n_iadd hx hb d_law_394 ?_
          refine lw_sld hx hb hX hbl hS (by omega) hL d_law_395 ?_
          refine lv_aload_n hx hb d_law_396 rfl (lv_at hl 1 rfl) ?_
          refine lv_iload_n hx hb d_law_397 rfl (lv_at hl 0 rfl) ?_
          refine lv_iconst (v := nI 2) hx hb d_law_398 (by decide) ?_
          refine n_iadd hx hb d_law_399 ?_
          refine lw_sld hx hb hX hbl hS (by omega) hL d_law_400 ?_
          refine lw_cP [.int (xs (i + 1)), .int (xs (i + 2))] hx hb hml hown hts hA hK (kX0_shareUnder l D d a Wa Ra Ua Ga La Ea n pt ov hI (xs (i + 1)) (xs (i + 2))) (lwX0_shareUnder hts) hP hD hS hl.1 rfl (Nat.le_of_ble_eq_true rfl) d_law_401 ⟨Nat.le_of_ble_eq_true rfl, Nat.le_of_ble_eq_true rfl⟩ (fun r1 u H locs hw1 hP hD hS => ?_)
          refine lv_aload_n hx hb d_law_404 rfl (lv_at hl 3 rfl) ?_
          refine lv_aload_n hx hb d_law_405 rfl (lv_at hl 1 rfl) ?_
          refine lv_iload_n hx hb d_law_406 rfl (lv_at hl 0 rfl) ?_
          refine lv_iconst (v := nI 1) hx hb d_law_407 (by decide) ?_
          refine n_iadd hx hb d_law_408 ?_
          refine lw_sld hx hb hX hbl hS (by omega) hL d_law_409 ?_
          refine lv_aload_n hx hb d_law_410 rfl (lv_at hl 1 rfl) ?_
          refine lv_iload_n hx hb d_law_411 rfl (lv_at hl 0 rfl) ?_
          refine lv_iconst (v := nI 2) hx hb d_law_412 (by decide) ?_
          refine n_iadd hx hb d_law_413 ?_
          refine lw_sld hx hb hX hbl hS (by omega) hL d_law_414 ?_
          refine lw_cM [.int (xs (i + 1)), .int (xs (i + 2))] hx hb hml hown hts hA hK (kX1_shareUnder l D d am Wa Ra Ua Gm n pt hI (xs (i + 1)) (xs (i + 2))) (lwX1_shareUnder hts) hP hD hS hl.1 rfl (Nat.le_of_ble_eq_true rfl) d_law_415 ⟨Nat.le_of_ble_eq_true rfl, Nat.le_of_ble_eq_true rfl⟩ (fun r2 v H locs hw2 hP hD hS => ?_)
          have hr12 : r1 = r2 := congrArg Prod.fst (hw1.trans hw2.symm)
          refine z_icmp_eq (tgt := 554) hx hb d_law_418 (by decide) (fun _ => ?_) (fun c2 => absurd (by rw [hr12]) c2)
          have hu1 : u.1 = (sp_shareUnder Wa Ra Ua n pt (xs (i + 1)) (xs (i + 2))).2 := congrArg Prod.snd hw1
          exact back u v (congrArg Prod.snd (hw1.trans hw2.symm)) (by rw [hu1]; exact ok_shareUnder hI _ _) _ _ hP hD hS ls hl
        · refine lv_tableIn (off := 391) (tgt := 423) hx hb d_law_32 (by decide) (by decide) rfl (by decide) ?_
          refine lv_aload_n hx hb d_law_423 rfl (lv_at hl 2 rfl) ?_
          refine lv_aload_n hx hb d_law_424 rfl (lv_at hl 1 rfl) ?_
          refine lv_iload_n hx hb d_law_425 rfl (lv_at hl 0 rfl) ?_
          refine lv_iconst (v := nI 1) hx hb d_law_426 (by decide) ?_
          refine n_iadd hx hb d_law_427 ?_
          refine lw_sld hx hb hX hbl hS (by omega) hL d_law_428 ?_
          refine lv_aload_n hx hb d_law_429 rfl (lv_at hl 1 rfl) ?_
          refine lv_iload_n hx hb d_law_430 rfl (lv_at hl 0 rfl) ?_
          refine lv_iconst (v := nI 2) hx hb d_law_431 (by decide) ?_
          refine n_iadd hx hb d_law_432 ?_
          refine lw_sld hx hb hX hbl hS (by omega) hL d_law_433 ?_
          refine lw_cP [.int (xs (i + 1)), .int (xs (i + 2))] hx hb hml hown hts hA hK (kX0_leastEstate l D d a Wa Ra Ua Ga La Ea n pt ov hI (xs (i + 1)) (xs (i + 2))) (lwX0_leastEstate hts) hP hD hS hl.1 rfl (Nat.le_of_ble_eq_true rfl) d_law_434 ⟨Nat.le_of_ble_eq_true rfl, Nat.le_of_ble_eq_true rfl⟩ (fun r1 u H locs hw1 hP hD hS => ?_)
          refine lv_aload_n hx hb d_law_437 rfl (lv_at hl 3 rfl) ?_
          refine lv_aload_n hx hb d_law_438 rfl (lv_at hl 1 rfl) ?_
          refine lv_iload_n hx hb d_law_439 rfl (lv_at hl 0 rfl) ?_
          refine lv_iconst (v := nI 1) hx hb d_law_440 (by decide) ?_
          refine n_iadd hx hb d_law_441 ?_
          refine lw_sld hx hb hX hbl hS (by omega) hL d_law_442 ?_
          refine lv_aload_n hx hb d_law_443 rfl (lv_at hl 1 rfl) ?_
          refine lv_iload_n hx hb d_law_444 rfl (lv_at hl 0 rfl) ?_
          refine lv_iconst (v := nI 2) hx hb d_law_445 (by decide) ?_
          refine n_iadd hx hb d_law_446 ?_
          refine lw_sld hx hb hX hbl hS (by omega) hL d_law_447 ?_
          refine lw_cM [.int (xs (i + 1)), .int (xs (i + 2))] hx hb hml hown hts hA hK (kX1_leastEstate l D d am Wa Ra Ua Gm n pt hI (xs (i + 1)) (xs (i + 2))) (lwX1_leastEstate hts) hP hD hS hl.1 rfl (Nat.le_of_ble_eq_true rfl) d_law_448 ⟨Nat.le_of_ble_eq_true rfl, Nat.le_of_ble_eq_true rfl⟩ (fun r2 v H locs hw2 hP hD hS => ?_)
          have hr12 : r1 = r2 := congrArg Prod.fst (hw1.trans hw2.symm)
          refine z_icmp_eq (tgt := 554) hx hb d_law_451 (by decide) (fun _ => ?_) (fun c2 => absurd (by rw [hr12]) c2)
          have hu1 : u.1 = (sp_leastEstate Wa Ra Ua n pt (xs (i + 1)) (xs (i + 2))).2 := congrArg Prod.snd hw1
          exact back u v (congrArg Prod.snd (hw1.trans hw2.symm)) (by rw [hu1]; exact ok_leastEstate hI _ _) _ _ hP hD hS ls hl
        · refine lv_tableIn (off := 424) (tgt := 456) hx hb d_law_32 (by decide) (by decide) rfl (by decide) ?_
          refine lv_aload_n hx hb d_law_456 rfl (lv_at hl 2 rfl) ?_
          refine lv_aload_n hx hb d_law_457 rfl (lv_at hl 1 rfl) ?_
          refine lv_iload_n hx hb d_law_458 rfl (lv_at hl 0 rfl) ?_
          refine lv_iconst (v := nI 1) hx hb d_law_459 (by decide) ?_
          refine n_iadd hx hb d_law_460 ?_
          refine lw_sld hx hb hX hbl hS (by omega) hL d_law_461 ?_
          refine lw_cP [.int (xs (i + 1))] hx hb hml hown hts hA hK (kX0_claims l D d a Wa Ra Ua Ga La Ea n pt ov hI (xs (i + 1))) (lwX0_claims hts) hP hD hS hl.1 rfl (Nat.le_of_ble_eq_true rfl) d_law_462 ⟨Nat.le_of_ble_eq_true rfl, Nat.le_of_ble_eq_true rfl⟩ (fun r1 u H locs hw1 hP hD hS => ?_)
          refine lv_aload_n hx hb d_law_465 rfl (lv_at hl 3 rfl) ?_
          refine lv_aload_n hx hb d_law_466 rfl (lv_at hl 1 rfl) ?_
          refine lv_iload_n hx hb d_law_467 rfl (lv_at hl 0 rfl) ?_
          refine lv_iconst (v := nI 1) hx hb d_law_468 (by decide) ?_
          refine n_iadd hx hb d_law_469 ?_
          refine lw_sld hx hb hX hbl hS (by omega) hL d_law_470 ?_
          refine lw_cM [.int (xs (i + 1))] hx hb hml hown hts hA hK (kX1_claims l D d am Wa Ra Ua Gm n pt hI (xs (i + 1))) (lwX1_claims hts) hP hD hS hl.1 rfl (Nat.le_of_ble_eq_true rfl) d_law_471 ⟨Nat.le_of_ble_eq_true rfl, Nat.le_of_ble_eq_true rfl⟩ (fun r2 v H locs hw2 hP hD hS => ?_)
          have hr12 : r1 = r2 := congrArg Prod.fst (hw1.trans hw2.symm)
          refine z_icmp_eq (tgt := 554) hx hb d_law_474 (by decide) (fun _ => ?_) (fun c2 => absurd (by rw [hr12]) c2)
          have hu1 : u.1 = (sp_claims Wa Ra Ua n pt (xs (i + 1))).2 := congrArg Prod.snd hw1
          exact back u v (congrArg Prod.snd (hw1.trans hw2.symm)) (by rw [hu1]; exact ok_claims hI _) _ _ hP hD hS ls hl
        · refine lv_tableIn (off := 447) (tgt := 479) hx hb d_law_32 (by decide) (by decide) rfl (by decide) ?_
          refine lv_aload_n hx hb d_law_479 rfl (lv_at hl 2 rfl) ?_
          refine lv_aload_n hx hb d_law_480 rfl (lv_at hl 1 rfl) ?_
          refine lv_iload_n hx hb d_law_481 rfl (lv_at hl 0 rfl) ?_
          refine lv_iconst (v := nI 1) hx hb d_law_482 (by decide) ?_
          refine n_iadd hx hb d_law_483 ?_
          refine lw_sld hx hb hX hbl hS (by omega) hL d_law_484 ?_
          refine lw_cP [.int (xs (i + 1))] hx hb hml hown hts hA hK (kX0_paid l D d a Wa Ra Ua Ga La Ea n pt ov hI (xs (i + 1))) (lwX0_paid hts) hP hD hS hl.1 rfl (Nat.le_of_ble_eq_true rfl) d_law_485 ⟨Nat.le_of_ble_eq_true rfl, Nat.le_of_ble_eq_true rfl⟩ (fun r1 u H locs hw1 hP hD hS => ?_)
          refine lv_aload_n hx hb d_law_488 rfl (lv_at hl 3 rfl) ?_
          refine lv_aload_n hx hb d_law_489 rfl (lv_at hl 1 rfl) ?_
          refine lv_iload_n hx hb d_law_490 rfl (lv_at hl 0 rfl) ?_
          refine lv_iconst (v := nI 1) hx hb d_law_491 (by decide) ?_
          refine n_iadd hx hb d_law_492 ?_
          refine lw_sld hx hb hX hbl hS (by omega) hL d_law_493 ?_
          refine lw_cM [.int (xs (i + 1))] hx hb hml hown hts hA hK (kX1_paid l D d am Wa Ra Ua Gm n pt hI (xs (i + 1))) (lwX1_paid hts) hP hD hS hl.1 rfl (Nat.le_of_ble_eq_true rfl) d_law_494 ⟨Nat.le_of_ble_eq_true rfl, Nat.le_of_ble_eq_true rfl⟩ (fun r2 v H locs hw2 hP hD hS => ?_)
          have hr12 : r1 = r2 := congrArg Prod.fst (hw1.trans hw2.symm)
          refine z_icmp_eq (tgt := 554) hx hb d_law_497 (by decide) (fun _ => ?_) (fun c2 => absurd (by rw [hr12]) c2)
          have hu1 : u.1 = (sp_paid Wa Ra Ua n pt (xs (i + 1))).2 := congrArg Prod.snd hw1
          exact back u v (congrArg Prod.snd (hw1.trans hw2.symm)) (by rw [hu1]; exact ok_paid hI _) _ _ hP hD hS ls hl
        · refine lv_tableIn (off := 470) (tgt := 502) hx hb d_law_32 (by decide) (by decide) rfl (by decide) ?_
          refine lv_aload_n hx hb d_law_502 rfl (lv_at hl 2 rfl) ?_
          refine lw_cP [] hx hb hml hown hts hA hK (kX0_left l D d a Wa Ra Ua Ga La Ea n pt ov hI ) (lwX0_left hts) hP hD hS hl.1 rfl (Nat.le_of_ble_eq_true rfl) d_law_503 ⟨Nat.le_of_ble_eq_true rfl, Nat.le_of_ble_eq_true rfl⟩ (fun r1 u H locs hw1 hP hD hS => ?_)
          refine lv_aload_n hx hb d_law_506 rfl (lv_at hl 3 rfl) ?_
          refine lw_cM [] hx hb hml hown hts hA hK (kX1_left l D d am Wa Ra Ua Gm n pt hI ) (lwX1_left hts) hP hD hS hl.1 rfl (Nat.le_of_ble_eq_true rfl) d_law_507 ⟨Nat.le_of_ble_eq_true rfl, Nat.le_of_ble_eq_true rfl⟩ (fun r2 v H locs hw2 hP hD hS => ?_)
          have hr12 : r1 = r2 := congrArg Prod.fst (hw1.trans hw2.symm)
          refine z_icmp_eq (tgt := 554) hx hb d_law_510 (by decide) (fun _ => ?_) (fun c2 => absurd (by rw [hr12]) c2)
          have hu1 : u.1 = (sp_left Wa Ra Ua n pt ).2 := congrArg Prod.snd hw1
          exact back u v (congrArg Prod.snd (hw1.trans hw2.symm)) (by rw [hu1]; exact ok_left hI ) _ _ hP hD hS ls hl
        · refine lv_tableIn (off := 483) (tgt := 515) hx hb d_law_32 (by decide) (by decide) rfl (by decide) ?_
          refine lv_aload_n hx hb d_law_515 rfl (lv_at hl 2 rfl) ?_
          refine lw_cP [] hx hb hml hown hts hA hK (kX0_next l D d a Wa Ra Ua Ga La Ea n pt ov hI ) (lwX0_next hts) hP hD hS hl.1 rfl (Nat.le_of_ble_eq_true rfl) d_law_516 ⟨Nat.le_of_ble_eq_true rfl, Nat.le_of_ble_eq_true rfl⟩ (fun r1 u H locs hw1 hP hD hS => ?_)
          refine lv_aload_n hx hb d_law_519 rfl (lv_at hl 3 rfl) ?_
          refine lw_cM [] hx hb hml hown hts hA hK (kX1_next l D d am Wa Ra Ua Gm n pt hI ) (lwX1_next hts) hP hD hS hl.1 rfl (Nat.le_of_ble_eq_true rfl) d_law_520 ⟨Nat.le_of_ble_eq_true rfl, Nat.le_of_ble_eq_true rfl⟩ (fun r2 v H locs hw2 hP hD hS => ?_)
          have hr12 : r1 = r2 := congrArg Prod.fst (hw1.trans hw2.symm)
          refine z_icmp_eq (tgt := 554) hx hb d_law_523 (by decide) (fun _ => ?_) (fun c2 => absurd (by rw [hr12]) c2)
          have hu1 : u.1 = (sp_next Wa Ra Ua n pt ).2 := congrArg Prod.snd hw1
          exact back u v (congrArg Prod.snd (hw1.trans hw2.symm)) (by rw [hu1]; exact ok_next hI ) _ _ hP hD hS ls hl
        · refine lv_tableIn (off := 496) (tgt := 528) hx hb d_law_32 (by decide) (by decide) rfl (by decide) ?_
          refine lv_aload_n hx hb d_law_528 rfl (lv_at hl 2 rfl) ?_
          refine lw_cP [] hx hb hml hown hts hA hK (kX0_unpaid l D d a Wa Ra Ua Ga La Ea n pt ov hI ) (lwX0_unpaid hts) hP hD hS hl.1 rfl (Nat.le_of_ble_eq_true rfl) d_law_529 ⟨Nat.le_of_ble_eq_true rfl, Nat.le_of_ble_eq_true rfl⟩ (fun r1 u H locs hw1 hP hD hS => ?_)
          refine lv_aload_n hx hb d_law_532 rfl (lv_at hl 3 rfl) ?_
          refine lw_cM [] hx hb hml hown hts hA hK (kX1_unpaid l D d am Wa Ra Ua Gm n pt hI ) (lwX1_unpaid hts) hP hD hS hl.1 rfl (Nat.le_of_ble_eq_true rfl) d_law_533 ⟨Nat.le_of_ble_eq_true rfl, Nat.le_of_ble_eq_true rfl⟩ (fun r2 v H locs hw2 hP hD hS => ?_)
          have hr12 : r1 = r2 := congrArg Prod.fst (hw1.trans hw2.symm)
          refine z_icmp_eq (tgt := 554) hx hb d_law_536 (by decide) (fun _ => ?_) (fun c2 => absurd (by rw [hr12]) c2)
          have hu1 : u.1 = (sp_unpaid Wa Ra Ua n pt ).2 := congrArg Prod.snd hw1
          exact back u v (congrArg Prod.snd (hw1.trans hw2.symm)) (by rw [hu1]; exact ok_unpaid hI ) _ _ hP hD hS ls hl
        · refine lv_tableIn (off := 509) (tgt := 541) hx hb d_law_32 (by decide) (by decide) rfl (by decide) ?_
          refine lv_aload_n hx hb d_law_541 rfl (lv_at hl 2 rfl) ?_
          refine lw_cP [] hx hb hml hown hts hA hK (kX0_worst l D d a Wa Ra Ua Ga La Ea n pt ov hI ) (lwX0_worst hts) hP hD hS hl.1 rfl (Nat.le_of_ble_eq_true rfl) d_law_542 ⟨Nat.le_of_ble_eq_true rfl, Nat.le_of_ble_eq_true rfl⟩ (fun r1 u H locs hw1 hP hD hS => ?_)
          refine lv_aload_n hx hb d_law_545 rfl (lv_at hl 3 rfl) ?_
          refine lw_cM [] hx hb hml hown hts hA hK (kX1_worst l D d am Wa Ra Ua Gm n pt hI ) (lwX1_worst hts) hP hD hS hl.1 rfl (Nat.le_of_ble_eq_true rfl) d_law_546 ⟨Nat.le_of_ble_eq_true rfl, Nat.le_of_ble_eq_true rfl⟩ (fun r2 v H locs hw2 hP hD hS => ?_)
          have hr12 : r1 = r2 := congrArg Prod.fst (hw1.trans hw2.symm)
          refine z_icmp_eq (tgt := 554) hx hb d_law_549 (by decide) (fun _ => ?_) (fun c2 => absurd (by rw [hr12]) c2)
          have hu1 : u.1 = (sp_worst Wa Ra Ua n pt ).2 := congrArg Prod.snd hw1
          exact back u v (congrArg Prod.snd (hw1.trans hw2.symm)) (by rw [hu1]; exact ok_worst hI ) _ _ hP hD hS ls hl
end
section
set_option maxHeartbeats 4000000 in
set_option maxRecDepth 100000 in
/-- from the entry, for every script of at most 192 ints, the law comes to its end with true -/
theorem whole_start {p : Program} {e : Env} {s : State} {m : MethodId} {below : List Frame} {meth : Method} {c : Code} (l : Launch) {b L : Nat} {xs : Nat → Int32} (hL : L ≤ 192) (C0 : lw_At p s m meth c b L xs) : W p l e room_1 s m #[Value.ref b] below meth c s.heap [] 0 0 (lw_Z below #[Value.ref b] s) (entryFrame m ([Value.ref b] : List Value).toArray 4) := by
  obtain ⟨hx, hb, hr, hml, hown, hts0, hX, hbl, hlocks, hgv⟩ := id C0
  have hts : ∀ w ∈ lw_all, w.before #[Value.ref b] s = true := fun w h => hts0 w (lw_all_tbl h)
  have hA : ∀ q : Nat, s.heap.size ≤ q → (fun q : Nat => s.heap.size ≤ q) q := fun _ h => h
  obtain ⟨c0, iS0, hKn0⟩ := u_known (C := RX0) (T := TX0) (N := 9) (n := 9) hts in_X0 (hts _ q22)
  obtain ⟨c1, iS1, hKn1⟩ := u_known (C := RX1) (T := TX1) (N := 6) (n := 6) hts in_X1 (hts _ q181)
  obtain ⟨D, hKc⟩ : ∃ D : va_G, ∀ (k : Nat) (q : vw_C), ip_cl[k]? = some q → u_Kn s q.1 q.2.1 q.2.2 (D.1 k) (D.2 k) := by
    refine ⟨(fun k => if k = 0 then c0 else c1, fun k => if k = 0 then iS0 else iS1), ?_⟩
    intro k q hq
    match k, hq with
    | 0, hq => cases hq; exact hKn0
    | 1, hq => cases hq; exact hKn1
    | k + 2, hq => simp [ip_cl] at hq
  have hS : va_S (fun q : Nat => s.heap.size ≤ q) s.heap s.heap [] := va_S.rf
  have hK : va_K D ip_cl [] s := ⟨hKc, fun k q h => by simp at h⟩
  have hP : va_P D ip_cl [] s.heap := fun k q h => by simp at h
  have hD : va_D (fun q : Nat => s.heap.size ≤ q) [] := ⟨fun i j p q h => by simp at h, fun k q h => by simp at h⟩
  have hl := lv_entry ([.ref b]) (n := 4) (Nat.le_of_ble_eq_true rfl)
  rw [lg_entry_eq]
  generalize (lg_sl ([.ref b]) ++ List.replicate (4 - (lg_sl ([.ref b])).length) Slot.unset).toArray = ls at hl ⊢
  have hl : lv_has ls 4 [(0, .ref b)] := hl
  refine va_new (ci := 0) (fs := [.null, .null, .null, .null, .null, .null, .int 0, .int 0, .int 0]) (C := RX0) (T := TX0) (N := 9) hx hb hts in_X0 tyX0 tyX0_ok hown (hts _ q21) (hts _ q22) (hts _ q19) hK hP hD hS hA rfl (fun j hj => by rcases (show j = 0 ∨ j = 1 ∨ j = 2 ∨ j = 3 ∨ j = 4 ∨ j = 5 ∨ j = 6 ∨ j = 7 ∨ j = 8 by omega) with rfl | rfl | rfl | rfl | rfl | rfl | rfl | rfl | rfl <;> rfl) (Nat.le_of_ble_eq_true rfl) (Nat.le_of_ble_eq_true rfl) d_law_0 (fun q0 H hP hD hS => ?_)
  have hP : va_P D ip_cl (w0X0 q0) H := hP
  have hD : va_D (fun q : Nat => s.heap.size ≤ q) (w0X0 q0) := hD
  refine W.widen (k := 1) (n := 9) (Nat.le_of_ble_eq_true rfl) (Nat.le_of_ble_eq_true rfl) ?_
  refine lv_dup hx hb d_law_3 rfl ?_
  have hFc := va_free (wc := w0X0 q0) hD hS hA [0] rfl
  refine va_callv (va_runI (As := []) (rest := [.ref q0]) ⟨hx, hb, hml, hown, hts⟩ (kX0_init l D q0 H.size) (cwI 0 hts (lw_meth q25) rfl rfl rfl (hts _ q19) (hts _ q23) (hts _ q24) rfl (by decide +kernel) ⟨Nat.le_of_ble_eq_true rfl, Nat.le_of_ble_eq_true rfl⟩) ⟨fun a U g mk q => by obtain ⟨z0, z1, qP, qK, qD⟩ := q; exact ⟨z0, z1, qP, va_K.moved (u := U) (U := U.calling g mk a) (Vm.Alike.refl U.vm) qK, qD⟩, fun U hU hW => ⟨rfl, by rw [hU], by rw [hU]; exact hP, va_K.moved hW.alike hK, hD.weaken (fun _ _ _ _ => trivial)⟩⟩ rfl rfl hl.1 rfl (lv_room (Nat.le_of_ble_eq_true rfl)) d_law_4 ⟨Nat.le_of_ble_eq_true rfl, Nat.le_of_ble_eq_true rfl⟩) hS (fun q _ h => hFc q h) hFc (fun u t H1 locs ht hvm hw hB hz1 hk1 hS => ?_)
  obtain ⟨a, d⟩ := u
  obtain ⟨hP1, hK1, hD1⟩ := hB
  have hw : a 0 = q0 := hw
  subst hw
  rw [ht] at hP1
  have hK : va_K D ip_cl [(d, .int)] s := va_K.moved hvm.symm hK1
  have hP : va_P D ip_cl (pw a d (fun _ => 0) (fun _ => 0) (fun _ => 0) (fun _ => 0) (fun _ => 0) (fun _ => 0) 0 0 0) H1 := hP1
  have hD : va_D (fun q : Nat => s.heap.size ≤ q) (pw a d (fun _ => 0) (fun _ => 0) (fun _ => 0) (fun _ => 0) (fun _ => 0) (fun _ => 0) 0 0 0) := hD1.weaken (fun k q _ h => hFc q.1 h)
  refine W.widen (k := 7) (n := 53) (Nat.le_of_ble_eq_true rfl) (Nat.le_of_ble_eq_true rfl) ?_
  refine lv_astore_n (lv' := [(1, .ref (a 0)), (0, .ref b)]) hx hb d_law_7 rfl hl (by decide) rfl (fun ls hl => ?_)
  refine va_new (ci := 1) (fs := [.int 0, .null, .null, .null, .int 0, .null]) (C := RX1) (T := TX1) (N := 6) hx hb hts in_X1 tyX1 tyX1_ok hown (hts _ q180) (hts _ q181) (hts _ q20) hK hP hD hS hA rfl (fun j hj => by rcases (show j = 0 ∨ j = 1 ∨ j = 2 ∨ j = 3 ∨ j = 4 ∨ j = 5 by omega) with rfl | rfl | rfl | rfl | rfl | rfl <;> rfl) (Nat.le_of_ble_eq_true rfl) (Nat.le_of_ble_eq_true rfl) d_law_8 (fun q1 H hP hD hS => ?_)
  have hP : va_P D ip_cl (pw a d (fun _ => 0) (fun _ => 0) (fun _ => 0) (fun _ => 0) (fun _ => 0) (fun _ => 0) 0 0 0 ++ w0X1 q1) H := hP
  have hD : va_D (fun q : Nat => s.heap.size ≤ q) (pw a d (fun _ => 0) (fun _ => 0) (fun _ => 0) (fun _ => 0) (fun _ => 0) (fun _ => 0) 0 0 0 ++ w0X1 q1) := hD
  refine W.widen (k := 8) (n := 59) (Nat.le_of_ble_eq_true rfl) (Nat.le_of_ble_eq_true rfl) ?_
  refine lv_dup hx hb d_law_11 rfl ?_
  have hPc := hP.sub (ws' := w0X1 q1) [7] rfl
  have hDc := hD.sub (ws' := w0X1 q1) [7] (by decide) rfl
  have hKc := hK.sub (tys' := []) [] rfl
  have hFc := va_free (wc := w0X1 q1) hD hS hA [7] rfl
  refine va_callv (va_runI (As := []) (rest := [.ref q1]) ⟨hx, hb, hml, hown, hts⟩ (kX1_init l D q1 H.size) (cwI 0 hts (lw_meth q184) rfl rfl rfl (hts _ q20) (hts _ q182) (hts _ q183) rfl (by decide +kernel) ⟨Nat.le_of_ble_eq_true rfl, Nat.le_of_ble_eq_true rfl⟩) ⟨fun a U g mk q => by obtain ⟨z0, z1, qP, qK, qD⟩ := q; exact ⟨z0, z1, qP, va_K.moved (u := U) (U := U.calling g mk a) (Vm.Alike.refl U.vm) qK, qD⟩, fun U hU hW => ⟨rfl, by rw [hU], by rw [hU]; exact hPc, va_K.moved hW.alike hKc, hDc.weaken (fun _ _ _ _ => trivial)⟩⟩ rfl rfl hl.1 rfl (lv_room (Nat.le_of_ble_eq_true rfl)) d_law_12 ⟨Nat.le_of_ble_eq_true rfl, Nat.le_of_ble_eq_true rfl⟩) hS (fun q _ h => hFc q h) hFc (fun u t H1 locs ht hvm hw hB hz1 hk1 hS => ?_)
  obtain ⟨am, d2⟩ := u
  obtain ⟨hPm, hKm, hDm⟩ := hB
  have hw : am 0 = q1 := hw
  subst hw
  rw [ht] at hPm
  have hKm : va_K D ip_cl [(d2, .int)] s := va_K.moved hvm.symm hKm
  have ed : d2 = d := ip_one_d hKm hK
  subst ed
  obtain ⟨hP, hD⟩ := va_join (wr := pw a d2 (fun _ => 0) (fun _ => 0) (fun _ => 0) (fun _ => 0) (fun _ => 0) (fun _ => 0) 0 0 0) (w1 := mw am d2 (fun _ => 0) (fun _ => 0) (fun _ => 0) (fun _ => 0) 0 0) hP hD [7] [0, 1, 2, 3, 4, 5, 6] rfl rfl (by decide) (by decide) hk1 hFc hPm hDm
  refine W.widen (k := 12) (n := 87) (Nat.le_of_ble_eq_true rfl) (Nat.le_of_ble_eq_true rfl) ?_
  refine lv_astore_n (lv' := [(2, .ref (am 0)), (1, .ref (a 0)), (0, .ref b)]) hx hb d_law_15 rfl hl (by decide) rfl (fun ls hl => ?_)
  refine lv_iconst (v := nI 0) hx hb d_law_16 (by decide) ?_
  refine lv_istore_n (lv' := [(3, .int (nI 0)), (2, .ref (am 0)), (1, .ref (a 0)), (0, .ref b)]) hx hb d_law_17 rfl hl (by decide) rfl (fun ls hl => ?_)
  exact law_loop l hL C0 hK a am _ 0 (fun _ => 0) (fun _ => 0) (fun _ => 0) (fun _ => 0) (fun _ => 0) (fun _ => 0) (fun _ => 0) 0 0 0 ⟨fun _ => Nat.zero_le _, fun _ => by show 0 < 4; omega, fun _ => by show 0 < 4; omega, by show 0 ≤ 8; omega, by show 0 ≤ 1500; omega⟩ (Nat.zero_le _) (Nat.lt_succ_self _) _ _ hP hD hS ls (lv_sub hl [0, 3, 2, 1] rfl)
set_option maxHeartbeats 4000000 in
theorem lw_walk (l : Launch) (b : Addr) (xs : List Int32) : MetFree l x (headSpec (Jvm.Cond.code x code maxLocals ret :: tables_1) room_1) (lw_P b xs) (fun _ _ _ _ _ => True) lw_Q := by
  refine MetFree.of_bodyS (code := code) (maxLocals := maxLocals) (ret := ret) (by decide) ?_ ?_
  · intro args s m h hn
    obtain ⟨meth, c, h1, h2, h3, h4, h5, h6, -, -⟩ := Cond.code_spec hn (atoms_spec (ws := Jvm.Cond.code x code maxLocals ret :: tables_1) h _ List.mem_cons_self)
    exact ⟨meth, c, h1, h2, h3, h4, h5, h6⟩
  · intro p e s m args below meth c s₁ B hml0 hP _
    obtain ⟨rfl, hx, hbd, hgv⟩ := hP
    obtain ⟨scr, harrAt, hlist, hof, hsmall⟩ := hx
    obtain ⟨hcb, hkn, -, -⟩ := State.arrayAt?_spec harrAt
    have hown : s.vm.findClass R_law = some m.cls := findClass_of_methodNamed B.named
    have hts0 : ∀ c ∈ (Jvm.Cond.code x code maxLocals ret :: tables_1), c.before #[Value.ref b] s = true := atoms_spec (ws := Jvm.Cond.code x code maxLocals ret :: tables_1) B.pre
    have hts : ∀ w ∈ lw_tbl, w.before #[Value.ref b] s = true := k2_hts_sels lw_privs (fun w hw => hts0 w (List.mem_cons_of_mem _ hw)) lw_privs_ok
    have hml : c.maxLocals = 4 := B.maxLocals_eq (hts0 _ List.mem_cons_self)
    have X₀ : Stand p l e room_1 s m #[Value.ref b] below meth c s₁ [] 0 0 := Stand.of_body B
    have hh0 : s₁.heap = s.heap := by rw [B.state]; rfl
    have hsz : scr.slots.size = xs.length := by rw [← Array.length_toList, hlist, List.length_map]
    have hval : ∀ j : Nat, j < xs.length → scr.slots[j]? = some (.int (xs.getD j 0)) := fun j hj => by
      rw [← Array.getElem?_toList, hlist]
      simp [hj]
    have hbl : b < s.heap.size := (Array.getElem?_eq_some_iff.mp hcb).1
    have hX : va_X b xs.length (fun j => xs.getD j 0) s s.heap := ⟨scr, hcb, hof, hkn, hsz, hval⟩
    have K : W p l e room_1 s m #[Value.ref b] below meth c s₁.heap [] 0 0 (lw_Z below #[Value.ref b] s) (entryFrame m ([Value.ref b] : List Value).toArray 4) := by
      rw [hh0]
      exact whole_start l hbd ⟨B.exec, B.bytes, B.returns, hml, hown, hts, hX, hbl, B.notSynchronized, hgv⟩
    obtain ⟨t, a1, o, b1, b2, b3⟩ := K s₁ rfl X₀
    exact ⟨t, o, a1, b1, b2, b3⟩
theorem lw_pre_spec {args : Array Value} {s : State} (h : (Jvm.Cond.and given_1 narrow_1).before args s = true) (hr : rest_1_c.before args s = true) : ∃ (b : Addr) (xs : List Int32), lw_P b xs args s := by
  have hs := flat_of_before _ h
  have hq := flat_of_before _ hr
  have hc : (Cond.count 1).before args s = true := hs _ (by decide +kernel)
  have harr : (Cond.arrayOf (.arg 0) .int).before args s = true := hs _ (by decide +kernel)
  have hle : (Cond.le (.length (.arg 0)) (.int 192)).before args s = true := hs _ (by decide +kernel)
  have hlen : (Cond.isInt (.length (.arg 0))).before args s = true := hq _ (by decide +kernel)
  have hall : (Cond.all (.arg 0) (.isInt (.elem (.arg 0) (.index 0)))).before args s = true := hq _ (by decide +kernel)
  obtain ⟨b, xs, hb, hx⟩ := State.ints_of_pre rfl harr hlen hall
  have hsm : xs.length < 2 ^ 31 := hx.choose_spec.2.2.2
  have hev : (Term.length (.arg 0)).eval args s none [] s = some (.int xs.length.toInt32) := hx.length_eval hb
  have hv := Cond.le_ints hev (show (Term.int 192).eval args s none [] s = some (.int 192) from rfl)
  have hd : xs.length.toInt32 ≤ 192 := by
    simpa [Cond.before, Cond.holds, hv] using hle
  have hN : xs.length ≤ 192 := (Int32.ofNat_le_ofNat hsm (by decide)).mp (show Int32.ofNat xs.length ≤ Int32.ofNat 192 from hd)
  exact ⟨b, xs, Cond.one_arg hc (show args[0]? = some (.ref b) from hb), hx, hN, h⟩
theorem lw_comes (l : Launch) : Comes l x (Jvm.Cond.code x code maxLocals ret :: tables_1) room_1 (fun tb e args s => Calls_1 tb e args s ∧ rest_1 tb e args s ∧ Pre_1 tb e args s)
    (fun _ _ args s o t => lw_Q args s o t) := by
  intro p e ha hc hk s m args below hf hfit hheap happ hpre
  obtain ⟨b, xs, hP⟩ := lw_pre_spec hpre.2.2 hpre.2.1
  obtain ⟨k, o, h1, h2, h3, hQ⟩ := lw_walk l b xs p e ha hc hk s m args below hf ((Spec.applies_iff_loose hf).mp happ).1 hP trivial
  exact ⟨k, o, h1, h2, h3, hQ⟩
theorem lw_frame {s t : State} {o : Outcome} {args : Array Value} (h : Framed s o t [] 600000 7290000) :
    Framed s o t (fieldLocs frame_1_writes args s ++ arrayLocs frame_1_arrays args s ++ staticLocs frame_1_statics s) 600000 7290000 := h
theorem lw_limb (L : Cond) (hL : ∀ (args : Array Value) (s t : State), L.after args s (.returned (some (.int 1))) t = true) :
    ArmFor flags0 classFile x code maxLocals ret World_1 tables_1 room_1 Calls_1 rest_1 Pre_1
      (fun tb e a s o t => postC L tb e a s o t ∧ Framed s o t (fieldLocs frame_1_writes a s ++ arrayLocs frame_1_arrays a s ++ staticLocs frame_1_statics s) 600000 7290000) := by
  intro l _ _ _ p e ha hc hk s m args below hf hfit hheap happ hpre
  obtain ⟨k, o, h1, h2, h3, rfl, hF⟩ := lw_comes l p e ha hc hk s m args below hf hfit hheap happ hpre
  exact ⟨k, _, h1, h2, h3, hL args s _, lw_frame hF⟩
theorem i_vc : Claimed_1_1 ∧ Claimed_1_2 := ⟨lw_limb limb_1_1 (fun args s t => by simp [limb_1_1, Cond.after, Cond.holds, Cond.value]), lw_limb limb_1_2 (fun args s t => Cond.after_iff.mpr (by
  first | (rw [show limb_1_2 = Cond.eq .result (.int 1) from rfl, Cond.eq_ints (x := 1) (y := 1) rfl rfl]; simp; done) | (simp [limb_1_2, Cond.value, Term.eval]; done)))⟩
end
