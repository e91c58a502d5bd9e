section
-- ===== PART A: goes FIRST, ahead of the names: the tables' words, and 'selects' of the private methods out of them =====
/-- a private method of a class that the tables say can be made, by its rows of tables_1 -/
def lw_okq (q : MethodName × Nat) : Prop := (q.1.cls ≠ "java/lang/invoke/MethodHandle" ∧ q.1.cls ≠ "java/lang/invoke/VarHandle") ∧ Cond.instantiable q.1.cls q.2 ∈ tables_1 ∧ Cond.privateMethod q.1 ∈ tables_1 ∧ Cond.instanceMethod q.1 ∈ tables_1
set_option maxRecDepth 100000
theorem lw_t1 {w : Cond} (h : w ∈ tables_1_1) : w ∈ tables_1 := List.mem_append_left _ h
theorem lw_t2 {w : Cond} (h : w ∈ tables_1_2) : w ∈ tables_1 := List.mem_append_right _ h
theorem lw_p0 : lw_okq (⟨"CornerDesk", "solve", "(III)Z"⟩, 23) := ⟨⟨by decide +kernel, by decide +kernel⟩, lw_t1 (List.mem_of_getElem? (i := 4) rfl), lw_t1 (List.mem_of_getElem? (i := 102) rfl), lw_t1 (List.mem_of_getElem? (i := 103) rfl)⟩
theorem lw_p1 : lw_okq (⟨"CornerDesk", "meets", "(I)Z"⟩, 23) := ⟨⟨by decide +kernel, by decide +kernel⟩, lw_t1 (List.mem_of_getElem? (i := 4) rfl), lw_t1 (List.mem_of_getElem? (i := 108) rfl), lw_t1 (List.mem_of_getElem? (i := 109) rfl)⟩
theorem lw_p2 : lw_okq (⟨"CornerDesk", "moveOnto", "(IIII)Z"⟩, 23) := ⟨⟨by decide +kernel, by decide +kernel⟩, lw_t1 (List.mem_of_getElem? (i := 4) rfl), lw_t1 (List.mem_of_getElem? (i := 112) rfl), lw_t1 (List.mem_of_getElem? (i := 113) rfl)⟩
theorem lw_p3 : lw_okq (⟨"CornerDesk", "cutStretch", "(II)Z"⟩, 23) := ⟨⟨by decide +kernel, by decide +kernel⟩, lw_t1 (List.mem_of_getElem? (i := 4) rfl), lw_t1 (List.mem_of_getElem? (i := 116) rfl), lw_t1 (List.mem_of_getElem? (i := 117) rfl)⟩
theorem lw_p4 : lw_okq (⟨"CornerDesk", "parallelMeets", "(II)Z"⟩, 23) := ⟨⟨by decide +kernel, by decide +kernel⟩, lw_t1 (List.mem_of_getElem? (i := 4) rfl), lw_t1 (List.mem_of_getElem? (i := 120) rfl), lw_t1 (List.mem_of_getElem? (i := 121) rfl)⟩
theorem lw_p5 : lw_okq (⟨"CornerDesk", "cutHigh", "(IJJJ)V"⟩, 23) := ⟨⟨by decide +kernel, by decide +kernel⟩, lw_t1 (List.mem_of_getElem? (i := 4) rfl), lw_t1 (List.mem_of_getElem? (i := 124) rfl), lw_t1 (List.mem_of_getElem? (i := 125) rfl)⟩
theorem lw_p6 : lw_okq (⟨"CornerDesk", "along", "(IJJ)J"⟩, 23) := ⟨⟨by decide +kernel, by decide +kernel⟩, lw_t1 (List.mem_of_getElem? (i := 4) rfl), lw_t1 (List.mem_of_getElem? (i := 128) rfl), lw_t1 (List.mem_of_getElem? (i := 129) rfl)⟩
theorem lw_p7 : lw_okq (⟨"CornerDesk", "cutLow", "(IJJJ)V"⟩, 23) := ⟨⟨by decide +kernel, by decide +kernel⟩, lw_t1 (List.mem_of_getElem? (i := 4) rfl), lw_t1 (List.mem_of_getElem? (i := 132) rfl), lw_t1 (List.mem_of_getElem? (i := 133) rfl)⟩
theorem lw_p8 : lw_okq (⟨"CornerDesk", "upper", "(I)J"⟩, 23) := ⟨⟨by decide +kernel, by decide +kernel⟩, lw_t1 (List.mem_of_getElem? (i := 4) rfl), lw_t1 (List.mem_of_getElem? (i := 144) rfl), lw_t1 (List.mem_of_getElem? (i := 145) rfl)⟩
theorem lw_p9 : lw_okq (⟨"CornerDeskModel", "write", "(IIII)V"⟩, 15) := ⟨⟨by decide +kernel, by decide +kernel⟩, lw_t1 (List.mem_of_getElem? (i := 163) rfl), lw_t1 (List.mem_of_getElem? (i := 169) rfl), lw_t1 (List.mem_of_getElem? (i := 170) rfl)⟩
theorem lw_p10 : lw_okq (⟨"CornerDeskModel", "there", "(II)Z"⟩, 15) := ⟨⟨by decide +kernel, by decide +kernel⟩, lw_t1 (List.mem_of_getElem? (i := 163) rfl), lw_t1 (List.mem_of_getElem? (i := 238) rfl), lw_t1 (List.mem_of_getElem? (i := 239) rfl)⟩
theorem lw_p11 : lw_okq (⟨"CornerDeskModel", "meet", "(II)Z"⟩, 15) := ⟨⟨by decide +kernel, by decide +kernel⟩, lw_t1 (List.mem_of_getElem? (i := 163) rfl), lw_t2 (List.mem_of_getElem? (i := 2) rfl), lw_t2 (List.mem_of_getElem? (i := 3) rfl)⟩
theorem lw_p12 : lw_okq (⟨"CornerDeskModel", "allowed", "(I)Z"⟩, 15) := ⟨⟨by decide +kernel, by decide +kernel⟩, lw_t1 (List.mem_of_getElem? (i := 163) rfl), lw_t2 (List.mem_of_getElem? (i := 6) rfl), lw_t2 (List.mem_of_getElem? (i := 7) rfl)⟩
theorem lw_p13 : lw_okq (⟨"CornerDeskModel", "meets", "(I)Z"⟩, 15) := ⟨⟨by decide +kernel, by decide +kernel⟩, lw_t1 (List.mem_of_getElem? (i := 163) rfl), lw_t2 (List.mem_of_getElem? (i := 10) rfl), lw_t2 (List.mem_of_getElem? (i := 11) rfl)⟩
theorem lw_p14 : lw_okq (⟨"CornerDeskModel", "search", "(II)Z"⟩, 15) := ⟨⟨by decide +kernel, by decide +kernel⟩, lw_t1 (List.mem_of_getElem? (i := 163) rfl), lw_t2 (List.mem_of_getElem? (i := 18) rfl), lw_t2 (List.mem_of_getElem? (i := 19) rfl)⟩
theorem lw_p15 : lw_okq (⟨"CornerDeskModel", "better", "(II)Z"⟩, 15) := ⟨⟨by decide +kernel, by decide +kernel⟩, lw_t1 (List.mem_of_getElem? (i := 163) rfl), lw_t2 (List.mem_of_getElem? (i := 22) rfl), lw_t2 (List.mem_of_getElem? (i := 23) rfl)⟩
def lw_privs_1 : List (MethodName × Nat) := [(⟨"CornerDesk", "solve", "(III)Z"⟩, 23), (⟨"CornerDesk", "meets", "(I)Z"⟩, 23), (⟨"CornerDesk", "moveOnto", "(IIII)Z"⟩, 23), (⟨"CornerDesk", "cutStretch", "(II)Z"⟩, 23), (⟨"CornerDesk", "parallelMeets", "(II)Z"⟩, 23), (⟨"CornerDesk", "cutHigh", "(IJJJ)V"⟩, 23), (⟨"CornerDesk", "along", "(IJJ)J"⟩, 23), (⟨"CornerDesk", "cutLow", "(IJJJ)V"⟩, 23), (⟨"CornerDesk", "upper", "(I)J"⟩, 23), (⟨"CornerDeskModel", "write", "(IIII)V"⟩, 15), (⟨"CornerDeskModel", "there", "(II)Z"⟩, 15), (⟨"CornerDeskModel", "meet", "(II)Z"⟩, 15), (⟨"CornerDeskModel", "allowed", "(I)Z"⟩, 15), (⟨"CornerDeskModel", "meets", "(I)Z"⟩, 15), (⟨"CornerDeskModel", "search", "(II)Z"⟩, 15), (⟨"CornerDeskModel", "better", "(II)Z"⟩, 15)]
theorem lw_r1 : ∀ q ∈ lw_privs_1, lw_okq q := List.forall_mem_cons.mpr ⟨lw_p0, List.forall_mem_cons.mpr ⟨lw_p1, List.forall_mem_cons.mpr ⟨lw_p2, List.forall_mem_cons.mpr ⟨lw_p3, List.forall_mem_cons.mpr ⟨lw_p4, List.forall_mem_cons.mpr ⟨lw_p5, List.forall_mem_cons.mpr ⟨lw_p6, List.forall_mem_cons.mpr ⟨lw_p7, List.forall_mem_cons.mpr ⟨lw_p8, List.forall_mem_cons.mpr ⟨lw_p9, List.forall_mem_cons.mpr ⟨lw_p10, List.forall_mem_cons.mpr ⟨lw_p11, List.forall_mem_cons.mpr ⟨lw_p12, List.forall_mem_cons.mpr ⟨lw_p13, List.forall_mem_cons.mpr ⟨lw_p14, List.forall_mem_cons.mpr ⟨lw_p15, fun _ h => absurd h List.not_mem_nil⟩⟩⟩⟩⟩⟩⟩⟩⟩⟩⟩⟩⟩⟩⟩⟩
theorem lw_p16 : lw_okq (⟨"CornerDeskModel", "top", "(I)J"⟩, 15) := ⟨⟨by decide +kernel, by decide +kernel⟩, lw_t1 (List.mem_of_getElem? (i := 163) rfl), lw_t2 (List.mem_of_getElem? (i := 30) rfl), lw_t2 (List.mem_of_getElem? (i := 31) rfl)⟩
theorem lw_p17 : lw_okq (⟨"CornerDeskModel", "spared", "(I)Z"⟩, 15) := ⟨⟨by decide +kernel, by decide +kernel⟩, lw_t1 (List.mem_of_getElem? (i := 163) rfl), lw_t2 (List.mem_of_getElem? (i := 49) rfl), lw_t2 (List.mem_of_getElem? (i := 50) rfl)⟩
def lw_privs_2 : List (MethodName × Nat) := [(⟨"CornerDeskModel", "top", "(I)J"⟩, 15), (⟨"CornerDeskModel", "spared", "(I)Z"⟩, 15)]
theorem lw_r2 : ∀ q ∈ lw_privs_2, lw_okq q := List.forall_mem_cons.mpr ⟨lw_p16, List.forall_mem_cons.mpr ⟨lw_p17, fun _ h => absurd h List.not_mem_nil⟩⟩
def lw_privs : List (MethodName × Nat) := lw_privs_1 ++ (lw_privs_2)
def lw_tbl : List Cond := k2_sels lw_privs ++ tables_1
theorem lw_privs_ok : ∀ q ∈ lw_privs, lw_okq q := by
  show ∀ q ∈ lw_privs_1 ++ (lw_privs_2), lw_okq q
  exact List.forall_mem_append.mpr ⟨lw_r1, lw_r2⟩
-- ===== ONE list of words for every method: the tables' words that hold all through a run =====
def lw_all : List Cond := lw_tbl.filter goodWord
/-- a word of the tables by its place: claim/WORDS.tsv -/
theorem lw_w {w : Cond} (i : Nat) (h : lw_tbl[i]? = some w) (g : goodWord w = true) : w ∈ lw_all := List.mem_filter.mpr ⟨List.mem_of_getElem? h, g⟩
theorem lw_all_tbl {w : Cond} (h : w ∈ lw_all) : w ∈ lw_tbl := (List.mem_filter.mp h).1
theorem lw_self : GoodIn lw_all lw_all := fun w h => ⟨h, good_of_word (List.mem_filter.mp h).2⟩
/-- a class's field words, by their places -/
theorem lw_in (ws : List Cond) (ps : List Nat) (hp : ws = ps.filterMap (fun i => lw_tbl[i]?)) (hg : ws.all goodWord = true) : ∀ w ∈ ws, w ∈ lw_all := by
  intro w h
  have h1 := List.all_eq_true.mp hg w h
  rw [hp] at h
  obtain ⟨i, -, hi⟩ := List.mem_filterMap.mp h
  exact lw_w i hi h1
/-- the words of a contract for the method y with code b, L locals, answer r -/
abbrev ws_ (y : MethodName) (b : ByteArray) (L : Nat) (r : Option FieldType) : List Cond := Cond.code y b L r :: lw_all
theorem lw_meth {y : MethodName} {b : ByteArray} {L : Nat} {r : Option FieldType} (h : Cond.code y b L r ∈ lw_all) : GoodIn lw_all (ws_ y b L r) := by
  intro w hw
  rcases List.mem_cons.mp hw with e | e
  · rw [e]
    exact lw_self _ h
  · exact lw_self _ e
theorem lw_app {a c : List Cond} (ha : ∀ w ∈ a, w ∈ lw_all) (hc : GoodIn lw_all c) : GoodIn lw_all (a ++ c) := by
  intro w hw
  rcases List.mem_append.mp hw with e | e
  · exact lw_self w (ha w e)
  · exact hc w e
/-- what a call through an object asks: cwV n hts (lw_V ..) -/
theorem lw_V {own : String} {idx : Nat} {C : String} {y : MethodName} {b : ByteArray} {L : Nat} {r : Option FieldType} (h1 : Cond.methodLink own idx y ∈ lw_all) (h2 : Cond.instanceMethod y ∈ lw_all) (h3 : Cond.selects C y y ∈ lw_all) (h4 : Cond.initialized C ∈ lw_all) (h5 : Cond.code y b L r ∈ lw_all) : GoodIn lw_all (wsV own idx C y (ws_ y b L r)) := by
  refine lw_app ?_ (lw_meth h5)
  intro w hw
  simp only [List.mem_cons, List.not_mem_nil, or_false] at hw
  rcases hw with e | e | e | e
  · rw [e]; exact h1
  · rw [e]; exact h2
  · rw [e]; exact h3
  · rw [e]; exact h4
/-- what a static call asks: va_cwS n hts (lw_S ..) -/
theorem lw_S {own : String} {idx : Nat} {y : MethodName} {b : ByteArray} {L : Nat} {r : Option FieldType} (h1 : Cond.methodLink own idx y ∈ lw_all) (h2 : Cond.static y ∈ lw_all) (h3 : Cond.initialized y.cls ∈ lw_all) (h4 : Cond.code y b L r ∈ lw_all) : GoodIn lw_all (va_wsS own idx y (ws_ y b L r)) := by
  refine lw_app ?_ (lw_meth h4)
  intro w hw
  simp only [List.mem_cons, List.not_mem_nil, or_false] at hw
  rcases hw with e | e | e
  · rw [e]; exact h1
  · rw [e]; exact h2
  · rw [e]; exact h3
/-- the words of a contract for a method WITH HANDLERS (hh: its table) -/
abbrev wsW_ (y : MethodName) (b : ByteArray) (L : Nat) (r : Option FieldType) (hh : List (Nat × Nat × Nat × Nat)) : List Cond := Cond.codeWith y b L r hh :: lw_all
theorem lw_methW {y : MethodName} {b : ByteArray} {L : Nat} {r : Option FieldType} {hh : List (Nat × Nat × Nat × Nat)} (h : Cond.codeWith y b L r hh ∈ lw_all) : GoodIn lw_all (wsW_ y b L r hh) := by
  intro w hw
  rcases List.mem_cons.mp hw with e | e
  · rw [e]
    exact lw_self _ h
  · exact lw_self _ e
/-- any list of words by their places (lw_in), good -/
theorem lw_good {ws : List Cond} (h : ∀ w ∈ ws, w ∈ lw_all) : GoodIn lw_all ws := fun w hw => lw_self w (h w hw)
/-- what a call of a method with handlers asks: vx_cwVW n hts (lw_VW ..), vx_cwSW n hts (lw_SW ..) -/
theorem lw_VW {own : String} {idx : Nat} {C : String} {y : MethodName} {b : ByteArray} {L : Nat} {r : Option FieldType} {hh : List (Nat × Nat × Nat × Nat)} (h1 : Cond.methodLink own idx y ∈ lw_all) (h2 : Cond.instanceMethod y ∈ lw_all) (h3 : Cond.selects C y y ∈ lw_all) (h4 : Cond.initialized C ∈ lw_all) (h5 : Cond.codeWith y b L r hh ∈ lw_all) : GoodIn lw_all (wsV own idx C y (wsW_ y b L r hh)) := by
  refine lw_app ?_ (lw_methW h5)
  intro w hw
  simp only [List.mem_cons, List.not_mem_nil, or_false] at hw
  rcases hw with e | e | e | e
  · rw [e]; exact h1
  · rw [e]; exact h2
  · rw [e]; exact h3
  · rw [e]; exact h4
theorem lw_SW {own : String} {idx : Nat} {y : MethodName} {b : ByteArray} {L : Nat} {r : Option FieldType} {hh : List (Nat × Nat × Nat × Nat)} (h1 : Cond.methodLink own idx y ∈ lw_all) (h2 : Cond.static y ∈ lw_all) (h3 : Cond.initialized y.cls ∈ lw_all) (h4 : Cond.codeWith y b L r hh ∈ lw_all) : GoodIn lw_all (va_wsS own idx y (wsW_ y b L r hh)) := by
  refine lw_app ?_ (lw_methW h4)
  intro w hw
  simp only [List.mem_cons, List.not_mem_nil, or_false] at hw
  rcases hw with e | e | e
  · rw [e]; exact h1
  · rw [e]; exact h2
  · rw [e]; exact h3
/-- a word by its place in its run of the tables -/
theorem lw_at {r : List Cond} (hr : ∀ w ∈ r, w ∈ lw_tbl) {w : Cond} (i : Nat) (h : r[i]? = some w) : w ∈ lw_tbl := hr w (List.mem_of_getElem? h)
theorem lw_g {w : Cond} (h : w ∈ lw_tbl) (g : goodWord w = true) : w ∈ lw_all := List.mem_filter.mpr ⟨h, g⟩
theorem lw_ms : ∀ w ∈ k2_sels lw_privs, w ∈ lw_tbl := fun w h => show w ∈ k2_sels lw_privs ++ tables_1 from List.mem_append_left _ h
theorem lw_m1 : ∀ w ∈ tables_1_1, w ∈ lw_tbl := fun w h => show w ∈ k2_sels lw_privs ++ tables_1 from List.mem_append_right (k2_sels lw_privs) (show w ∈ tables_1 from List.mem_append_left _ h)
theorem lw_m2 : ∀ w ∈ tables_1_2, w ∈ lw_tbl := fun w h => show w ∈ k2_sels lw_privs ++ tables_1 from List.mem_append_right (k2_sels lw_privs) (show w ∈ tables_1 from List.mem_append_right _ h)
theorem qs0 : (Cond.selects "CornerDesk" ⟨"CornerDesk", "solve", "(III)Z"⟩ ⟨"CornerDesk", "solve", "(III)Z"⟩) ∈ lw_all := lw_g (lw_at lw_ms 0 rfl) rfl
theorem qs1 : (Cond.selects "CornerDesk" ⟨"CornerDesk", "meets", "(I)Z"⟩ ⟨"CornerDesk", "meets", "(I)Z"⟩) ∈ lw_all := lw_g (lw_at lw_ms 1 rfl) rfl
theorem qs2 : (Cond.selects "CornerDesk" ⟨"CornerDesk", "moveOnto", "(IIII)Z"⟩ ⟨"CornerDesk", "moveOnto", "(IIII)Z"⟩) ∈ lw_all := lw_g (lw_at lw_ms 2 rfl) rfl
theorem qs3 : (Cond.selects "CornerDesk" ⟨"CornerDesk", "cutStretch", "(II)Z"⟩ ⟨"CornerDesk", "cutStretch", "(II)Z"⟩) ∈ lw_all := lw_g (lw_at lw_ms 3 rfl) rfl
theorem qs4 : (Cond.selects "CornerDesk" ⟨"CornerDesk", "parallelMeets", "(II)Z"⟩ ⟨"CornerDesk", "parallelMeets", "(II)Z"⟩) ∈ lw_all := lw_g (lw_at lw_ms 4 rfl) rfl
theorem qs5 : (Cond.selects "CornerDesk" ⟨"CornerDesk", "cutHigh", "(IJJJ)V"⟩ ⟨"CornerDesk", "cutHigh", "(IJJJ)V"⟩) ∈ lw_all := lw_g (lw_at lw_ms 5 rfl) rfl
theorem qs6 : (Cond.selects "CornerDesk" ⟨"CornerDesk", "along", "(IJJ)J"⟩ ⟨"CornerDesk", "along", "(IJJ)J"⟩) ∈ lw_all := lw_g (lw_at lw_ms 6 rfl) rfl
theorem qs7 : (Cond.selects "CornerDesk" ⟨"CornerDesk", "cutLow", "(IJJJ)V"⟩ ⟨"CornerDesk", "cutLow", "(IJJJ)V"⟩) ∈ lw_all := lw_g (lw_at lw_ms 7 rfl) rfl
theorem qs8 : (Cond.selects "CornerDesk" ⟨"CornerDesk", "upper", "(I)J"⟩ ⟨"CornerDesk", "upper", "(I)J"⟩) ∈ lw_all := lw_g (lw_at lw_ms 8 rfl) rfl
theorem qs9 : (Cond.selects "CornerDeskModel" ⟨"CornerDeskModel", "write", "(IIII)V"⟩ ⟨"CornerDeskModel", "write", "(IIII)V"⟩) ∈ lw_all := lw_g (lw_at lw_ms 9 rfl) rfl
theorem qs10 : (Cond.selects "CornerDeskModel" ⟨"CornerDeskModel", "there", "(II)Z"⟩ ⟨"CornerDeskModel", "there", "(II)Z"⟩) ∈ lw_all := lw_g (lw_at lw_ms 10 rfl) rfl
theorem qs11 : (Cond.selects "CornerDeskModel" ⟨"CornerDeskModel", "meet", "(II)Z"⟩ ⟨"CornerDeskModel", "meet", "(II)Z"⟩) ∈ lw_all := lw_g (lw_at lw_ms 11 rfl) rfl
theorem qs12 : (Cond.selects "CornerDeskModel" ⟨"CornerDeskModel", "allowed", "(I)Z"⟩ ⟨"CornerDeskModel", "allowed", "(I)Z"⟩) ∈ lw_all := lw_g (lw_at lw_ms 12 rfl) rfl
theorem qs13 : (Cond.selects "CornerDeskModel" ⟨"CornerDeskModel", "meets", "(I)Z"⟩ ⟨"CornerDeskModel", "meets", "(I)Z"⟩) ∈ lw_all := lw_g (lw_at lw_ms 13 rfl) rfl
theorem qs14 : (Cond.selects "CornerDeskModel" ⟨"CornerDeskModel", "search", "(II)Z"⟩ ⟨"CornerDeskModel", "search", "(II)Z"⟩) ∈ lw_all := lw_g (lw_at lw_ms 14 rfl) rfl
theorem qs15 : (Cond.selects "CornerDeskModel" ⟨"CornerDeskModel", "better", "(II)Z"⟩ ⟨"CornerDeskModel", "better", "(II)Z"⟩) ∈ lw_all := lw_g (lw_at lw_ms 15 rfl) rfl
theorem qs16 : (Cond.selects "CornerDeskModel" ⟨"CornerDeskModel", "top", "(I)J"⟩ ⟨"CornerDeskModel", "top", "(I)J"⟩) ∈ lw_all := lw_g (lw_at lw_ms 16 rfl) rfl
theorem qs17 : (Cond.selects "CornerDeskModel" ⟨"CornerDeskModel", "spared", "(I)Z"⟩ ⟨"CornerDeskModel", "spared", "(I)Z"⟩) ∈ lw_all := lw_g (lw_at lw_ms 17 rfl) rfl
end
section
/-! CornerDesk -/
set_option maxRecDepth 100000
def RX0 : String := "CornerDesk"
def TX0 : u_T := fun k => match k with
  | 0 => ("CornerDesk", "count", "I", false)
  | 1 => ("CornerDesk", "a", "[I", true)
  | 2 => ("CornerDesk", "b", "[I", true)
  | 3 => ("CornerDesk", "c", "[I", true)
  | 4 => ("CornerDesk", "levels", "I", false)
  | 5 => ("CornerDesk", "levelStart", "[I", true)
  | 6 => ("CornerDesk", "x", "J", false)
  | 7 => ("CornerDesk", "y", "J", false)
  | 8 => ("CornerDesk", "w", "J", false)
  | 9 => ("CornerDesk", "hasLow", "Z", false)
  | 10 => ("CornerDesk", "hasHigh", "Z", false)
  | 11 => ("CornerDesk", "lowX", "J", false)
  | 12 => ("CornerDesk", "lowY", "J", false)
  | 13 => ("CornerDesk", "lowW", "J", false)
  | 14 => ("CornerDesk", "highX", "J", false)
  | 15 => ("CornerDesk", "highY", "J", false)
  | 16 => ("CornerDesk", "highW", "J", false)
  | 17 => ("CornerDesk", "remembered", "Z", false)
  | 18 => ("CornerDesk", "bestX", "J", false)
  | 19 => ("CornerDesk", "bestY", "J", false)
  | 20 => ("CornerDesk", "bestW", "J", false)
  | 21 => ("CornerDesk", "aimP", "I", false)
  | _ => ("CornerDesk", "aimQ", "I", false)
def tyX0 : Nat → FieldType := fun k => match k with
  | 0 => .int
  | 1 => .array .int
  | 2 => .array .int
  | 3 => .array .int
  | 4 => .int
  | 5 => .array .int
  | 6 => .long
  | 7 => .long
  | 8 => .long
  | 9 => .boolean
  | 10 => .boolean
  | 11 => .long
  | 12 => .long
  | 13 => .long
  | 14 => .long
  | 15 => .long
  | 16 => .long
  | 17 => .boolean
  | 18 => .long
  | 19 => .long
  | 20 => .long
  | 21 => .int
  | _ => .int
abbrev wsX00 : List Cond := u_ws RX0 TX0 23
set_option maxRecDepth 100000 in
theorem nmX0 : ∀ a, a < 23 → ∀ b, b < 23 → a ≠ b → (TX0 a).2.1 ≠ (TX0 b).2.1 := by decide +kernel
set_option maxRecDepth 100000 in
theorem tyX0_ok : ∀ k, k < 23 → parseFieldDescriptor (TX0 k).2.2.1 = some (tyX0 k) := by decide +kernel
abbrev cX0_init : ByteArray := prog_1_method_1_code
def yX0_init : MethodName := ⟨RX0, "<init>", "()V"⟩
theorem dX0_init_0 : decode cX0_init 0 = .ok (.aload_n 0, 1) := by decide +kernel
theorem dX0_init_1 : decode cX0_init 1 = .ok (.invokespecial 1, 3) := by decide +kernel
theorem dX0_init_4 : decode cX0_init 4 = .ok (.aload_n 0, 1) := by decide +kernel
theorem dX0_init_5 : decode cX0_init 5 = .ok (.bipush 14, 2) := by decide +kernel
theorem dX0_init_7 : decode cX0_init 7 = .ok (.newarray .int, 2) := by decide +kernel
theorem dX0_init_9 : decode cX0_init 9 = .ok (.putfield 7, 3) := by decide +kernel
theorem dX0_init_12 : decode cX0_init 12 = .ok (.aload_n 0, 1) := by decide +kernel
theorem dX0_init_13 : decode cX0_init 13 = .ok (.bipush 14, 2) := by decide +kernel
theorem dX0_init_15 : decode cX0_init 15 = .ok (.newarray .int, 2) := by decide +kernel
theorem dX0_init_17 : decode cX0_init 17 = .ok (.putfield 13, 3) := by decide +kernel
theorem dX0_init_20 : decode cX0_init 20 = .ok (.aload_n 0, 1) := by decide +kernel
theorem dX0_init_21 : decode cX0_init 21 = .ok (.bipush 14, 2) := by decide +kernel
theorem dX0_init_23 : decode cX0_init 23 = .ok (.newarray .int, 2) := by decide +kernel
theorem dX0_init_25 : decode cX0_init 25 = .ok (.putfield 16, 3) := by decide +kernel
theorem dX0_init_28 : decode cX0_init 28 = .ok (.aload_n 0, 1) := by decide +kernel
theorem dX0_init_29 : decode cX0_init 29 = .ok (.bipush 8, 2) := by decide +kernel
theorem dX0_init_31 : decode cX0_init 31 = .ok (.newarray .int, 2) := by decide +kernel
theorem dX0_init_33 : decode cX0_init 33 = .ok (.putfield 19, 3) := by decide +kernel
theorem dX0_init_36 : decode cX0_init 36 = .ok (.aload_n 0, 1) := by decide +kernel
theorem dX0_init_37 : decode cX0_init 37 = .ok (.getfield 7, 3) := by decide +kernel
theorem dX0_init_40 : decode cX0_init 40 = .ok (.iconst 0, 1) := by decide +kernel
theorem dX0_init_41 : decode cX0_init 41 = .ok (.iconst 1, 1) := by decide +kernel
theorem dX0_init_42 : decode cX0_init 42 = .ok (.iastore, 1) := by decide +kernel
theorem dX0_init_43 : decode cX0_init 43 = .ok (.aload_n 0, 1) := by decide +kernel
theorem dX0_init_44 : decode cX0_init 44 = .ok (.getfield 7, 3) := by decide +kernel
theorem dX0_init_47 : decode cX0_init 47 = .ok (.iconst 1, 1) := by decide +kernel
theorem dX0_init_48 : decode cX0_init 48 = .ok (.iconst (-1), 1) := by decide +kernel
theorem dX0_init_49 : decode cX0_init 49 = .ok (.iastore, 1) := by decide +kernel
theorem dX0_init_50 : decode cX0_init 50 = .ok (.aload_n 0, 1) := by decide +kernel
theorem dX0_init_51 : decode cX0_init 51 = .ok (.getfield 13, 3) := by decide +kernel
theorem dX0_init_54 : decode cX0_init 54 = .ok (.iconst 2, 1) := by decide +kernel
theorem dX0_init_55 : decode cX0_init 55 = .ok (.iconst 1, 1) := by decide +kernel
theorem dX0_init_56 : decode cX0_init 56 = .ok (.iastore, 1) := by decide +kernel
theorem dX0_init_57 : decode cX0_init 57 = .ok (.aload_n 0, 1) := by decide +kernel
theorem dX0_init_58 : decode cX0_init 58 = .ok (.getfield 13, 3) := by decide +kernel
theorem dX0_init_61 : decode cX0_init 61 = .ok (.iconst 3, 1) := by decide +kernel
theorem dX0_init_62 : decode cX0_init 62 = .ok (.iconst (-1), 1) := by decide +kernel
theorem dX0_init_63 : decode cX0_init 63 = .ok (.iastore, 1) := by decide +kernel
theorem dX0_init_64 : decode cX0_init 64 = .ok (.iconst 0, 1) := by decide +kernel
theorem dX0_init_65 : decode cX0_init 65 = .ok (.istore_n 1, 1) := by decide +kernel
theorem dX0_init_66 : decode cX0_init 66 = .ok (.iload_n 1, 1) := by decide +kernel
theorem dX0_init_67 : decode cX0_init 67 = .ok (.iconst 4, 1) := by decide +kernel
theorem dX0_init_68 : decode cX0_init 68 = .ok (.if_icmp .ge 17, 3) := by decide +kernel
theorem dX0_init_71 : decode cX0_init 71 = .ok (.aload_n 0, 1) := by decide +kernel
theorem dX0_init_72 : decode cX0_init 72 = .ok (.getfield 16, 3) := by decide +kernel
theorem dX0_init_75 : decode cX0_init 75 = .ok (.iload_n 1, 1) := by decide +kernel
theorem dX0_init_76 : decode cX0_init 76 = .ok (.bipush 50, 2) := by decide +kernel
theorem dX0_init_78 : decode cX0_init 78 = .ok (.iastore, 1) := by decide +kernel
theorem dX0_init_79 : decode cX0_init 79 = .ok (.iinc 1 1, 3) := by decide +kernel
theorem dX0_init_82 : decode cX0_init 82 = .ok (.goto (-16), 3) := by decide +kernel
theorem dX0_init_85 : decode cX0_init 85 = .ok (.aload_n 0, 1) := by decide +kernel
theorem dX0_init_86 : decode cX0_init 86 = .ok (.iconst 4, 1) := by decide +kernel
theorem dX0_init_87 : decode cX0_init 87 = .ok (.putfield 22, 3) := by decide +kernel
theorem dX0_init_90 : decode cX0_init 90 = .ok (.aload_n 0, 1) := by decide +kernel
theorem dX0_init_91 : decode cX0_init 91 = .ok (.iconst 1, 1) := by decide +kernel
theorem dX0_init_92 : decode cX0_init 92 = .ok (.putfield 26, 3) := by decide +kernel
theorem dX0_init_95 : decode cX0_init 95 = .ok (.aload_n 0, 1) := by decide +kernel
theorem dX0_init_96 : decode cX0_init 96 = .ok (.getfield 19, 3) := by decide +kernel
theorem dX0_init_99 : decode cX0_init 99 = .ok (.iconst 0, 1) := by decide +kernel
theorem dX0_init_100 : decode cX0_init 100 = .ok (.iconst 4, 1) := by decide +kernel
theorem dX0_init_101 : decode cX0_init 101 = .ok (.iastore, 1) := by decide +kernel
theorem dX0_init_102 : decode cX0_init 102 = .ok (.return_, 1) := by decide +kernel
abbrev cX0_add : ByteArray := prog_1_method_2_code
def yX0_add : MethodName := ⟨RX0, "add", "(III)I"⟩
theorem dX0_add_0 : decode cX0_add 0 = .ok (.iload_n 1, 1) := by decide +kernel
theorem dX0_add_1 : decode cX0_add 1 = .ok (.iload_n 2, 1) := by decide +kernel
theorem dX0_add_2 : decode cX0_add 2 = .ok (.iload_n 3, 1) := by decide +kernel
theorem dX0_add_3 : decode cX0_add 3 = .ok (.invokestatic 29, 3) := by decide +kernel
theorem dX0_add_6 : decode cX0_add 6 = .ok (.ifCond .eq 12, 3) := by decide +kernel
theorem dX0_add_9 : decode cX0_add 9 = .ok (.aload_n 0, 1) := by decide +kernel
theorem dX0_add_10 : decode cX0_add 10 = .ok (.getfield 22, 3) := by decide +kernel
theorem dX0_add_13 : decode cX0_add 13 = .ok (.bipush 14, 2) := by decide +kernel
theorem dX0_add_15 : decode cX0_add 15 = .ok (.if_icmp .lt 5, 3) := by decide +kernel
theorem dX0_add_18 : decode cX0_add 18 = .ok (.iconst (-1), 1) := by decide +kernel
theorem dX0_add_19 : decode cX0_add 19 = .ok (.ireturn, 1) := by decide +kernel
theorem dX0_add_20 : decode cX0_add 20 = .ok (.aload_n 0, 1) := by decide +kernel
theorem dX0_add_21 : decode cX0_add 21 = .ok (.getfield 7, 3) := by decide +kernel
theorem dX0_add_24 : decode cX0_add 24 = .ok (.aload_n 0, 1) := by decide +kernel
theorem dX0_add_25 : decode cX0_add 25 = .ok (.getfield 22, 3) := by decide +kernel
theorem dX0_add_28 : decode cX0_add 28 = .ok (.iload_n 1, 1) := by decide +kernel
theorem dX0_add_29 : decode cX0_add 29 = .ok (.iastore, 1) := by decide +kernel
theorem dX0_add_30 : decode cX0_add 30 = .ok (.aload_n 0, 1) := by decide +kernel
theorem dX0_add_31 : decode cX0_add 31 = .ok (.getfield 13, 3) := by decide +kernel
theorem dX0_add_34 : decode cX0_add 34 = .ok (.aload_n 0, 1) := by decide +kernel
theorem dX0_add_35 : decode cX0_add 35 = .ok (.getfield 22, 3) := by decide +kernel
theorem dX0_add_38 : decode cX0_add 38 = .ok (.iload_n 2, 1) := by decide +kernel
theorem dX0_add_39 : decode cX0_add 39 = .ok (.iastore, 1) := by decide +kernel
theorem dX0_add_40 : decode cX0_add 40 = .ok (.aload_n 0, 1) := by decide +kernel
theorem dX0_add_41 : decode cX0_add 41 = .ok (.getfield 16, 3) := by decide +kernel
theorem dX0_add_44 : decode cX0_add 44 = .ok (.aload_n 0, 1) := by decide +kernel
theorem dX0_add_45 : decode cX0_add 45 = .ok (.getfield 22, 3) := by decide +kernel
theorem dX0_add_48 : decode cX0_add 48 = .ok (.iload_n 3, 1) := by decide +kernel
theorem dX0_add_49 : decode cX0_add 49 = .ok (.iastore, 1) := by decide +kernel
theorem dX0_add_50 : decode cX0_add 50 = .ok (.aload_n 0, 1) := by decide +kernel
theorem dX0_add_51 : decode cX0_add 51 = .ok (.dup, 1) := by decide +kernel
theorem dX0_add_52 : decode cX0_add 52 = .ok (.getfield 22, 3) := by decide +kernel
theorem dX0_add_55 : decode cX0_add 55 = .ok (.iconst 1, 1) := by decide +kernel
theorem dX0_add_56 : decode cX0_add 56 = .ok (.iadd, 1) := by decide +kernel
theorem dX0_add_57 : decode cX0_add 57 = .ok (.putfield 22, 3) := by decide +kernel
theorem dX0_add_60 : decode cX0_add 60 = .ok (.aload_n 0, 1) := by decide +kernel
theorem dX0_add_61 : decode cX0_add 61 = .ok (.getfield 22, 3) := by decide +kernel
theorem dX0_add_64 : decode cX0_add 64 = .ok (.iconst 4, 1) := by decide +kernel
theorem dX0_add_65 : decode cX0_add 65 = .ok (.isub, 1) := by decide +kernel
theorem dX0_add_66 : decode cX0_add 66 = .ok (.ireturn, 1) := by decide +kernel
abbrev cX0_isCondition : ByteArray := prog_1_method_11_code
def yX0_isCondition : MethodName := ⟨RX0, "isCondition", "(III)Z"⟩
theorem dX0_isCondition_0 : decode cX0_isCondition 0 = .ok (.iload_n 0, 1) := by decide +kernel
theorem dX0_isCondition_1 : decode cX0_isCondition 1 = .ok (.bipush (-9), 2) := by decide +kernel
theorem dX0_isCondition_3 : decode cX0_isCondition 3 = .ok (.if_icmp .lt 37, 3) := by decide +kernel
theorem dX0_isCondition_6 : decode cX0_isCondition 6 = .ok (.iload_n 0, 1) := by decide +kernel
theorem dX0_isCondition_7 : decode cX0_isCondition 7 = .ok (.bipush 9, 2) := by decide +kernel
theorem dX0_isCondition_9 : decode cX0_isCondition 9 = .ok (.if_icmp .gt 31, 3) := by decide +kernel
theorem dX0_isCondition_12 : decode cX0_isCondition 12 = .ok (.iload_n 1, 1) := by decide +kernel
theorem dX0_isCondition_13 : decode cX0_isCondition 13 = .ok (.bipush (-9), 2) := by decide +kernel
theorem dX0_isCondition_15 : decode cX0_isCondition 15 = .ok (.if_icmp .lt 25, 3) := by decide +kernel
theorem dX0_isCondition_18 : decode cX0_isCondition 18 = .ok (.iload_n 1, 1) := by decide +kernel
theorem dX0_isCondition_19 : decode cX0_isCondition 19 = .ok (.bipush 9, 2) := by decide +kernel
theorem dX0_isCondition_21 : decode cX0_isCondition 21 = .ok (.if_icmp .gt 19, 3) := by decide +kernel
theorem dX0_isCondition_24 : decode cX0_isCondition 24 = .ok (.iload_n 2, 1) := by decide +kernel
theorem dX0_isCondition_25 : decode cX0_isCondition 25 = .ok (.bipush (-99), 2) := by decide +kernel
theorem dX0_isCondition_27 : decode cX0_isCondition 27 = .ok (.if_icmp .lt 13, 3) := by decide +kernel
theorem dX0_isCondition_30 : decode cX0_isCondition 30 = .ok (.iload_n 2, 1) := by decide +kernel
theorem dX0_isCondition_31 : decode cX0_isCondition 31 = .ok (.bipush 99, 2) := by decide +kernel
theorem dX0_isCondition_33 : decode cX0_isCondition 33 = .ok (.if_icmp .gt 7, 3) := by decide +kernel
theorem dX0_isCondition_36 : decode cX0_isCondition 36 = .ok (.iconst 1, 1) := by decide +kernel
theorem dX0_isCondition_37 : decode cX0_isCondition 37 = .ok (.goto 4, 3) := by decide +kernel
theorem dX0_isCondition_40 : decode cX0_isCondition 40 = .ok (.iconst 0, 1) := by decide +kernel
theorem dX0_isCondition_41 : decode cX0_isCondition 41 = .ok (.istore_n 3, 1) := by decide +kernel
theorem dX0_isCondition_42 : decode cX0_isCondition 42 = .ok (.iload_n 3, 1) := by decide +kernel
theorem dX0_isCondition_43 : decode cX0_isCondition 43 = .ok (.ifCond .eq 15, 3) := by decide +kernel
theorem dX0_isCondition_46 : decode cX0_isCondition 46 = .ok (.iload_n 0, 1) := by decide +kernel
theorem dX0_isCondition_47 : decode cX0_isCondition 47 = .ok (.ifCond .ne 7, 3) := by decide +kernel
theorem dX0_isCondition_50 : decode cX0_isCondition 50 = .ok (.iload_n 1, 1) := by decide +kernel
theorem dX0_isCondition_51 : decode cX0_isCondition 51 = .ok (.ifCond .eq 7, 3) := by decide +kernel
theorem dX0_isCondition_54 : decode cX0_isCondition 54 = .ok (.iconst 1, 1) := by decide +kernel
theorem dX0_isCondition_55 : decode cX0_isCondition 55 = .ok (.goto 4, 3) := by decide +kernel
theorem dX0_isCondition_58 : decode cX0_isCondition 58 = .ok (.iconst 0, 1) := by decide +kernel
theorem dX0_isCondition_59 : decode cX0_isCondition 59 = .ok (.ireturn, 1) := by decide +kernel
abbrev cX0_push : ByteArray := prog_1_method_3_code
def yX0_push : MethodName := ⟨RX0, "push", "()I"⟩
theorem dX0_push_0 : decode cX0_push 0 = .ok (.aload_n 0, 1) := by decide +kernel
theorem dX0_push_1 : decode cX0_push 1 = .ok (.getfield 26, 3) := by decide +kernel
theorem dX0_push_4 : decode cX0_push 4 = .ok (.bipush 8, 2) := by decide +kernel
theorem dX0_push_6 : decode cX0_push 6 = .ok (.if_icmp .lt 5, 3) := by decide +kernel
theorem dX0_push_9 : decode cX0_push 9 = .ok (.iconst (-1), 1) := by decide +kernel
theorem dX0_push_10 : decode cX0_push 10 = .ok (.ireturn, 1) := by decide +kernel
theorem dX0_push_11 : decode cX0_push 11 = .ok (.aload_n 0, 1) := by decide +kernel
theorem dX0_push_12 : decode cX0_push 12 = .ok (.getfield 19, 3) := by decide +kernel
theorem dX0_push_15 : decode cX0_push 15 = .ok (.aload_n 0, 1) := by decide +kernel
theorem dX0_push_16 : decode cX0_push 16 = .ok (.getfield 26, 3) := by decide +kernel
theorem dX0_push_19 : decode cX0_push 19 = .ok (.aload_n 0, 1) := by decide +kernel
theorem dX0_push_20 : decode cX0_push 20 = .ok (.getfield 22, 3) := by decide +kernel
theorem dX0_push_23 : decode cX0_push 23 = .ok (.iastore, 1) := by decide +kernel
theorem dX0_push_24 : decode cX0_push 24 = .ok (.aload_n 0, 1) := by decide +kernel
theorem dX0_push_25 : decode cX0_push 25 = .ok (.dup, 1) := by decide +kernel
theorem dX0_push_26 : decode cX0_push 26 = .ok (.getfield 26, 3) := by decide +kernel
theorem dX0_push_29 : decode cX0_push 29 = .ok (.iconst 1, 1) := by decide +kernel
theorem dX0_push_30 : decode cX0_push 30 = .ok (.iadd, 1) := by decide +kernel
theorem dX0_push_31 : decode cX0_push 31 = .ok (.putfield 26, 3) := by decide +kernel
theorem dX0_push_34 : decode cX0_push 34 = .ok (.aload_n 0, 1) := by decide +kernel
theorem dX0_push_35 : decode cX0_push 35 = .ok (.getfield 26, 3) := by decide +kernel
theorem dX0_push_38 : decode cX0_push 38 = .ok (.ireturn, 1) := by decide +kernel
abbrev cX0_pop : ByteArray := prog_1_method_4_code
def yX0_pop : MethodName := ⟨RX0, "pop", "()I"⟩
theorem dX0_pop_0 : decode cX0_pop 0 = .ok (.aload_n 0, 1) := by decide +kernel
theorem dX0_pop_1 : decode cX0_pop 1 = .ok (.getfield 26, 3) := by decide +kernel
theorem dX0_pop_4 : decode cX0_pop 4 = .ok (.iconst 1, 1) := by decide +kernel
theorem dX0_pop_5 : decode cX0_pop 5 = .ok (.if_icmp .gt 5, 3) := by decide +kernel
theorem dX0_pop_8 : decode cX0_pop 8 = .ok (.iconst (-1), 1) := by decide +kernel
theorem dX0_pop_9 : decode cX0_pop 9 = .ok (.ireturn, 1) := by decide +kernel
theorem dX0_pop_10 : decode cX0_pop 10 = .ok (.aload_n 0, 1) := by decide +kernel
theorem dX0_pop_11 : decode cX0_pop 11 = .ok (.dup, 1) := by decide +kernel
theorem dX0_pop_12 : decode cX0_pop 12 = .ok (.getfield 26, 3) := by decide +kernel
theorem dX0_pop_15 : decode cX0_pop 15 = .ok (.iconst 1, 1) := by decide +kernel
theorem dX0_pop_16 : decode cX0_pop 16 = .ok (.isub, 1) := by decide +kernel
theorem dX0_pop_17 : decode cX0_pop 17 = .ok (.putfield 26, 3) := by decide +kernel
theorem dX0_pop_20 : decode cX0_pop 20 = .ok (.aload_n 0, 1) := by decide +kernel
theorem dX0_pop_21 : decode cX0_pop 21 = .ok (.aload_n 0, 1) := by decide +kernel
theorem dX0_pop_22 : decode cX0_pop 22 = .ok (.getfield 19, 3) := by decide +kernel
theorem dX0_pop_25 : decode cX0_pop 25 = .ok (.aload_n 0, 1) := by decide +kernel
theorem dX0_pop_26 : decode cX0_pop 26 = .ok (.getfield 26, 3) := by decide +kernel
theorem dX0_pop_29 : decode cX0_pop 29 = .ok (.iaload, 1) := by decide +kernel
theorem dX0_pop_30 : decode cX0_pop 30 = .ok (.putfield 22, 3) := by decide +kernel
theorem dX0_pop_33 : decode cX0_pop 33 = .ok (.aload_n 0, 1) := by decide +kernel
theorem dX0_pop_34 : decode cX0_pop 34 = .ok (.getfield 22, 3) := by decide +kernel
theorem dX0_pop_37 : decode cX0_pop 37 = .ok (.iconst 4, 1) := by decide +kernel
theorem dX0_pop_38 : decode cX0_pop 38 = .ok (.isub, 1) := by decide +kernel
theorem dX0_pop_39 : decode cX0_pop 39 = .ok (.ireturn, 1) := by decide +kernel
abbrev cX0_possible : ByteArray := prog_1_method_5_code
def yX0_possible : MethodName := ⟨RX0, "possible", "()I"⟩
theorem dX0_possible_0 : decode cX0_possible 0 = .ok (.aload_n 0, 1) := by decide +kernel
theorem dX0_possible_1 : decode cX0_possible 1 = .ok (.iconst 0, 1) := by decide +kernel
theorem dX0_possible_2 : decode cX0_possible 2 = .ok (.iconst 0, 1) := by decide +kernel
theorem dX0_possible_3 : decode cX0_possible 3 = .ok (.iconst (-1), 1) := by decide +kernel
theorem dX0_possible_4 : decode cX0_possible 4 = .ok (.invokevirtual 33, 3) := by decide +kernel
theorem dX0_possible_7 : decode cX0_possible 7 = .ok (.ifCond .eq 7, 3) := by decide +kernel
theorem dX0_possible_10 : decode cX0_possible 10 = .ok (.iconst 1, 1) := by decide +kernel
theorem dX0_possible_11 : decode cX0_possible 11 = .ok (.goto 4, 3) := by decide +kernel
theorem dX0_possible_14 : decode cX0_possible 14 = .ok (.iconst 0, 1) := by decide +kernel
theorem dX0_possible_15 : decode cX0_possible 15 = .ok (.ireturn, 1) := by decide +kernel
abbrev cX0_solve : ByteArray := prog_1_method_15_code
def yX0_solve : MethodName := ⟨RX0, "solve", "(III)Z"⟩
theorem dX0_solve_0 : decode cX0_solve 0 = .ok (.aload_n 0, 1) := by decide +kernel
theorem dX0_solve_1 : decode cX0_solve 1 = .ok (.iload_n 1, 1) := by decide +kernel
theorem dX0_solve_2 : decode cX0_solve 2 = .ok (.ifCond .le 9, 3) := by decide +kernel
theorem dX0_solve_5 : decode cX0_solve 5 = .ok (.ldc2_w 77, 3) := by decide +kernel
theorem dX0_solve_8 : decode cX0_solve 8 = .ok (.goto 6, 3) := by decide +kernel
theorem dX0_solve_11 : decode cX0_solve 11 = .ok (.ldc2_w 79, 3) := by decide +kernel
theorem dX0_solve_14 : decode cX0_solve 14 = .ok (.putfield 40, 3) := by decide +kernel
theorem dX0_solve_17 : decode cX0_solve 17 = .ok (.aload_n 0, 1) := by decide +kernel
theorem dX0_solve_18 : decode cX0_solve 18 = .ok (.iload_n 2, 1) := by decide +kernel
theorem dX0_solve_19 : decode cX0_solve 19 = .ok (.ifCond .le 9, 3) := by decide +kernel
theorem dX0_solve_22 : decode cX0_solve 22 = .ok (.ldc2_w 77, 3) := by decide +kernel
theorem dX0_solve_25 : decode cX0_solve 25 = .ok (.goto 6, 3) := by decide +kernel
theorem dX0_solve_28 : decode cX0_solve 28 = .ok (.ldc2_w 79, 3) := by decide +kernel
theorem dX0_solve_31 : decode cX0_solve 31 = .ok (.putfield 47, 3) := by decide +kernel
theorem dX0_solve_34 : decode cX0_solve 34 = .ok (.aload_n 0, 1) := by decide +kernel
theorem dX0_solve_35 : decode cX0_solve 35 = .ok (.lconst 1, 1) := by decide +kernel
theorem dX0_solve_36 : decode cX0_solve 36 = .ok (.putfield 53, 3) := by decide +kernel
theorem dX0_solve_39 : decode cX0_solve 39 = .ok (.iconst 4, 1) := by decide +kernel
theorem dX0_solve_40 : decode cX0_solve 40 = .ok (.istore 4, 2) := by decide +kernel
theorem dX0_solve_42 : decode cX0_solve 42 = .ok (.iload 4, 2) := by decide +kernel
theorem dX0_solve_44 : decode cX0_solve 44 = .ok (.aload_n 0, 1) := by decide +kernel
theorem dX0_solve_45 : decode cX0_solve 45 = .ok (.getfield 22, 3) := by decide +kernel
theorem dX0_solve_48 : decode cX0_solve 48 = .ok (.if_icmp .ge 42, 3) := by decide +kernel
theorem dX0_solve_51 : decode cX0_solve 51 = .ok (.iload 4, 2) := by decide +kernel
theorem dX0_solve_53 : decode cX0_solve 53 = .ok (.iload_n 3, 1) := by decide +kernel
theorem dX0_solve_54 : decode cX0_solve 54 = .ok (.if_icmp .eq 30, 3) := by decide +kernel
theorem dX0_solve_57 : decode cX0_solve 57 = .ok (.aload_n 0, 1) := by decide +kernel
theorem dX0_solve_58 : decode cX0_solve 58 = .ok (.iload 4, 2) := by decide +kernel
theorem dX0_solve_60 : decode cX0_solve 60 = .ok (.invokevirtual 73, 3) := by decide +kernel
theorem dX0_solve_63 : decode cX0_solve 63 = .ok (.ifCond .ne 21, 3) := by decide +kernel
theorem dX0_solve_66 : decode cX0_solve 66 = .ok (.aload_n 0, 1) := by decide +kernel
theorem dX0_solve_67 : decode cX0_solve 67 = .ok (.iload 4, 2) := by decide +kernel
theorem dX0_solve_69 : decode cX0_solve 69 = .ok (.iload_n 1, 1) := by decide +kernel
theorem dX0_solve_70 : decode cX0_solve 70 = .ok (.iload_n 2, 1) := by decide +kernel
theorem dX0_solve_71 : decode cX0_solve 71 = .ok (.iload_n 3, 1) := by decide +kernel
theorem dX0_solve_72 : decode cX0_solve 72 = .ok (.invokevirtual 81, 3) := by decide +kernel
theorem dX0_solve_75 : decode cX0_solve 75 = .ok (.istore 5, 2) := by decide +kernel
theorem dX0_solve_77 : decode cX0_solve 77 = .ok (.iload 5, 2) := by decide +kernel
theorem dX0_solve_79 : decode cX0_solve 79 = .ok (.ifCond .ne 5, 3) := by decide +kernel
theorem dX0_solve_82 : decode cX0_solve 82 = .ok (.iconst 0, 1) := by decide +kernel
theorem dX0_solve_83 : decode cX0_solve 83 = .ok (.ireturn, 1) := by decide +kernel
theorem dX0_solve_84 : decode cX0_solve 84 = .ok (.iinc 4 1, 3) := by decide +kernel
theorem dX0_solve_87 : decode cX0_solve 87 = .ok (.goto (-45), 3) := by decide +kernel
theorem dX0_solve_90 : decode cX0_solve 90 = .ok (.iconst 1, 1) := by decide +kernel
theorem dX0_solve_91 : decode cX0_solve 91 = .ok (.ireturn, 1) := by decide +kernel
abbrev cX0_meets : ByteArray := prog_1_method_14_code
def yX0_meets : MethodName := ⟨RX0, "meets", "(I)Z"⟩
theorem dX0_meets_0 : decode cX0_meets 0 = .ok (.aload_n 0, 1) := by decide +kernel
theorem dX0_meets_1 : decode cX0_meets 1 = .ok (.getfield 7, 3) := by decide +kernel
theorem dX0_meets_4 : decode cX0_meets 4 = .ok (.iload_n 1, 1) := by decide +kernel
theorem dX0_meets_5 : decode cX0_meets 5 = .ok (.iaload, 1) := by decide +kernel
theorem dX0_meets_6 : decode cX0_meets 6 = .ok (.i2l, 1) := by decide +kernel
theorem dX0_meets_7 : decode cX0_meets 7 = .ok (.aload_n 0, 1) := by decide +kernel
theorem dX0_meets_8 : decode cX0_meets 8 = .ok (.getfield 40, 3) := by decide +kernel
theorem dX0_meets_11 : decode cX0_meets 11 = .ok (.lmul, 1) := by decide +kernel
theorem dX0_meets_12 : decode cX0_meets 12 = .ok (.aload_n 0, 1) := by decide +kernel
theorem dX0_meets_13 : decode cX0_meets 13 = .ok (.getfield 13, 3) := by decide +kernel
theorem dX0_meets_16 : decode cX0_meets 16 = .ok (.iload_n 1, 1) := by decide +kernel
theorem dX0_meets_17 : decode cX0_meets 17 = .ok (.iaload, 1) := by decide +kernel
theorem dX0_meets_18 : decode cX0_meets 18 = .ok (.i2l, 1) := by decide +kernel
theorem dX0_meets_19 : decode cX0_meets 19 = .ok (.aload_n 0, 1) := by decide +kernel
theorem dX0_meets_20 : decode cX0_meets 20 = .ok (.getfield 47, 3) := by decide +kernel
theorem dX0_meets_23 : decode cX0_meets 23 = .ok (.lmul, 1) := by decide +kernel
theorem dX0_meets_24 : decode cX0_meets 24 = .ok (.ladd, 1) := by decide +kernel
theorem dX0_meets_25 : decode cX0_meets 25 = .ok (.aload_n 0, 1) := by decide +kernel
theorem dX0_meets_26 : decode cX0_meets 26 = .ok (.getfield 16, 3) := by decide +kernel
theorem dX0_meets_29 : decode cX0_meets 29 = .ok (.iload_n 1, 1) := by decide +kernel
theorem dX0_meets_30 : decode cX0_meets 30 = .ok (.iaload, 1) := by decide +kernel
theorem dX0_meets_31 : decode cX0_meets 31 = .ok (.i2l, 1) := by decide +kernel
theorem dX0_meets_32 : decode cX0_meets 32 = .ok (.aload_n 0, 1) := by decide +kernel
theorem dX0_meets_33 : decode cX0_meets 33 = .ok (.getfield 53, 3) := by decide +kernel
theorem dX0_meets_36 : decode cX0_meets 36 = .ok (.lmul, 1) := by decide +kernel
theorem dX0_meets_37 : decode cX0_meets 37 = .ok (.lcmp, 1) := by decide +kernel
theorem dX0_meets_38 : decode cX0_meets 38 = .ok (.ifCond .gt 7, 3) := by decide +kernel
theorem dX0_meets_41 : decode cX0_meets 41 = .ok (.iconst 1, 1) := by decide +kernel
theorem dX0_meets_42 : decode cX0_meets 42 = .ok (.goto 4, 3) := by decide +kernel
theorem dX0_meets_45 : decode cX0_meets 45 = .ok (.iconst 0, 1) := by decide +kernel
theorem dX0_meets_46 : decode cX0_meets 46 = .ok (.ireturn, 1) := by decide +kernel
abbrev cX0_moveOnto : ByteArray := prog_1_method_16_code
def yX0_moveOnto : MethodName := ⟨RX0, "moveOnto", "(IIII)Z"⟩
theorem dX0_moveOnto_0 : decode cX0_moveOnto 0 = .ok (.aload_n 0, 1) := by decide +kernel
theorem dX0_moveOnto_1 : decode cX0_moveOnto 1 = .ok (.iconst 0, 1) := by decide +kernel
theorem dX0_moveOnto_2 : decode cX0_moveOnto 2 = .ok (.putfield 85, 3) := by decide +kernel
theorem dX0_moveOnto_5 : decode cX0_moveOnto 5 = .ok (.aload_n 0, 1) := by decide +kernel
theorem dX0_moveOnto_6 : decode cX0_moveOnto 6 = .ok (.iconst 0, 1) := by decide +kernel
theorem dX0_moveOnto_7 : decode cX0_moveOnto 7 = .ok (.putfield 88, 3) := by decide +kernel
theorem dX0_moveOnto_10 : decode cX0_moveOnto 10 = .ok (.iconst 0, 1) := by decide +kernel
theorem dX0_moveOnto_11 : decode cX0_moveOnto 11 = .ok (.istore 5, 2) := by decide +kernel
theorem dX0_moveOnto_13 : decode cX0_moveOnto 13 = .ok (.iload 5, 2) := by decide +kernel
theorem dX0_moveOnto_15 : decode cX0_moveOnto 15 = .ok (.iload_n 1, 1) := by decide +kernel
theorem dX0_moveOnto_16 : decode cX0_moveOnto 16 = .ok (.if_icmp .ge 32, 3) := by decide +kernel
theorem dX0_moveOnto_19 : decode cX0_moveOnto 19 = .ok (.iload 5, 2) := by decide +kernel
theorem dX0_moveOnto_21 : decode cX0_moveOnto 21 = .ok (.iload 4, 2) := by decide +kernel
theorem dX0_moveOnto_23 : decode cX0_moveOnto 23 = .ok (.if_icmp .eq 19, 3) := by decide +kernel
theorem dX0_moveOnto_26 : decode cX0_moveOnto 26 = .ok (.aload_n 0, 1) := by decide +kernel
theorem dX0_moveOnto_27 : decode cX0_moveOnto 27 = .ok (.iload_n 1, 1) := by decide +kernel
theorem dX0_moveOnto_28 : decode cX0_moveOnto 28 = .ok (.iload 5, 2) := by decide +kernel
theorem dX0_moveOnto_30 : decode cX0_moveOnto 30 = .ok (.invokevirtual 91, 3) := by decide +kernel
theorem dX0_moveOnto_33 : decode cX0_moveOnto 33 = .ok (.istore 6, 2) := by decide +kernel
theorem dX0_moveOnto_35 : decode cX0_moveOnto 35 = .ok (.iload 6, 2) := by decide +kernel
theorem dX0_moveOnto_37 : decode cX0_moveOnto 37 = .ok (.ifCond .ne 5, 3) := by decide +kernel
theorem dX0_moveOnto_40 : decode cX0_moveOnto 40 = .ok (.iconst 0, 1) := by decide +kernel
theorem dX0_moveOnto_41 : decode cX0_moveOnto 41 = .ok (.ireturn, 1) := by decide +kernel
theorem dX0_moveOnto_42 : decode cX0_moveOnto 42 = .ok (.iinc 5 1, 3) := by decide +kernel
theorem dX0_moveOnto_45 : decode cX0_moveOnto 45 = .ok (.goto (-32), 3) := by decide +kernel
theorem dX0_moveOnto_48 : decode cX0_moveOnto 48 = .ok (.aload_n 0, 1) := by decide +kernel
theorem dX0_moveOnto_49 : decode cX0_moveOnto 49 = .ok (.iload_n 1, 1) := by decide +kernel
theorem dX0_moveOnto_50 : decode cX0_moveOnto 50 = .ok (.aload_n 0, 1) := by decide +kernel
theorem dX0_moveOnto_51 : decode cX0_moveOnto 51 = .ok (.getfield 95, 3) := by decide +kernel
theorem dX0_moveOnto_54 : decode cX0_moveOnto 54 = .ok (.aload_n 0, 1) := by decide +kernel
theorem dX0_moveOnto_55 : decode cX0_moveOnto 55 = .ok (.getfield 98, 3) := by decide +kernel
theorem dX0_moveOnto_58 : decode cX0_moveOnto 58 = .ok (.invokevirtual 101, 3) := by decide +kernel
theorem dX0_moveOnto_61 : decode cX0_moveOnto 61 = .ok (.aload_n 0, 1) := by decide +kernel
theorem dX0_moveOnto_62 : decode cX0_moveOnto 62 = .ok (.getfield 105, 3) := by decide +kernel
theorem dX0_moveOnto_65 : decode cX0_moveOnto 65 = .ok (.lmul, 1) := by decide +kernel
theorem dX0_moveOnto_66 : decode cX0_moveOnto 66 = .ok (.aload_n 0, 1) := by decide +kernel
theorem dX0_moveOnto_67 : decode cX0_moveOnto 67 = .ok (.iload_n 1, 1) := by decide +kernel
theorem dX0_moveOnto_68 : decode cX0_moveOnto 68 = .ok (.aload_n 0, 1) := by decide +kernel
theorem dX0_moveOnto_69 : decode cX0_moveOnto 69 = .ok (.getfield 108, 3) := by decide +kernel
theorem dX0_moveOnto_72 : decode cX0_moveOnto 72 = .ok (.aload_n 0, 1) := by decide +kernel
theorem dX0_moveOnto_73 : decode cX0_moveOnto 73 = .ok (.getfield 111, 3) := by decide +kernel
theorem dX0_moveOnto_76 : decode cX0_moveOnto 76 = .ok (.invokevirtual 101, 3) := by decide +kernel
theorem dX0_moveOnto_79 : decode cX0_moveOnto 79 = .ok (.aload_n 0, 1) := by decide +kernel
theorem dX0_moveOnto_80 : decode cX0_moveOnto 80 = .ok (.getfield 114, 3) := by decide +kernel
theorem dX0_moveOnto_83 : decode cX0_moveOnto 83 = .ok (.lmul, 1) := by decide +kernel
theorem dX0_moveOnto_84 : decode cX0_moveOnto 84 = .ok (.lcmp, 1) := by decide +kernel
theorem dX0_moveOnto_85 : decode cX0_moveOnto 85 = .ok (.ifCond .le 5, 3) := by decide +kernel
theorem dX0_moveOnto_88 : decode cX0_moveOnto 88 = .ok (.iconst 0, 1) := by decide +kernel
theorem dX0_moveOnto_89 : decode cX0_moveOnto 89 = .ok (.ireturn, 1) := by decide +kernel
theorem dX0_moveOnto_90 : decode cX0_moveOnto 90 = .ok (.iload_n 3, 1) := by decide +kernel
theorem dX0_moveOnto_91 : decode cX0_moveOnto 91 = .ok (.aload_n 0, 1) := by decide +kernel
theorem dX0_moveOnto_92 : decode cX0_moveOnto 92 = .ok (.getfield 7, 3) := by decide +kernel
theorem dX0_moveOnto_95 : decode cX0_moveOnto 95 = .ok (.iload_n 1, 1) := by decide +kernel
theorem dX0_moveOnto_96 : decode cX0_moveOnto 96 = .ok (.iaload, 1) := by decide +kernel
theorem dX0_moveOnto_97 : decode cX0_moveOnto 97 = .ok (.imul, 1) := by decide +kernel
theorem dX0_moveOnto_98 : decode cX0_moveOnto 98 = .ok (.iload_n 2, 1) := by decide +kernel
theorem dX0_moveOnto_99 : decode cX0_moveOnto 99 = .ok (.aload_n 0, 1) := by decide +kernel
theorem dX0_moveOnto_100 : decode cX0_moveOnto 100 = .ok (.getfield 13, 3) := by decide +kernel
theorem dX0_moveOnto_103 : decode cX0_moveOnto 103 = .ok (.iload_n 1, 1) := by decide +kernel
theorem dX0_moveOnto_104 : decode cX0_moveOnto 104 = .ok (.iaload, 1) := by decide +kernel
theorem dX0_moveOnto_105 : decode cX0_moveOnto 105 = .ok (.imul, 1) := by decide +kernel
theorem dX0_moveOnto_106 : decode cX0_moveOnto 106 = .ok (.isub, 1) := by decide +kernel
theorem dX0_moveOnto_107 : decode cX0_moveOnto 107 = .ok (.istore 5, 2) := by decide +kernel
theorem dX0_moveOnto_109 : decode cX0_moveOnto 109 = .ok (.iload 5, 2) := by decide +kernel
theorem dX0_moveOnto_111 : decode cX0_moveOnto 111 = .ok (.ifCond .gt 35, 3) := by decide +kernel
theorem dX0_moveOnto_114 : decode cX0_moveOnto 114 = .ok (.iload 5, 2) := by decide +kernel
theorem dX0_moveOnto_116 : decode cX0_moveOnto 116 = .ok (.ifCond .ne 34, 3) := by decide +kernel
theorem dX0_moveOnto_119 : decode cX0_moveOnto 119 = .ok (.aload_n 0, 1) := by decide +kernel
theorem dX0_moveOnto_120 : decode cX0_moveOnto 120 = .ok (.getfield 13, 3) := by decide +kernel
theorem dX0_moveOnto_123 : decode cX0_moveOnto 123 = .ok (.iload_n 1, 1) := by decide +kernel
theorem dX0_moveOnto_124 : decode cX0_moveOnto 124 = .ok (.iaload, 1) := by decide +kernel
theorem dX0_moveOnto_125 : decode cX0_moveOnto 125 = .ok (.ifCond .gt 21, 3) := by decide +kernel
theorem dX0_moveOnto_128 : decode cX0_moveOnto 128 = .ok (.aload_n 0, 1) := by decide +kernel
theorem dX0_moveOnto_129 : decode cX0_moveOnto 129 = .ok (.getfield 13, 3) := by decide +kernel
theorem dX0_moveOnto_132 : decode cX0_moveOnto 132 = .ok (.iload_n 1, 1) := by decide +kernel
theorem dX0_moveOnto_133 : decode cX0_moveOnto 133 = .ok (.iaload, 1) := by decide +kernel
theorem dX0_moveOnto_134 : decode cX0_moveOnto 134 = .ok (.ifCond .ne 16, 3) := by decide +kernel
theorem dX0_moveOnto_137 : decode cX0_moveOnto 137 = .ok (.aload_n 0, 1) := by decide +kernel
theorem dX0_moveOnto_138 : decode cX0_moveOnto 138 = .ok (.getfield 7, 3) := by decide +kernel
theorem dX0_moveOnto_141 : decode cX0_moveOnto 141 = .ok (.iload_n 1, 1) := by decide +kernel
theorem dX0_moveOnto_142 : decode cX0_moveOnto 142 = .ok (.iaload, 1) := by decide +kernel
theorem dX0_moveOnto_143 : decode cX0_moveOnto 143 = .ok (.ifCond .ge 7, 3) := by decide +kernel
theorem dX0_moveOnto_146 : decode cX0_moveOnto 146 = .ok (.iconst 1, 1) := by decide +kernel
theorem dX0_moveOnto_147 : decode cX0_moveOnto 147 = .ok (.goto 4, 3) := by decide +kernel
theorem dX0_moveOnto_150 : decode cX0_moveOnto 150 = .ok (.iconst 0, 1) := by decide +kernel
theorem dX0_moveOnto_151 : decode cX0_moveOnto 151 = .ok (.istore 6, 2) := by decide +kernel
theorem dX0_moveOnto_153 : decode cX0_moveOnto 153 = .ok (.aload_n 0, 1) := by decide +kernel
theorem dX0_moveOnto_154 : decode cX0_moveOnto 154 = .ok (.iload 6, 2) := by decide +kernel
theorem dX0_moveOnto_156 : decode cX0_moveOnto 156 = .ok (.ifCond .eq 10, 3) := by decide +kernel
theorem dX0_moveOnto_159 : decode cX0_moveOnto 159 = .ok (.aload_n 0, 1) := by decide +kernel
theorem dX0_moveOnto_160 : decode cX0_moveOnto 160 = .ok (.getfield 108, 3) := by decide +kernel
theorem dX0_moveOnto_163 : decode cX0_moveOnto 163 = .ok (.goto 7, 3) := by decide +kernel
theorem dX0_moveOnto_166 : decode cX0_moveOnto 166 = .ok (.aload_n 0, 1) := by decide +kernel
theorem dX0_moveOnto_167 : decode cX0_moveOnto 167 = .ok (.getfield 95, 3) := by decide +kernel
theorem dX0_moveOnto_170 : decode cX0_moveOnto 170 = .ok (.putfield 40, 3) := by decide +kernel
theorem dX0_moveOnto_173 : decode cX0_moveOnto 173 = .ok (.aload_n 0, 1) := by decide +kernel
theorem dX0_moveOnto_174 : decode cX0_moveOnto 174 = .ok (.iload 6, 2) := by decide +kernel
theorem dX0_moveOnto_176 : decode cX0_moveOnto 176 = .ok (.ifCond .eq 10, 3) := by decide +kernel
theorem dX0_moveOnto_179 : decode cX0_moveOnto 179 = .ok (.aload_n 0, 1) := by decide +kernel
theorem dX0_moveOnto_180 : decode cX0_moveOnto 180 = .ok (.getfield 111, 3) := by decide +kernel
theorem dX0_moveOnto_183 : decode cX0_moveOnto 183 = .ok (.goto 7, 3) := by decide +kernel
theorem dX0_moveOnto_186 : decode cX0_moveOnto 186 = .ok (.aload_n 0, 1) := by decide +kernel
theorem dX0_moveOnto_187 : decode cX0_moveOnto 187 = .ok (.getfield 98, 3) := by decide +kernel
theorem dX0_moveOnto_190 : decode cX0_moveOnto 190 = .ok (.putfield 47, 3) := by decide +kernel
theorem dX0_moveOnto_193 : decode cX0_moveOnto 193 = .ok (.aload_n 0, 1) := by decide +kernel
theorem dX0_moveOnto_194 : decode cX0_moveOnto 194 = .ok (.iload 6, 2) := by decide +kernel
theorem dX0_moveOnto_196 : decode cX0_moveOnto 196 = .ok (.ifCond .eq 10, 3) := by decide +kernel
theorem dX0_moveOnto_199 : decode cX0_moveOnto 199 = .ok (.aload_n 0, 1) := by decide +kernel
theorem dX0_moveOnto_200 : decode cX0_moveOnto 200 = .ok (.getfield 105, 3) := by decide +kernel
theorem dX0_moveOnto_203 : decode cX0_moveOnto 203 = .ok (.goto 7, 3) := by decide +kernel
theorem dX0_moveOnto_206 : decode cX0_moveOnto 206 = .ok (.aload_n 0, 1) := by decide +kernel
theorem dX0_moveOnto_207 : decode cX0_moveOnto 207 = .ok (.getfield 114, 3) := by decide +kernel
theorem dX0_moveOnto_210 : decode cX0_moveOnto 210 = .ok (.putfield 53, 3) := by decide +kernel
theorem dX0_moveOnto_213 : decode cX0_moveOnto 213 = .ok (.iconst 1, 1) := by decide +kernel
theorem dX0_moveOnto_214 : decode cX0_moveOnto 214 = .ok (.ireturn, 1) := by decide +kernel
abbrev cX0_cutStretch : ByteArray := prog_1_method_18_code
def yX0_cutStretch : MethodName := ⟨RX0, "cutStretch", "(II)Z"⟩
theorem dX0_cutStretch_0 : decode cX0_cutStretch 0 = .ok (.aload_n 0, 1) := by decide +kernel
theorem dX0_cutStretch_1 : decode cX0_cutStretch 1 = .ok (.getfield 7, 3) := by decide +kernel
theorem dX0_cutStretch_4 : decode cX0_cutStretch 4 = .ok (.iload_n 1, 1) := by decide +kernel
theorem dX0_cutStretch_5 : decode cX0_cutStretch 5 = .ok (.iaload, 1) := by decide +kernel
theorem dX0_cutStretch_6 : decode cX0_cutStretch 6 = .ok (.aload_n 0, 1) := by decide +kernel
theorem dX0_cutStretch_7 : decode cX0_cutStretch 7 = .ok (.getfield 13, 3) := by decide +kernel
theorem dX0_cutStretch_10 : decode cX0_cutStretch 10 = .ok (.iload_n 2, 1) := by decide +kernel
theorem dX0_cutStretch_11 : decode cX0_cutStretch 11 = .ok (.iaload, 1) := by decide +kernel
theorem dX0_cutStretch_12 : decode cX0_cutStretch 12 = .ok (.imul, 1) := by decide +kernel
theorem dX0_cutStretch_13 : decode cX0_cutStretch 13 = .ok (.aload_n 0, 1) := by decide +kernel
theorem dX0_cutStretch_14 : decode cX0_cutStretch 14 = .ok (.getfield 7, 3) := by decide +kernel
theorem dX0_cutStretch_17 : decode cX0_cutStretch 17 = .ok (.iload_n 2, 1) := by decide +kernel
theorem dX0_cutStretch_18 : decode cX0_cutStretch 18 = .ok (.iaload, 1) := by decide +kernel
theorem dX0_cutStretch_19 : decode cX0_cutStretch 19 = .ok (.aload_n 0, 1) := by decide +kernel
theorem dX0_cutStretch_20 : decode cX0_cutStretch 20 = .ok (.getfield 13, 3) := by decide +kernel
theorem dX0_cutStretch_23 : decode cX0_cutStretch 23 = .ok (.iload_n 1, 1) := by decide +kernel
theorem dX0_cutStretch_24 : decode cX0_cutStretch 24 = .ok (.iaload, 1) := by decide +kernel
theorem dX0_cutStretch_25 : decode cX0_cutStretch 25 = .ok (.imul, 1) := by decide +kernel
theorem dX0_cutStretch_26 : decode cX0_cutStretch 26 = .ok (.isub, 1) := by decide +kernel
theorem dX0_cutStretch_27 : decode cX0_cutStretch 27 = .ok (.istore_n 3, 1) := by decide +kernel
theorem dX0_cutStretch_28 : decode cX0_cutStretch 28 = .ok (.iload_n 3, 1) := by decide +kernel
theorem dX0_cutStretch_29 : decode cX0_cutStretch 29 = .ok (.ifCond .ne 10, 3) := by decide +kernel
theorem dX0_cutStretch_32 : decode cX0_cutStretch 32 = .ok (.aload_n 0, 1) := by decide +kernel
theorem dX0_cutStretch_33 : decode cX0_cutStretch 33 = .ok (.iload_n 1, 1) := by decide +kernel
theorem dX0_cutStretch_34 : decode cX0_cutStretch 34 = .ok (.iload_n 2, 1) := by decide +kernel
theorem dX0_cutStretch_35 : decode cX0_cutStretch 35 = .ok (.invokevirtual 117, 3) := by decide +kernel
theorem dX0_cutStretch_38 : decode cX0_cutStretch 38 = .ok (.ireturn, 1) := by decide +kernel
theorem dX0_cutStretch_39 : decode cX0_cutStretch 39 = .ok (.aload_n 0, 1) := by decide +kernel
theorem dX0_cutStretch_40 : decode cX0_cutStretch 40 = .ok (.getfield 16, 3) := by decide +kernel
theorem dX0_cutStretch_43 : decode cX0_cutStretch 43 = .ok (.iload_n 1, 1) := by decide +kernel
theorem dX0_cutStretch_44 : decode cX0_cutStretch 44 = .ok (.iaload, 1) := by decide +kernel
theorem dX0_cutStretch_45 : decode cX0_cutStretch 45 = .ok (.aload_n 0, 1) := by decide +kernel
theorem dX0_cutStretch_46 : decode cX0_cutStretch 46 = .ok (.getfield 13, 3) := by decide +kernel
theorem dX0_cutStretch_49 : decode cX0_cutStretch 49 = .ok (.iload_n 2, 1) := by decide +kernel
theorem dX0_cutStretch_50 : decode cX0_cutStretch 50 = .ok (.iaload, 1) := by decide +kernel
theorem dX0_cutStretch_51 : decode cX0_cutStretch 51 = .ok (.imul, 1) := by decide +kernel
theorem dX0_cutStretch_52 : decode cX0_cutStretch 52 = .ok (.aload_n 0, 1) := by decide +kernel
theorem dX0_cutStretch_53 : decode cX0_cutStretch 53 = .ok (.getfield 16, 3) := by decide +kernel
theorem dX0_cutStretch_56 : decode cX0_cutStretch 56 = .ok (.iload_n 2, 1) := by decide +kernel
theorem dX0_cutStretch_57 : decode cX0_cutStretch 57 = .ok (.iaload, 1) := by decide +kernel
theorem dX0_cutStretch_58 : decode cX0_cutStretch 58 = .ok (.aload_n 0, 1) := by decide +kernel
theorem dX0_cutStretch_59 : decode cX0_cutStretch 59 = .ok (.getfield 13, 3) := by decide +kernel
theorem dX0_cutStretch_62 : decode cX0_cutStretch 62 = .ok (.iload_n 1, 1) := by decide +kernel
theorem dX0_cutStretch_63 : decode cX0_cutStretch 63 = .ok (.iaload, 1) := by decide +kernel
theorem dX0_cutStretch_64 : decode cX0_cutStretch 64 = .ok (.imul, 1) := by decide +kernel
theorem dX0_cutStretch_65 : decode cX0_cutStretch 65 = .ok (.isub, 1) := by decide +kernel
theorem dX0_cutStretch_66 : decode cX0_cutStretch 66 = .ok (.i2l, 1) := by decide +kernel
theorem dX0_cutStretch_67 : decode cX0_cutStretch 67 = .ok (.lstore 4, 2) := by decide +kernel
theorem dX0_cutStretch_69 : decode cX0_cutStretch 69 = .ok (.aload_n 0, 1) := by decide +kernel
theorem dX0_cutStretch_70 : decode cX0_cutStretch 70 = .ok (.getfield 7, 3) := by decide +kernel
theorem dX0_cutStretch_73 : decode cX0_cutStretch 73 = .ok (.iload_n 1, 1) := by decide +kernel
theorem dX0_cutStretch_74 : decode cX0_cutStretch 74 = .ok (.iaload, 1) := by decide +kernel
theorem dX0_cutStretch_75 : decode cX0_cutStretch 75 = .ok (.aload_n 0, 1) := by decide +kernel
theorem dX0_cutStretch_76 : decode cX0_cutStretch 76 = .ok (.getfield 16, 3) := by decide +kernel
theorem dX0_cutStretch_79 : decode cX0_cutStretch 79 = .ok (.iload_n 2, 1) := by decide +kernel
theorem dX0_cutStretch_80 : decode cX0_cutStretch 80 = .ok (.iaload, 1) := by decide +kernel
theorem dX0_cutStretch_81 : decode cX0_cutStretch 81 = .ok (.imul, 1) := by decide +kernel
theorem dX0_cutStretch_82 : decode cX0_cutStretch 82 = .ok (.aload_n 0, 1) := by decide +kernel
theorem dX0_cutStretch_83 : decode cX0_cutStretch 83 = .ok (.getfield 7, 3) := by decide +kernel
theorem dX0_cutStretch_86 : decode cX0_cutStretch 86 = .ok (.iload_n 2, 1) := by decide +kernel
theorem dX0_cutStretch_87 : decode cX0_cutStretch 87 = .ok (.iaload, 1) := by decide +kernel
theorem dX0_cutStretch_88 : decode cX0_cutStretch 88 = .ok (.aload_n 0, 1) := by decide +kernel
theorem dX0_cutStretch_89 : decode cX0_cutStretch 89 = .ok (.getfield 16, 3) := by decide +kernel
theorem dX0_cutStretch_92 : decode cX0_cutStretch 92 = .ok (.iload_n 1, 1) := by decide +kernel
theorem dX0_cutStretch_93 : decode cX0_cutStretch 93 = .ok (.iaload, 1) := by decide +kernel
theorem dX0_cutStretch_94 : decode cX0_cutStretch 94 = .ok (.imul, 1) := by decide +kernel
theorem dX0_cutStretch_95 : decode cX0_cutStretch 95 = .ok (.isub, 1) := by decide +kernel
theorem dX0_cutStretch_96 : decode cX0_cutStretch 96 = .ok (.i2l, 1) := by decide +kernel
theorem dX0_cutStretch_97 : decode cX0_cutStretch 97 = .ok (.lstore 6, 2) := by decide +kernel
theorem dX0_cutStretch_99 : decode cX0_cutStretch 99 = .ok (.iload_n 3, 1) := by decide +kernel
theorem dX0_cutStretch_100 : decode cX0_cutStretch 100 = .ok (.ifCond .le 17, 3) := by decide +kernel
theorem dX0_cutStretch_103 : decode cX0_cutStretch 103 = .ok (.aload_n 0, 1) := by decide +kernel
theorem dX0_cutStretch_104 : decode cX0_cutStretch 104 = .ok (.iload_n 1, 1) := by decide +kernel
theorem dX0_cutStretch_105 : decode cX0_cutStretch 105 = .ok (.lload 4, 2) := by decide +kernel
theorem dX0_cutStretch_107 : decode cX0_cutStretch 107 = .ok (.lload 6, 2) := by decide +kernel
theorem dX0_cutStretch_109 : decode cX0_cutStretch 109 = .ok (.iload_n 3, 1) := by decide +kernel
theorem dX0_cutStretch_110 : decode cX0_cutStretch 110 = .ok (.i2l, 1) := by decide +kernel
theorem dX0_cutStretch_111 : decode cX0_cutStretch 111 = .ok (.invokevirtual 120, 3) := by decide +kernel
theorem dX0_cutStretch_114 : decode cX0_cutStretch 114 = .ok (.goto 17, 3) := by decide +kernel
theorem dX0_cutStretch_117 : decode cX0_cutStretch 117 = .ok (.aload_n 0, 1) := by decide +kernel
theorem dX0_cutStretch_118 : decode cX0_cutStretch 118 = .ok (.iload_n 1, 1) := by decide +kernel
theorem dX0_cutStretch_119 : decode cX0_cutStretch 119 = .ok (.lload 4, 2) := by decide +kernel
theorem dX0_cutStretch_121 : decode cX0_cutStretch 121 = .ok (.lneg, 1) := by decide +kernel
theorem dX0_cutStretch_122 : decode cX0_cutStretch 122 = .ok (.lload 6, 2) := by decide +kernel
theorem dX0_cutStretch_124 : decode cX0_cutStretch 124 = .ok (.lneg, 1) := by decide +kernel
theorem dX0_cutStretch_125 : decode cX0_cutStretch 125 = .ok (.iload_n 3, 1) := by decide +kernel
theorem dX0_cutStretch_126 : decode cX0_cutStretch 126 = .ok (.ineg, 1) := by decide +kernel
theorem dX0_cutStretch_127 : decode cX0_cutStretch 127 = .ok (.i2l, 1) := by decide +kernel
theorem dX0_cutStretch_128 : decode cX0_cutStretch 128 = .ok (.invokevirtual 124, 3) := by decide +kernel
theorem dX0_cutStretch_131 : decode cX0_cutStretch 131 = .ok (.iconst 1, 1) := by decide +kernel
theorem dX0_cutStretch_132 : decode cX0_cutStretch 132 = .ok (.ireturn, 1) := by decide +kernel
abbrev cX0_parallelMeets : ByteArray := prog_1_method_19_code
def yX0_parallelMeets : MethodName := ⟨RX0, "parallelMeets", "(II)Z"⟩
theorem dX0_parallelMeets_0 : decode cX0_parallelMeets 0 = .ok (.aload_n 0, 1) := by decide +kernel
theorem dX0_parallelMeets_1 : decode cX0_parallelMeets 1 = .ok (.getfield 7, 3) := by decide +kernel
theorem dX0_parallelMeets_4 : decode cX0_parallelMeets 4 = .ok (.iload_n 1, 1) := by decide +kernel
theorem dX0_parallelMeets_5 : decode cX0_parallelMeets 5 = .ok (.iaload, 1) := by decide +kernel
theorem dX0_parallelMeets_6 : decode cX0_parallelMeets 6 = .ok (.ifCond .eq 12, 3) := by decide +kernel
theorem dX0_parallelMeets_9 : decode cX0_parallelMeets 9 = .ok (.aload_n 0, 1) := by decide +kernel
theorem dX0_parallelMeets_10 : decode cX0_parallelMeets 10 = .ok (.getfield 7, 3) := by decide +kernel
theorem dX0_parallelMeets_13 : decode cX0_parallelMeets 13 = .ok (.iload_n 1, 1) := by decide +kernel
theorem dX0_parallelMeets_14 : decode cX0_parallelMeets 14 = .ok (.iaload, 1) := by decide +kernel
theorem dX0_parallelMeets_15 : decode cX0_parallelMeets 15 = .ok (.goto 9, 3) := by decide +kernel
theorem dX0_parallelMeets_18 : decode cX0_parallelMeets 18 = .ok (.aload_n 0, 1) := by decide +kernel
theorem dX0_parallelMeets_19 : decode cX0_parallelMeets 19 = .ok (.getfield 13, 3) := by decide +kernel
theorem dX0_parallelMeets_22 : decode cX0_parallelMeets 22 = .ok (.iload_n 1, 1) := by decide +kernel
theorem dX0_parallelMeets_23 : decode cX0_parallelMeets 23 = .ok (.iaload, 1) := by decide +kernel
theorem dX0_parallelMeets_24 : decode cX0_parallelMeets 24 = .ok (.istore_n 3, 1) := by decide +kernel
theorem dX0_parallelMeets_25 : decode cX0_parallelMeets 25 = .ok (.aload_n 0, 1) := by decide +kernel
theorem dX0_parallelMeets_26 : decode cX0_parallelMeets 26 = .ok (.getfield 7, 3) := by decide +kernel
theorem dX0_parallelMeets_29 : decode cX0_parallelMeets 29 = .ok (.iload_n 1, 1) := by decide +kernel
theorem dX0_parallelMeets_30 : decode cX0_parallelMeets 30 = .ok (.iaload, 1) := by decide +kernel
theorem dX0_parallelMeets_31 : decode cX0_parallelMeets 31 = .ok (.ifCond .eq 12, 3) := by decide +kernel
theorem dX0_parallelMeets_34 : decode cX0_parallelMeets 34 = .ok (.aload_n 0, 1) := by decide +kernel
theorem dX0_parallelMeets_35 : decode cX0_parallelMeets 35 = .ok (.getfield 7, 3) := by decide +kernel
theorem dX0_parallelMeets_38 : decode cX0_parallelMeets 38 = .ok (.iload_n 2, 1) := by decide +kernel
theorem dX0_parallelMeets_39 : decode cX0_parallelMeets 39 = .ok (.iaload, 1) := by decide +kernel
theorem dX0_parallelMeets_40 : decode cX0_parallelMeets 40 = .ok (.goto 9, 3) := by decide +kernel
theorem dX0_parallelMeets_43 : decode cX0_parallelMeets 43 = .ok (.aload_n 0, 1) := by decide +kernel
theorem dX0_parallelMeets_44 : decode cX0_parallelMeets 44 = .ok (.getfield 13, 3) := by decide +kernel
theorem dX0_parallelMeets_47 : decode cX0_parallelMeets 47 = .ok (.iload_n 2, 1) := by decide +kernel
theorem dX0_parallelMeets_48 : decode cX0_parallelMeets 48 = .ok (.iaload, 1) := by decide +kernel
theorem dX0_parallelMeets_49 : decode cX0_parallelMeets 49 = .ok (.istore 4, 2) := by decide +kernel
theorem dX0_parallelMeets_51 : decode cX0_parallelMeets 51 = .ok (.iload_n 3, 1) := by decide +kernel
theorem dX0_parallelMeets_52 : decode cX0_parallelMeets 52 = .ok (.ifCond .le 31, 3) := by decide +kernel
theorem dX0_parallelMeets_55 : decode cX0_parallelMeets 55 = .ok (.iload 4, 2) := by decide +kernel
theorem dX0_parallelMeets_57 : decode cX0_parallelMeets 57 = .ok (.aload_n 0, 1) := by decide +kernel
theorem dX0_parallelMeets_58 : decode cX0_parallelMeets 58 = .ok (.getfield 16, 3) := by decide +kernel
theorem dX0_parallelMeets_61 : decode cX0_parallelMeets 61 = .ok (.iload_n 1, 1) := by decide +kernel
theorem dX0_parallelMeets_62 : decode cX0_parallelMeets 62 = .ok (.iaload, 1) := by decide +kernel
theorem dX0_parallelMeets_63 : decode cX0_parallelMeets 63 = .ok (.imul, 1) := by decide +kernel
theorem dX0_parallelMeets_64 : decode cX0_parallelMeets 64 = .ok (.aload_n 0, 1) := by decide +kernel
theorem dX0_parallelMeets_65 : decode cX0_parallelMeets 65 = .ok (.getfield 16, 3) := by decide +kernel
theorem dX0_parallelMeets_68 : decode cX0_parallelMeets 68 = .ok (.iload_n 2, 1) := by decide +kernel
theorem dX0_parallelMeets_69 : decode cX0_parallelMeets 69 = .ok (.iaload, 1) := by decide +kernel
theorem dX0_parallelMeets_70 : decode cX0_parallelMeets 70 = .ok (.iload_n 3, 1) := by decide +kernel
theorem dX0_parallelMeets_71 : decode cX0_parallelMeets 71 = .ok (.imul, 1) := by decide +kernel
theorem dX0_parallelMeets_72 : decode cX0_parallelMeets 72 = .ok (.if_icmp .gt 7, 3) := by decide +kernel
theorem dX0_parallelMeets_75 : decode cX0_parallelMeets 75 = .ok (.iconst 1, 1) := by decide +kernel
theorem dX0_parallelMeets_76 : decode cX0_parallelMeets 76 = .ok (.goto 32, 3) := by decide +kernel
theorem dX0_parallelMeets_79 : decode cX0_parallelMeets 79 = .ok (.iconst 0, 1) := by decide +kernel
theorem dX0_parallelMeets_80 : decode cX0_parallelMeets 80 = .ok (.goto 28, 3) := by decide +kernel
theorem dX0_parallelMeets_83 : decode cX0_parallelMeets 83 = .ok (.iload 4, 2) := by decide +kernel
theorem dX0_parallelMeets_85 : decode cX0_parallelMeets 85 = .ok (.aload_n 0, 1) := by decide +kernel
theorem dX0_parallelMeets_86 : decode cX0_parallelMeets 86 = .ok (.getfield 16, 3) := by decide +kernel
theorem dX0_parallelMeets_89 : decode cX0_parallelMeets 89 = .ok (.iload_n 1, 1) := by decide +kernel
theorem dX0_parallelMeets_90 : decode cX0_parallelMeets 90 = .ok (.iaload, 1) := by decide +kernel
theorem dX0_parallelMeets_91 : decode cX0_parallelMeets 91 = .ok (.imul, 1) := by decide +kernel
theorem dX0_parallelMeets_92 : decode cX0_parallelMeets 92 = .ok (.aload_n 0, 1) := by decide +kernel
theorem dX0_parallelMeets_93 : decode cX0_parallelMeets 93 = .ok (.getfield 16, 3) := by decide +kernel
theorem dX0_parallelMeets_96 : decode cX0_parallelMeets 96 = .ok (.iload_n 2, 1) := by decide +kernel
theorem dX0_parallelMeets_97 : decode cX0_parallelMeets 97 = .ok (.iaload, 1) := by decide +kernel
theorem dX0_parallelMeets_98 : decode cX0_parallelMeets 98 = .ok (.iload_n 3, 1) := by decide +kernel
theorem dX0_parallelMeets_99 : decode cX0_parallelMeets 99 = .ok (.imul, 1) := by decide +kernel
theorem dX0_parallelMeets_100 : decode cX0_parallelMeets 100 = .ok (.if_icmp .lt 7, 3) := by decide +kernel
theorem dX0_parallelMeets_103 : decode cX0_parallelMeets 103 = .ok (.iconst 1, 1) := by decide +kernel
theorem dX0_parallelMeets_104 : decode cX0_parallelMeets 104 = .ok (.goto 4, 3) := by decide +kernel
theorem dX0_parallelMeets_107 : decode cX0_parallelMeets 107 = .ok (.iconst 0, 1) := by decide +kernel
theorem dX0_parallelMeets_108 : decode cX0_parallelMeets 108 = .ok (.ireturn, 1) := by decide +kernel
abbrev cX0_cutHigh : ByteArray := prog_1_method_20_code
def yX0_cutHigh : MethodName := ⟨RX0, "cutHigh", "(IJJJ)V"⟩
theorem dX0_cutHigh_0 : decode cX0_cutHigh 0 = .ok (.aload_n 0, 1) := by decide +kernel
theorem dX0_cutHigh_1 : decode cX0_cutHigh 1 = .ok (.getfield 88, 3) := by decide +kernel
theorem dX0_cutHigh_4 : decode cX0_cutHigh 4 = .ok (.ifCond .eq 36, 3) := by decide +kernel
theorem dX0_cutHigh_7 : decode cX0_cutHigh 7 = .ok (.aload_n 0, 1) := by decide +kernel
theorem dX0_cutHigh_8 : decode cX0_cutHigh 8 = .ok (.iload_n 1, 1) := by decide +kernel
theorem dX0_cutHigh_9 : decode cX0_cutHigh 9 = .ok (.lload_n 2, 1) := by decide +kernel
theorem dX0_cutHigh_10 : decode cX0_cutHigh 10 = .ok (.lload 4, 2) := by decide +kernel
theorem dX0_cutHigh_12 : decode cX0_cutHigh 12 = .ok (.invokevirtual 101, 3) := by decide +kernel
theorem dX0_cutHigh_15 : decode cX0_cutHigh 15 = .ok (.aload_n 0, 1) := by decide +kernel
theorem dX0_cutHigh_16 : decode cX0_cutHigh 16 = .ok (.getfield 105, 3) := by decide +kernel
theorem dX0_cutHigh_19 : decode cX0_cutHigh 19 = .ok (.lmul, 1) := by decide +kernel
theorem dX0_cutHigh_20 : decode cX0_cutHigh 20 = .ok (.aload_n 0, 1) := by decide +kernel
theorem dX0_cutHigh_21 : decode cX0_cutHigh 21 = .ok (.iload_n 1, 1) := by decide +kernel
theorem dX0_cutHigh_22 : decode cX0_cutHigh 22 = .ok (.aload_n 0, 1) := by decide +kernel
theorem dX0_cutHigh_23 : decode cX0_cutHigh 23 = .ok (.getfield 108, 3) := by decide +kernel
theorem dX0_cutHigh_26 : decode cX0_cutHigh 26 = .ok (.aload_n 0, 1) := by decide +kernel
theorem dX0_cutHigh_27 : decode cX0_cutHigh 27 = .ok (.getfield 111, 3) := by decide +kernel
theorem dX0_cutHigh_30 : decode cX0_cutHigh 30 = .ok (.invokevirtual 101, 3) := by decide +kernel
theorem dX0_cutHigh_33 : decode cX0_cutHigh 33 = .ok (.lload 6, 2) := by decide +kernel
theorem dX0_cutHigh_35 : decode cX0_cutHigh 35 = .ok (.lmul, 1) := by decide +kernel
theorem dX0_cutHigh_36 : decode cX0_cutHigh 36 = .ok (.lcmp, 1) := by decide +kernel
theorem dX0_cutHigh_37 : decode cX0_cutHigh 37 = .ok (.ifCond .ge 25, 3) := by decide +kernel
theorem dX0_cutHigh_40 : decode cX0_cutHigh 40 = .ok (.aload_n 0, 1) := by decide +kernel
theorem dX0_cutHigh_41 : decode cX0_cutHigh 41 = .ok (.lload_n 2, 1) := by decide +kernel
theorem dX0_cutHigh_42 : decode cX0_cutHigh 42 = .ok (.putfield 108, 3) := by decide +kernel
theorem dX0_cutHigh_45 : decode cX0_cutHigh 45 = .ok (.aload_n 0, 1) := by decide +kernel
theorem dX0_cutHigh_46 : decode cX0_cutHigh 46 = .ok (.lload 4, 2) := by decide +kernel
theorem dX0_cutHigh_48 : decode cX0_cutHigh 48 = .ok (.putfield 111, 3) := by decide +kernel
theorem dX0_cutHigh_51 : decode cX0_cutHigh 51 = .ok (.aload_n 0, 1) := by decide +kernel
theorem dX0_cutHigh_52 : decode cX0_cutHigh 52 = .ok (.lload 6, 2) := by decide +kernel
theorem dX0_cutHigh_54 : decode cX0_cutHigh 54 = .ok (.putfield 105, 3) := by decide +kernel
theorem dX0_cutHigh_57 : decode cX0_cutHigh 57 = .ok (.aload_n 0, 1) := by decide +kernel
theorem dX0_cutHigh_58 : decode cX0_cutHigh 58 = .ok (.iconst 1, 1) := by decide +kernel
theorem dX0_cutHigh_59 : decode cX0_cutHigh 59 = .ok (.putfield 88, 3) := by decide +kernel
theorem dX0_cutHigh_62 : decode cX0_cutHigh 62 = .ok (.return_, 1) := by decide +kernel
abbrev cX0_along : ByteArray := prog_1_method_17_code
def yX0_along : MethodName := ⟨RX0, "along", "(IJJ)J"⟩
theorem dX0_along_0 : decode cX0_along 0 = .ok (.aload_n 0, 1) := by decide +kernel
theorem dX0_along_1 : decode cX0_along 1 = .ok (.getfield 7, 3) := by decide +kernel
theorem dX0_along_4 : decode cX0_along 4 = .ok (.iload_n 1, 1) := by decide +kernel
theorem dX0_along_5 : decode cX0_along 5 = .ok (.iaload, 1) := by decide +kernel
theorem dX0_along_6 : decode cX0_along 6 = .ok (.i2l, 1) := by decide +kernel
theorem dX0_along_7 : decode cX0_along 7 = .ok (.lload 4, 2) := by decide +kernel
theorem dX0_along_9 : decode cX0_along 9 = .ok (.lmul, 1) := by decide +kernel
theorem dX0_along_10 : decode cX0_along 10 = .ok (.aload_n 0, 1) := by decide +kernel
theorem dX0_along_11 : decode cX0_along 11 = .ok (.getfield 13, 3) := by decide +kernel
theorem dX0_along_14 : decode cX0_along 14 = .ok (.iload_n 1, 1) := by decide +kernel
theorem dX0_along_15 : decode cX0_along 15 = .ok (.iaload, 1) := by decide +kernel
theorem dX0_along_16 : decode cX0_along 16 = .ok (.i2l, 1) := by decide +kernel
theorem dX0_along_17 : decode cX0_along 17 = .ok (.lload_n 2, 1) := by decide +kernel
theorem dX0_along_18 : decode cX0_along 18 = .ok (.lmul, 1) := by decide +kernel
theorem dX0_along_19 : decode cX0_along 19 = .ok (.lsub, 1) := by decide +kernel
theorem dX0_along_20 : decode cX0_along 20 = .ok (.lreturn, 1) := by decide +kernel
abbrev cX0_cutLow : ByteArray := prog_1_method_21_code
def yX0_cutLow : MethodName := ⟨RX0, "cutLow", "(IJJJ)V"⟩
theorem dX0_cutLow_0 : decode cX0_cutLow 0 = .ok (.aload_n 0, 1) := by decide +kernel
theorem dX0_cutLow_1 : decode cX0_cutLow 1 = .ok (.getfield 85, 3) := by decide +kernel
theorem dX0_cutLow_4 : decode cX0_cutLow 4 = .ok (.ifCond .eq 36, 3) := by decide +kernel
theorem dX0_cutLow_7 : decode cX0_cutLow 7 = .ok (.aload_n 0, 1) := by decide +kernel
theorem dX0_cutLow_8 : decode cX0_cutLow 8 = .ok (.iload_n 1, 1) := by decide +kernel
theorem dX0_cutLow_9 : decode cX0_cutLow 9 = .ok (.lload_n 2, 1) := by decide +kernel
theorem dX0_cutLow_10 : decode cX0_cutLow 10 = .ok (.lload 4, 2) := by decide +kernel
theorem dX0_cutLow_12 : decode cX0_cutLow 12 = .ok (.invokevirtual 101, 3) := by decide +kernel
theorem dX0_cutLow_15 : decode cX0_cutLow 15 = .ok (.aload_n 0, 1) := by decide +kernel
theorem dX0_cutLow_16 : decode cX0_cutLow 16 = .ok (.getfield 114, 3) := by decide +kernel
theorem dX0_cutLow_19 : decode cX0_cutLow 19 = .ok (.lmul, 1) := by decide +kernel
theorem dX0_cutLow_20 : decode cX0_cutLow 20 = .ok (.aload_n 0, 1) := by decide +kernel
theorem dX0_cutLow_21 : decode cX0_cutLow 21 = .ok (.iload_n 1, 1) := by decide +kernel
theorem dX0_cutLow_22 : decode cX0_cutLow 22 = .ok (.aload_n 0, 1) := by decide +kernel
theorem dX0_cutLow_23 : decode cX0_cutLow 23 = .ok (.getfield 95, 3) := by decide +kernel
theorem dX0_cutLow_26 : decode cX0_cutLow 26 = .ok (.aload_n 0, 1) := by decide +kernel
theorem dX0_cutLow_27 : decode cX0_cutLow 27 = .ok (.getfield 98, 3) := by decide +kernel
theorem dX0_cutLow_30 : decode cX0_cutLow 30 = .ok (.invokevirtual 101, 3) := by decide +kernel
theorem dX0_cutLow_33 : decode cX0_cutLow 33 = .ok (.lload 6, 2) := by decide +kernel
theorem dX0_cutLow_35 : decode cX0_cutLow 35 = .ok (.lmul, 1) := by decide +kernel
theorem dX0_cutLow_36 : decode cX0_cutLow 36 = .ok (.lcmp, 1) := by decide +kernel
theorem dX0_cutLow_37 : decode cX0_cutLow 37 = .ok (.ifCond .le 25, 3) := by decide +kernel
theorem dX0_cutLow_40 : decode cX0_cutLow 40 = .ok (.aload_n 0, 1) := by decide +kernel
theorem dX0_cutLow_41 : decode cX0_cutLow 41 = .ok (.lload_n 2, 1) := by decide +kernel
theorem dX0_cutLow_42 : decode cX0_cutLow 42 = .ok (.putfield 95, 3) := by decide +kernel
theorem dX0_cutLow_45 : decode cX0_cutLow 45 = .ok (.aload_n 0, 1) := by decide +kernel
theorem dX0_cutLow_46 : decode cX0_cutLow 46 = .ok (.lload 4, 2) := by decide +kernel
theorem dX0_cutLow_48 : decode cX0_cutLow 48 = .ok (.putfield 98, 3) := by decide +kernel
theorem dX0_cutLow_51 : decode cX0_cutLow 51 = .ok (.aload_n 0, 1) := by decide +kernel
theorem dX0_cutLow_52 : decode cX0_cutLow 52 = .ok (.lload 6, 2) := by decide +kernel
theorem dX0_cutLow_54 : decode cX0_cutLow 54 = .ok (.putfield 114, 3) := by decide +kernel
theorem dX0_cutLow_57 : decode cX0_cutLow 57 = .ok (.aload_n 0, 1) := by decide +kernel
theorem dX0_cutLow_58 : decode cX0_cutLow 58 = .ok (.iconst 1, 1) := by decide +kernel
theorem dX0_cutLow_59 : decode cX0_cutLow 59 = .ok (.putfield 85, 3) := by decide +kernel
theorem dX0_cutLow_62 : decode cX0_cutLow 62 = .ok (.return_, 1) := by decide +kernel
abbrev cX0_best : ByteArray := prog_1_method_6_code
def yX0_best : MethodName := ⟨RX0, "best", "(II)I"⟩
theorem dX0_best_0 : decode cX0_best 0 = .ok (.iload_n 1, 1) := by decide +kernel
theorem dX0_best_1 : decode cX0_best 1 = .ok (.bipush (-9), 2) := by decide +kernel
theorem dX0_best_3 : decode cX0_best 3 = .ok (.if_icmp .lt 21, 3) := by decide +kernel
theorem dX0_best_6 : decode cX0_best 6 = .ok (.iload_n 1, 1) := by decide +kernel
theorem dX0_best_7 : decode cX0_best 7 = .ok (.bipush 9, 2) := by decide +kernel
theorem dX0_best_9 : decode cX0_best 9 = .ok (.if_icmp .gt 15, 3) := by decide +kernel
theorem dX0_best_12 : decode cX0_best 12 = .ok (.iload_n 2, 1) := by decide +kernel
theorem dX0_best_13 : decode cX0_best 13 = .ok (.bipush (-9), 2) := by decide +kernel
theorem dX0_best_15 : decode cX0_best 15 = .ok (.if_icmp .lt 9, 3) := by decide +kernel
theorem dX0_best_18 : decode cX0_best 18 = .ok (.iload_n 2, 1) := by decide +kernel
theorem dX0_best_19 : decode cX0_best 19 = .ok (.bipush 9, 2) := by decide +kernel
theorem dX0_best_21 : decode cX0_best 21 = .ok (.if_icmp .le 5, 3) := by decide +kernel
theorem dX0_best_24 : decode cX0_best 24 = .ok (.iconst (-1), 1) := by decide +kernel
theorem dX0_best_25 : decode cX0_best 25 = .ok (.ireturn, 1) := by decide +kernel
theorem dX0_best_26 : decode cX0_best 26 = .ok (.aload_n 0, 1) := by decide +kernel
theorem dX0_best_27 : decode cX0_best 27 = .ok (.aload_n 0, 1) := by decide +kernel
theorem dX0_best_28 : decode cX0_best 28 = .ok (.iload_n 1, 1) := by decide +kernel
theorem dX0_best_29 : decode cX0_best 29 = .ok (.iload_n 2, 1) := by decide +kernel
theorem dX0_best_30 : decode cX0_best 30 = .ok (.iconst (-1), 1) := by decide +kernel
theorem dX0_best_31 : decode cX0_best 31 = .ok (.invokevirtual 33, 3) := by decide +kernel
theorem dX0_best_34 : decode cX0_best 34 = .ok (.putfield 36, 3) := by decide +kernel
theorem dX0_best_37 : decode cX0_best 37 = .ok (.aload_n 0, 1) := by decide +kernel
theorem dX0_best_38 : decode cX0_best 38 = .ok (.getfield 36, 3) := by decide +kernel
theorem dX0_best_41 : decode cX0_best 41 = .ok (.ifCond .ne 5, 3) := by decide +kernel
theorem dX0_best_44 : decode cX0_best 44 = .ok (.iconst 0, 1) := by decide +kernel
theorem dX0_best_45 : decode cX0_best 45 = .ok (.ireturn, 1) := by decide +kernel
theorem dX0_best_46 : decode cX0_best 46 = .ok (.aload_n 0, 1) := by decide +kernel
theorem dX0_best_47 : decode cX0_best 47 = .ok (.aload_n 0, 1) := by decide +kernel
theorem dX0_best_48 : decode cX0_best 48 = .ok (.getfield 40, 3) := by decide +kernel
theorem dX0_best_51 : decode cX0_best 51 = .ok (.putfield 44, 3) := by decide +kernel
theorem dX0_best_54 : decode cX0_best 54 = .ok (.aload_n 0, 1) := by decide +kernel
theorem dX0_best_55 : decode cX0_best 55 = .ok (.aload_n 0, 1) := by decide +kernel
theorem dX0_best_56 : decode cX0_best 56 = .ok (.getfield 47, 3) := by decide +kernel
theorem dX0_best_59 : decode cX0_best 59 = .ok (.putfield 50, 3) := by decide +kernel
theorem dX0_best_62 : decode cX0_best 62 = .ok (.aload_n 0, 1) := by decide +kernel
theorem dX0_best_63 : decode cX0_best 63 = .ok (.aload_n 0, 1) := by decide +kernel
theorem dX0_best_64 : decode cX0_best 64 = .ok (.getfield 53, 3) := by decide +kernel
theorem dX0_best_67 : decode cX0_best 67 = .ok (.putfield 56, 3) := by decide +kernel
theorem dX0_best_70 : decode cX0_best 70 = .ok (.aload_n 0, 1) := by decide +kernel
theorem dX0_best_71 : decode cX0_best 71 = .ok (.iload_n 1, 1) := by decide +kernel
theorem dX0_best_72 : decode cX0_best 72 = .ok (.putfield 59, 3) := by decide +kernel
theorem dX0_best_75 : decode cX0_best 75 = .ok (.aload_n 0, 1) := by decide +kernel
theorem dX0_best_76 : decode cX0_best 76 = .ok (.iload_n 2, 1) := by decide +kernel
theorem dX0_best_77 : decode cX0_best 77 = .ok (.putfield 62, 3) := by decide +kernel
theorem dX0_best_80 : decode cX0_best 80 = .ok (.iconst 1, 1) := by decide +kernel
theorem dX0_best_81 : decode cX0_best 81 = .ok (.ireturn, 1) := by decide +kernel
abbrev cX0_numerator : ByteArray := prog_1_method_7_code
def yX0_numerator : MethodName := ⟨RX0, "numerator", "(I)I"⟩
theorem dX0_numerator_0 : decode cX0_numerator 0 = .ok (.aload_n 0, 1) := by decide +kernel
theorem dX0_numerator_1 : decode cX0_numerator 1 = .ok (.getfield 36, 3) := by decide +kernel
theorem dX0_numerator_4 : decode cX0_numerator 4 = .ok (.ifCond .eq 12, 3) := by decide +kernel
theorem dX0_numerator_7 : decode cX0_numerator 7 = .ok (.iload_n 1, 1) := by decide +kernel
theorem dX0_numerator_8 : decode cX0_numerator 8 = .ok (.ifCond .lt 8, 3) := by decide +kernel
theorem dX0_numerator_11 : decode cX0_numerator 11 = .ok (.iload_n 1, 1) := by decide +kernel
theorem dX0_numerator_12 : decode cX0_numerator 12 = .ok (.iconst 2, 1) := by decide +kernel
theorem dX0_numerator_13 : decode cX0_numerator 13 = .ok (.if_icmp .le 5, 3) := by decide +kernel
theorem dX0_numerator_16 : decode cX0_numerator 16 = .ok (.iconst 0, 1) := by decide +kernel
theorem dX0_numerator_17 : decode cX0_numerator 17 = .ok (.ireturn, 1) := by decide +kernel
theorem dX0_numerator_18 : decode cX0_numerator 18 = .ok (.aload_n 0, 1) := by decide +kernel
theorem dX0_numerator_19 : decode cX0_numerator 19 = .ok (.iload_n 1, 1) := by decide +kernel
theorem dX0_numerator_20 : decode cX0_numerator 20 = .ok (.invokevirtual 65, 3) := by decide +kernel
theorem dX0_numerator_23 : decode cX0_numerator 23 = .ok (.lstore_n 2, 1) := by decide +kernel
theorem dX0_numerator_24 : decode cX0_numerator 24 = .ok (.lload_n 2, 1) := by decide +kernel
theorem dX0_numerator_25 : decode cX0_numerator 25 = .ok (.lload_n 2, 1) := by decide +kernel
theorem dX0_numerator_26 : decode cX0_numerator 26 = .ok (.aload_n 0, 1) := by decide +kernel
theorem dX0_numerator_27 : decode cX0_numerator 27 = .ok (.getfield 56, 3) := by decide +kernel
theorem dX0_numerator_30 : decode cX0_numerator 30 = .ok (.invokestatic 69, 3) := by decide +kernel
theorem dX0_numerator_33 : decode cX0_numerator 33 = .ok (.ldiv, 1) := by decide +kernel
theorem dX0_numerator_34 : decode cX0_numerator 34 = .ok (.l2i, 1) := by decide +kernel
theorem dX0_numerator_35 : decode cX0_numerator 35 = .ok (.ireturn, 1) := by decide +kernel
abbrev cX0_upper : ByteArray := prog_1_method_12_code
def yX0_upper : MethodName := ⟨RX0, "upper", "(I)J"⟩
theorem dX0_upper_0 : decode cX0_upper 0 = .ok (.iload_n 1, 1) := by decide +kernel
theorem dX0_upper_1 : decode cX0_upper 1 = .ok (.iconst 1, 1) := by decide +kernel
theorem dX0_upper_2 : decode cX0_upper 2 = .ok (.if_icmp .ne 10, 3) := by decide +kernel
theorem dX0_upper_5 : decode cX0_upper 5 = .ok (.aload_n 0, 1) := by decide +kernel
theorem dX0_upper_6 : decode cX0_upper 6 = .ok (.getfield 44, 3) := by decide +kernel
theorem dX0_upper_9 : decode cX0_upper 9 = .ok (.goto 36, 3) := by decide +kernel
theorem dX0_upper_12 : decode cX0_upper 12 = .ok (.iload_n 1, 1) := by decide +kernel
theorem dX0_upper_13 : decode cX0_upper 13 = .ok (.iconst 2, 1) := by decide +kernel
theorem dX0_upper_14 : decode cX0_upper 14 = .ok (.if_icmp .ne 10, 3) := by decide +kernel
theorem dX0_upper_17 : decode cX0_upper 17 = .ok (.aload_n 0, 1) := by decide +kernel
theorem dX0_upper_18 : decode cX0_upper 18 = .ok (.getfield 50, 3) := by decide +kernel
theorem dX0_upper_21 : decode cX0_upper 21 = .ok (.goto 24, 3) := by decide +kernel
theorem dX0_upper_24 : decode cX0_upper 24 = .ok (.aload_n 0, 1) := by decide +kernel
theorem dX0_upper_25 : decode cX0_upper 25 = .ok (.getfield 59, 3) := by decide +kernel
theorem dX0_upper_28 : decode cX0_upper 28 = .ok (.i2l, 1) := by decide +kernel
theorem dX0_upper_29 : decode cX0_upper 29 = .ok (.aload_n 0, 1) := by decide +kernel
theorem dX0_upper_30 : decode cX0_upper 30 = .ok (.getfield 44, 3) := by decide +kernel
theorem dX0_upper_33 : decode cX0_upper 33 = .ok (.lmul, 1) := by decide +kernel
theorem dX0_upper_34 : decode cX0_upper 34 = .ok (.aload_n 0, 1) := by decide +kernel
theorem dX0_upper_35 : decode cX0_upper 35 = .ok (.getfield 62, 3) := by decide +kernel
theorem dX0_upper_38 : decode cX0_upper 38 = .ok (.i2l, 1) := by decide +kernel
theorem dX0_upper_39 : decode cX0_upper 39 = .ok (.aload_n 0, 1) := by decide +kernel
theorem dX0_upper_40 : decode cX0_upper 40 = .ok (.getfield 50, 3) := by decide +kernel
theorem dX0_upper_43 : decode cX0_upper 43 = .ok (.lmul, 1) := by decide +kernel
theorem dX0_upper_44 : decode cX0_upper 44 = .ok (.ladd, 1) := by decide +kernel
theorem dX0_upper_45 : decode cX0_upper 45 = .ok (.lreturn, 1) := by decide +kernel
abbrev cX0_divisor : ByteArray := prog_1_method_13_code
def yX0_divisor : MethodName := ⟨RX0, "divisor", "(JJ)J"⟩
theorem dX0_divisor_0 : decode cX0_divisor 0 = .ok (.lload_n 0, 1) := by decide +kernel
theorem dX0_divisor_1 : decode cX0_divisor 1 = .ok (.lconst 0, 1) := by decide +kernel
theorem dX0_divisor_2 : decode cX0_divisor 2 = .ok (.lcmp, 1) := by decide +kernel
theorem dX0_divisor_3 : decode cX0_divisor 3 = .ok (.ifCond .ge 8, 3) := by decide +kernel
theorem dX0_divisor_6 : decode cX0_divisor 6 = .ok (.lload_n 0, 1) := by decide +kernel
theorem dX0_divisor_7 : decode cX0_divisor 7 = .ok (.lneg, 1) := by decide +kernel
theorem dX0_divisor_8 : decode cX0_divisor 8 = .ok (.goto 4, 3) := by decide +kernel
theorem dX0_divisor_11 : decode cX0_divisor 11 = .ok (.lload_n 0, 1) := by decide +kernel
theorem dX0_divisor_12 : decode cX0_divisor 12 = .ok (.lstore 4, 2) := by decide +kernel
theorem dX0_divisor_14 : decode cX0_divisor 14 = .ok (.lload_n 2, 1) := by decide +kernel
theorem dX0_divisor_15 : decode cX0_divisor 15 = .ok (.lstore 6, 2) := by decide +kernel
theorem dX0_divisor_17 : decode cX0_divisor 17 = .ok (.iconst 0, 1) := by decide +kernel
theorem dX0_divisor_18 : decode cX0_divisor 18 = .ok (.istore 8, 2) := by decide +kernel
theorem dX0_divisor_20 : decode cX0_divisor 20 = .ok (.iload 8, 2) := by decide +kernel
theorem dX0_divisor_22 : decode cX0_divisor 22 = .ok (.bipush 64, 2) := by decide +kernel
theorem dX0_divisor_24 : decode cX0_divisor 24 = .ok (.if_icmp .ge 31, 3) := by decide +kernel
theorem dX0_divisor_27 : decode cX0_divisor 27 = .ok (.lload 4, 2) := by decide +kernel
theorem dX0_divisor_29 : decode cX0_divisor 29 = .ok (.lconst 0, 1) := by decide +kernel
theorem dX0_divisor_30 : decode cX0_divisor 30 = .ok (.lcmp, 1) := by decide +kernel
theorem dX0_divisor_31 : decode cX0_divisor 31 = .ok (.ifCond .le 24, 3) := by decide +kernel
theorem dX0_divisor_34 : decode cX0_divisor 34 = .ok (.lload 6, 2) := by decide +kernel
theorem dX0_divisor_36 : decode cX0_divisor 36 = .ok (.lload 4, 2) := by decide +kernel
theorem dX0_divisor_38 : decode cX0_divisor 38 = .ok (.lrem, 1) := by decide +kernel
theorem dX0_divisor_39 : decode cX0_divisor 39 = .ok (.lstore 9, 2) := by decide +kernel
theorem dX0_divisor_41 : decode cX0_divisor 41 = .ok (.lload 4, 2) := by decide +kernel
theorem dX0_divisor_43 : decode cX0_divisor 43 = .ok (.lstore 6, 2) := by decide +kernel
theorem dX0_divisor_45 : decode cX0_divisor 45 = .ok (.lload 9, 2) := by decide +kernel
theorem dX0_divisor_47 : decode cX0_divisor 47 = .ok (.lstore 4, 2) := by decide +kernel
theorem dX0_divisor_49 : decode cX0_divisor 49 = .ok (.iinc 8 1, 3) := by decide +kernel
theorem dX0_divisor_52 : decode cX0_divisor 52 = .ok (.goto (-32), 3) := by decide +kernel
theorem dX0_divisor_55 : decode cX0_divisor 55 = .ok (.lload 6, 2) := by decide +kernel
theorem dX0_divisor_57 : decode cX0_divisor 57 = .ok (.lreturn, 1) := by decide +kernel
abbrev cX0_denominator : ByteArray := prog_1_method_8_code
def yX0_denominator : MethodName := ⟨RX0, "denominator", "(I)I"⟩
theorem dX0_denominator_0 : decode cX0_denominator 0 = .ok (.aload_n 0, 1) := by decide +kernel
theorem dX0_denominator_1 : decode cX0_denominator 1 = .ok (.getfield 36, 3) := by decide +kernel
theorem dX0_denominator_4 : decode cX0_denominator 4 = .ok (.ifCond .eq 12, 3) := by decide +kernel
theorem dX0_denominator_7 : decode cX0_denominator 7 = .ok (.iload_n 1, 1) := by decide +kernel
theorem dX0_denominator_8 : decode cX0_denominator 8 = .ok (.ifCond .lt 8, 3) := by decide +kernel
theorem dX0_denominator_11 : decode cX0_denominator 11 = .ok (.iload_n 1, 1) := by decide +kernel
theorem dX0_denominator_12 : decode cX0_denominator 12 = .ok (.iconst 2, 1) := by decide +kernel
theorem dX0_denominator_13 : decode cX0_denominator 13 = .ok (.if_icmp .le 5, 3) := by decide +kernel
theorem dX0_denominator_16 : decode cX0_denominator 16 = .ok (.iconst 0, 1) := by decide +kernel
theorem dX0_denominator_17 : decode cX0_denominator 17 = .ok (.ireturn, 1) := by decide +kernel
theorem dX0_denominator_18 : decode cX0_denominator 18 = .ok (.aload_n 0, 1) := by decide +kernel
theorem dX0_denominator_19 : decode cX0_denominator 19 = .ok (.iload_n 1, 1) := by decide +kernel
theorem dX0_denominator_20 : decode cX0_denominator 20 = .ok (.invokevirtual 65, 3) := by decide +kernel
theorem dX0_denominator_23 : decode cX0_denominator 23 = .ok (.lstore_n 2, 1) := by decide +kernel
theorem dX0_denominator_24 : decode cX0_denominator 24 = .ok (.aload_n 0, 1) := by decide +kernel
theorem dX0_denominator_25 : decode cX0_denominator 25 = .ok (.getfield 56, 3) := by decide +kernel
theorem dX0_denominator_28 : decode cX0_denominator 28 = .ok (.lload_n 2, 1) := by decide +kernel
theorem dX0_denominator_29 : decode cX0_denominator 29 = .ok (.aload_n 0, 1) := by decide +kernel
theorem dX0_denominator_30 : decode cX0_denominator 30 = .ok (.getfield 56, 3) := by decide +kernel
theorem dX0_denominator_33 : decode cX0_denominator 33 = .ok (.invokestatic 69, 3) := by decide +kernel
theorem dX0_denominator_36 : decode cX0_denominator 36 = .ok (.ldiv, 1) := by decide +kernel
theorem dX0_denominator_37 : decode cX0_denominator 37 = .ok (.l2i, 1) := by decide +kernel
theorem dX0_denominator_38 : decode cX0_denominator 38 = .ok (.ireturn, 1) := by decide +kernel
abbrev cX0_test : ByteArray := prog_1_method_9_code
def yX0_test : MethodName := ⟨RX0, "test", "(III)I"⟩
theorem dX0_test_0 : decode cX0_test 0 = .ok (.aload_n 0, 1) := by decide +kernel
theorem dX0_test_1 : decode cX0_test 1 = .ok (.getfield 36, 3) := by decide +kernel
theorem dX0_test_4 : decode cX0_test 4 = .ok (.ifCond .eq 12, 3) := by decide +kernel
theorem dX0_test_7 : decode cX0_test 7 = .ok (.iload_n 1, 1) := by decide +kernel
theorem dX0_test_8 : decode cX0_test 8 = .ok (.iload_n 2, 1) := by decide +kernel
theorem dX0_test_9 : decode cX0_test 9 = .ok (.iload_n 3, 1) := by decide +kernel
theorem dX0_test_10 : decode cX0_test 10 = .ok (.invokestatic 29, 3) := by decide +kernel
theorem dX0_test_13 : decode cX0_test 13 = .ok (.ifCond .ne 5, 3) := by decide +kernel
theorem dX0_test_16 : decode cX0_test 16 = .ok (.iconst (-1), 1) := by decide +kernel
theorem dX0_test_17 : decode cX0_test 17 = .ok (.ireturn, 1) := by decide +kernel
theorem dX0_test_18 : decode cX0_test 18 = .ok (.iload_n 1, 1) := by decide +kernel
theorem dX0_test_19 : decode cX0_test 19 = .ok (.i2l, 1) := by decide +kernel
theorem dX0_test_20 : decode cX0_test 20 = .ok (.aload_n 0, 1) := by decide +kernel
theorem dX0_test_21 : decode cX0_test 21 = .ok (.getfield 44, 3) := by decide +kernel
theorem dX0_test_24 : decode cX0_test 24 = .ok (.lmul, 1) := by decide +kernel
theorem dX0_test_25 : decode cX0_test 25 = .ok (.iload_n 2, 1) := by decide +kernel
theorem dX0_test_26 : decode cX0_test 26 = .ok (.i2l, 1) := by decide +kernel
theorem dX0_test_27 : decode cX0_test 27 = .ok (.aload_n 0, 1) := by decide +kernel
theorem dX0_test_28 : decode cX0_test 28 = .ok (.getfield 50, 3) := by decide +kernel
theorem dX0_test_31 : decode cX0_test 31 = .ok (.lmul, 1) := by decide +kernel
theorem dX0_test_32 : decode cX0_test 32 = .ok (.ladd, 1) := by decide +kernel
theorem dX0_test_33 : decode cX0_test 33 = .ok (.iload_n 3, 1) := by decide +kernel
theorem dX0_test_34 : decode cX0_test 34 = .ok (.i2l, 1) := by decide +kernel
theorem dX0_test_35 : decode cX0_test 35 = .ok (.aload_n 0, 1) := by decide +kernel
theorem dX0_test_36 : decode cX0_test 36 = .ok (.getfield 56, 3) := by decide +kernel
theorem dX0_test_39 : decode cX0_test 39 = .ok (.lmul, 1) := by decide +kernel
theorem dX0_test_40 : decode cX0_test 40 = .ok (.lsub, 1) := by decide +kernel
theorem dX0_test_41 : decode cX0_test 41 = .ok (.lstore 4, 2) := by decide +kernel
theorem dX0_test_43 : decode cX0_test 43 = .ok (.lload 4, 2) := by decide +kernel
theorem dX0_test_45 : decode cX0_test 45 = .ok (.lconst 0, 1) := by decide +kernel
theorem dX0_test_46 : decode cX0_test 46 = .ok (.lcmp, 1) := by decide +kernel
theorem dX0_test_47 : decode cX0_test 47 = .ok (.ifCond .ne 7, 3) := by decide +kernel
theorem dX0_test_50 : decode cX0_test 50 = .ok (.iconst 1, 1) := by decide +kernel
theorem dX0_test_51 : decode cX0_test 51 = .ok (.goto 15, 3) := by decide +kernel
theorem dX0_test_54 : decode cX0_test 54 = .ok (.lload 4, 2) := by decide +kernel
theorem dX0_test_56 : decode cX0_test 56 = .ok (.lconst 0, 1) := by decide +kernel
theorem dX0_test_57 : decode cX0_test 57 = .ok (.lcmp, 1) := by decide +kernel
theorem dX0_test_58 : decode cX0_test 58 = .ok (.ifCond .ge 7, 3) := by decide +kernel
theorem dX0_test_61 : decode cX0_test 61 = .ok (.iconst 2, 1) := by decide +kernel
theorem dX0_test_62 : decode cX0_test 62 = .ok (.goto 4, 3) := by decide +kernel
theorem dX0_test_65 : decode cX0_test 65 = .ok (.iconst 0, 1) := by decide +kernel
theorem dX0_test_66 : decode cX0_test 66 = .ok (.ireturn, 1) := by decide +kernel
abbrev cX0_spare : ByteArray := prog_1_method_10_code
def yX0_spare : MethodName := ⟨RX0, "spare", "()I"⟩
theorem dX0_spare_0 : decode cX0_spare 0 = .ok (.iconst 0, 1) := by decide +kernel
theorem dX0_spare_1 : decode cX0_spare 1 = .ok (.istore_n 1, 1) := by decide +kernel
theorem dX0_spare_2 : decode cX0_spare 2 = .ok (.iconst 4, 1) := by decide +kernel
theorem dX0_spare_3 : decode cX0_spare 3 = .ok (.istore_n 2, 1) := by decide +kernel
theorem dX0_spare_4 : decode cX0_spare 4 = .ok (.iload_n 2, 1) := by decide +kernel
theorem dX0_spare_5 : decode cX0_spare 5 = .ok (.aload_n 0, 1) := by decide +kernel
theorem dX0_spare_6 : decode cX0_spare 6 = .ok (.getfield 22, 3) := by decide +kernel
theorem dX0_spare_9 : decode cX0_spare 9 = .ok (.if_icmp .ge 47, 3) := by decide +kernel
theorem dX0_spare_12 : decode cX0_spare 12 = .ok (.aload_n 0, 1) := by decide +kernel
theorem dX0_spare_13 : decode cX0_spare 13 = .ok (.aload_n 0, 1) := by decide +kernel
theorem dX0_spare_14 : decode cX0_spare 14 = .ok (.getfield 7, 3) := by decide +kernel
theorem dX0_spare_17 : decode cX0_spare 17 = .ok (.iload_n 2, 1) := by decide +kernel
theorem dX0_spare_18 : decode cX0_spare 18 = .ok (.iaload, 1) := by decide +kernel
theorem dX0_spare_19 : decode cX0_spare 19 = .ok (.aload_n 0, 1) := by decide +kernel
theorem dX0_spare_20 : decode cX0_spare 20 = .ok (.getfield 13, 3) := by decide +kernel
theorem dX0_spare_23 : decode cX0_spare 23 = .ok (.iload_n 2, 1) := by decide +kernel
theorem dX0_spare_24 : decode cX0_spare 24 = .ok (.iaload, 1) := by decide +kernel
theorem dX0_spare_25 : decode cX0_spare 25 = .ok (.iload_n 2, 1) := by decide +kernel
theorem dX0_spare_26 : decode cX0_spare 26 = .ok (.invokevirtual 33, 3) := by decide +kernel
theorem dX0_spare_29 : decode cX0_spare 29 = .ok (.istore_n 3, 1) := by decide +kernel
theorem dX0_spare_30 : decode cX0_spare 30 = .ok (.iload_n 1, 1) := by decide +kernel
theorem dX0_spare_31 : decode cX0_spare 31 = .ok (.iload_n 3, 1) := by decide +kernel
theorem dX0_spare_32 : decode cX0_spare 32 = .ok (.ifCond .eq 11, 3) := by decide +kernel
theorem dX0_spare_35 : decode cX0_spare 35 = .ok (.aload_n 0, 1) := by decide +kernel
theorem dX0_spare_36 : decode cX0_spare 36 = .ok (.iload_n 2, 1) := by decide +kernel
theorem dX0_spare_37 : decode cX0_spare 37 = .ok (.invokevirtual 73, 3) := by decide +kernel
theorem dX0_spare_40 : decode cX0_spare 40 = .ok (.ifCond .eq 7, 3) := by decide +kernel
theorem dX0_spare_43 : decode cX0_spare 43 = .ok (.iconst 1, 1) := by decide +kernel
theorem dX0_spare_44 : decode cX0_spare 44 = .ok (.goto 4, 3) := by decide +kernel
theorem dX0_spare_47 : decode cX0_spare 47 = .ok (.iconst 0, 1) := by decide +kernel
theorem dX0_spare_48 : decode cX0_spare 48 = .ok (.iadd, 1) := by decide +kernel
theorem dX0_spare_49 : decode cX0_spare 49 = .ok (.istore_n 1, 1) := by decide +kernel
theorem dX0_spare_50 : decode cX0_spare 50 = .ok (.iinc 2 1, 3) := by decide +kernel
theorem dX0_spare_53 : decode cX0_spare 53 = .ok (.goto (-49), 3) := by decide +kernel
theorem dX0_spare_56 : decode cX0_spare 56 = .ok (.iload_n 1, 1) := by decide +kernel
theorem dX0_spare_57 : decode cX0_spare 57 = .ok (.ireturn, 1) := by decide +kernel
theorem q19 : (Jvm.Cond.initialized "CornerDesk") ∈ lw_all := lw_g (lw_at lw_m1 1 rfl) rfl
theorem q22 : (Jvm.Cond.instantiable "CornerDesk" (23 : Nat)) ∈ lw_all := lw_g (lw_at lw_m1 4 rfl) rfl
theorem q24 : (Jvm.Cond.instanceMethod ({ cls := "CornerDesk", name := "<init>", desc := "()V" } : Jvm.MethodName)) ∈ lw_all := lw_g (lw_at lw_m1 6 rfl) rfl
theorem q25 : (Jvm.Cond.code ({ cls := "CornerDesk", name := "<init>", desc := "()V" } : Jvm.MethodName) prog_1_method_1_code (2 : Nat) (Option.none : Option Jvm.ClassFile.FieldType)) ∈ lw_all := lw_g (lw_at lw_m1 7 rfl) rfl
theorem q26 : (Jvm.Cond.methodLink "CornerDesk" (1 : Nat) ({ cls := "java/lang/Object", name := "<init>", desc := "()V" } : Jvm.MethodName)) ∈ lw_all := lw_g (lw_at lw_m1 8 rfl) rfl
theorem q29 : (Jvm.Cond.fieldLink "CornerDesk" (22 : Nat) "CornerDesk" "count" "I") ∈ lw_all := lw_g (lw_at lw_m1 11 rfl) rfl
theorem q30 : (Jvm.Cond.fieldLink "CornerDesk" (7 : Nat) "CornerDesk" "a" "[I") ∈ lw_all := lw_g (lw_at lw_m1 12 rfl) rfl
theorem q31 : (Jvm.Cond.fieldLink "CornerDesk" (13 : Nat) "CornerDesk" "b" "[I") ∈ lw_all := lw_g (lw_at lw_m1 13 rfl) rfl
theorem q32 : (Jvm.Cond.fieldLink "CornerDesk" (16 : Nat) "CornerDesk" "c" "[I") ∈ lw_all := lw_g (lw_at lw_m1 14 rfl) rfl
theorem q33 : (Jvm.Cond.fieldLink "CornerDesk" (26 : Nat) "CornerDesk" "levels" "I") ∈ lw_all := lw_g (lw_at lw_m1 15 rfl) rfl
theorem q34 : (Jvm.Cond.fieldLink "CornerDesk" (19 : Nat) "CornerDesk" "levelStart" "[I") ∈ lw_all := lw_g (lw_at lw_m1 16 rfl) rfl
theorem q35 : (Jvm.Cond.fieldLink "CornerDesk" (40 : Nat) "CornerDesk" "x" "J") ∈ lw_all := lw_g (lw_at lw_m1 17 rfl) rfl
theorem q36 : (Jvm.Cond.fieldLink "CornerDesk" (47 : Nat) "CornerDesk" "y" "J") ∈ lw_all := lw_g (lw_at lw_m1 18 rfl) rfl
theorem q37 : (Jvm.Cond.fieldLink "CornerDesk" (53 : Nat) "CornerDesk" "w" "J") ∈ lw_all := lw_g (lw_at lw_m1 19 rfl) rfl
theorem q38 : (Jvm.Cond.fieldLink "CornerDesk" (85 : Nat) "CornerDesk" "hasLow" "Z") ∈ lw_all := lw_g (lw_at lw_m1 20 rfl) rfl
theorem q39 : (Jvm.Cond.fieldLink "CornerDesk" (88 : Nat) "CornerDesk" "hasHigh" "Z") ∈ lw_all := lw_g (lw_at lw_m1 21 rfl) rfl
theorem q40 : (Jvm.Cond.fieldLink "CornerDesk" (95 : Nat) "CornerDesk" "lowX" "J") ∈ lw_all := lw_g (lw_at lw_m1 22 rfl) rfl
theorem q41 : (Jvm.Cond.fieldLink "CornerDesk" (98 : Nat) "CornerDesk" "lowY" "J") ∈ lw_all := lw_g (lw_at lw_m1 23 rfl) rfl
theorem q42 : (Jvm.Cond.fieldLink "CornerDesk" (114 : Nat) "CornerDesk" "lowW" "J") ∈ lw_all := lw_g (lw_at lw_m1 24 rfl) rfl
theorem q43 : (Jvm.Cond.fieldLink "CornerDesk" (108 : Nat) "CornerDesk" "highX" "J") ∈ lw_all := lw_g (lw_at lw_m1 25 rfl) rfl
theorem q44 : (Jvm.Cond.fieldLink "CornerDesk" (111 : Nat) "CornerDesk" "highY" "J") ∈ lw_all := lw_g (lw_at lw_m1 26 rfl) rfl
theorem q45 : (Jvm.Cond.fieldLink "CornerDesk" (105 : Nat) "CornerDesk" "highW" "J") ∈ lw_all := lw_g (lw_at lw_m1 27 rfl) rfl
theorem q46 : (Jvm.Cond.fieldLink "CornerDesk" (36 : Nat) "CornerDesk" "remembered" "Z") ∈ lw_all := lw_g (lw_at lw_m1 28 rfl) rfl
theorem q47 : (Jvm.Cond.fieldLink "CornerDesk" (44 : Nat) "CornerDesk" "bestX" "J") ∈ lw_all := lw_g (lw_at lw_m1 29 rfl) rfl
theorem q48 : (Jvm.Cond.fieldLink "CornerDesk" (50 : Nat) "CornerDesk" "bestY" "J") ∈ lw_all := lw_g (lw_at lw_m1 30 rfl) rfl
theorem q49 : (Jvm.Cond.fieldLink "CornerDesk" (56 : Nat) "CornerDesk" "bestW" "J") ∈ lw_all := lw_g (lw_at lw_m1 31 rfl) rfl
theorem q50 : (Jvm.Cond.fieldLink "CornerDesk" (59 : Nat) "CornerDesk" "aimP" "I") ∈ lw_all := lw_g (lw_at lw_m1 32 rfl) rfl
theorem q51 : (Jvm.Cond.fieldLink "CornerDesk" (62 : Nat) "CornerDesk" "aimQ" "I") ∈ lw_all := lw_g (lw_at lw_m1 33 rfl) rfl
theorem q52 : (Jvm.Cond.lays "CornerDesk" "CornerDesk" "count" "I") ∈ lw_all := lw_g (lw_at lw_m1 34 rfl) rfl
theorem q53 : (Jvm.Cond.soleField "CornerDesk" "count") ∈ lw_all := lw_g (lw_at lw_m1 35 rfl) rfl
theorem q54 : (Jvm.Cond.laysFinal "CornerDesk" "CornerDesk" "a" "[I") ∈ lw_all := lw_g (lw_at lw_m1 36 rfl) rfl
theorem q55 : (Jvm.Cond.soleField "CornerDesk" "a") ∈ lw_all := lw_g (lw_at lw_m1 37 rfl) rfl
theorem q56 : (Jvm.Cond.laysFinal "CornerDesk" "CornerDesk" "b" "[I") ∈ lw_all := lw_g (lw_at lw_m1 38 rfl) rfl
theorem q57 : (Jvm.Cond.soleField "CornerDesk" "b") ∈ lw_all := lw_g (lw_at lw_m1 39 rfl) rfl
theorem q58 : (Jvm.Cond.laysFinal "CornerDesk" "CornerDesk" "c" "[I") ∈ lw_all := lw_g (lw_at lw_m1 40 rfl) rfl
theorem q59 : (Jvm.Cond.soleField "CornerDesk" "c") ∈ lw_all := lw_g (lw_at lw_m1 41 rfl) rfl
theorem q60 : (Jvm.Cond.lays "CornerDesk" "CornerDesk" "levels" "I") ∈ lw_all := lw_g (lw_at lw_m1 42 rfl) rfl
theorem q61 : (Jvm.Cond.soleField "CornerDesk" "levels") ∈ lw_all := lw_g (lw_at lw_m1 43 rfl) rfl
theorem q62 : (Jvm.Cond.laysFinal "CornerDesk" "CornerDesk" "levelStart" "[I") ∈ lw_all := lw_g (lw_at lw_m1 44 rfl) rfl
theorem q63 : (Jvm.Cond.soleField "CornerDesk" "levelStart") ∈ lw_all := lw_g (lw_at lw_m1 45 rfl) rfl
theorem q64 : (Jvm.Cond.lays "CornerDesk" "CornerDesk" "x" "J") ∈ lw_all := lw_g (lw_at lw_m1 46 rfl) rfl
theorem q65 : (Jvm.Cond.soleField "CornerDesk" "x") ∈ lw_all := lw_g (lw_at lw_m1 47 rfl) rfl
theorem q66 : (Jvm.Cond.lays "CornerDesk" "CornerDesk" "y" "J") ∈ lw_all := lw_g (lw_at lw_m1 48 rfl) rfl
theorem q67 : (Jvm.Cond.soleField "CornerDesk" "y") ∈ lw_all := lw_g (lw_at lw_m1 49 rfl) rfl
theorem q68 : (Jvm.Cond.lays "CornerDesk" "CornerDesk" "w" "J") ∈ lw_all := lw_g (lw_at lw_m1 50 rfl) rfl
theorem q69 : (Jvm.Cond.soleField "CornerDesk" "w") ∈ lw_all := lw_g (lw_at lw_m1 51 rfl) rfl
theorem q70 : (Jvm.Cond.lays "CornerDesk" "CornerDesk" "hasLow" "Z") ∈ lw_all := lw_g (lw_at lw_m1 52 rfl) rfl
theorem q71 : (Jvm.Cond.soleField "CornerDesk" "hasLow") ∈ lw_all := lw_g (lw_at lw_m1 53 rfl) rfl
theorem q72 : (Jvm.Cond.lays "CornerDesk" "CornerDesk" "hasHigh" "Z") ∈ lw_all := lw_g (lw_at lw_m1 54 rfl) rfl
theorem q73 : (Jvm.Cond.soleField "CornerDesk" "hasHigh") ∈ lw_all := lw_g (lw_at lw_m1 55 rfl) rfl
theorem q74 : (Jvm.Cond.lays "CornerDesk" "CornerDesk" "lowX" "J") ∈ lw_all := lw_g (lw_at lw_m1 56 rfl) rfl
theorem q75 : (Jvm.Cond.soleField "CornerDesk" "lowX") ∈ lw_all := lw_g (lw_at lw_m1 57 rfl) rfl
theorem q76 : (Jvm.Cond.lays "CornerDesk" "CornerDesk" "lowY" "J") ∈ lw_all := lw_g (lw_at lw_m1 58 rfl) rfl
theorem q77 : (Jvm.Cond.soleField "CornerDesk" "lowY") ∈ lw_all := lw_g (lw_at lw_m1 59 rfl) rfl
theorem q78 : (Jvm.Cond.lays "CornerDesk" "CornerDesk" "lowW" "J") ∈ lw_all := lw_g (lw_at lw_m1 60 rfl) rfl
theorem q79 : (Jvm.Cond.soleField "CornerDesk" "lowW") ∈ lw_all := lw_g (lw_at lw_m1 61 rfl) rfl
theorem q80 : (Jvm.Cond.lays "CornerDesk" "CornerDesk" "highX" "J") ∈ lw_all := lw_g (lw_at lw_m1 62 rfl) rfl
theorem q81 : (Jvm.Cond.soleField "CornerDesk" "highX") ∈ lw_all := lw_g (lw_at lw_m1 63 rfl) rfl
theorem q82 : (Jvm.Cond.lays "CornerDesk" "CornerDesk" "highY" "J") ∈ lw_all := lw_g (lw_at lw_m1 64 rfl) rfl
theorem q83 : (Jvm.Cond.soleField "CornerDesk" "highY") ∈ lw_all := lw_g (lw_at lw_m1 65 rfl) rfl
theorem q84 : (Jvm.Cond.lays "CornerDesk" "CornerDesk" "highW" "J") ∈ lw_all := lw_g (lw_at lw_m1 66 rfl) rfl
theorem q85 : (Jvm.Cond.soleField "CornerDesk" "highW") ∈ lw_all := lw_g (lw_at lw_m1 67 rfl) rfl
theorem q86 : (Jvm.Cond.lays "CornerDesk" "CornerDesk" "remembered" "Z") ∈ lw_all := lw_g (lw_at lw_m1 68 rfl) rfl
theorem q87 : (Jvm.Cond.soleField "CornerDesk" "remembered") ∈ lw_all := lw_g (lw_at lw_m1 69 rfl) rfl
theorem q88 : (Jvm.Cond.lays "CornerDesk" "CornerDesk" "bestX" "J") ∈ lw_all := lw_g (lw_at lw_m1 70 rfl) rfl
theorem q89 : (Jvm.Cond.soleField "CornerDesk" "bestX") ∈ lw_all := lw_g (lw_at lw_m1 71 rfl) rfl
theorem q90 : (Jvm.Cond.lays "CornerDesk" "CornerDesk" "bestY" "J") ∈ lw_all := lw_g (lw_at lw_m1 72 rfl) rfl
theorem q91 : (Jvm.Cond.soleField "CornerDesk" "bestY") ∈ lw_all := lw_g (lw_at lw_m1 73 rfl) rfl
theorem q92 : (Jvm.Cond.lays "CornerDesk" "CornerDesk" "bestW" "J") ∈ lw_all := lw_g (lw_at lw_m1 74 rfl) rfl
theorem q93 : (Jvm.Cond.soleField "CornerDesk" "bestW") ∈ lw_all := lw_g (lw_at lw_m1 75 rfl) rfl
theorem q94 : (Jvm.Cond.lays "CornerDesk" "CornerDesk" "aimP" "I") ∈ lw_all := lw_g (lw_at lw_m1 76 rfl) rfl
theorem q95 : (Jvm.Cond.soleField "CornerDesk" "aimP") ∈ lw_all := lw_g (lw_at lw_m1 77 rfl) rfl
theorem q96 : (Jvm.Cond.lays "CornerDesk" "CornerDesk" "aimQ" "I") ∈ lw_all := lw_g (lw_at lw_m1 78 rfl) rfl
theorem q97 : (Jvm.Cond.soleField "CornerDesk" "aimQ") ∈ lw_all := lw_g (lw_at lw_m1 79 rfl) rfl
theorem q98 : (Jvm.Cond.superclass "CornerDesk" "java/lang/Object") ∈ lw_all := lw_g (lw_at lw_m1 80 rfl) rfl
theorem q101 : (Jvm.Cond.instanceMethod ({ cls := "CornerDesk", name := "add", desc := "(III)I" } : Jvm.MethodName)) ∈ lw_all := lw_g (lw_at lw_m1 83 rfl) rfl
theorem q102 : (Jvm.Cond.selects "CornerDesk" ({ cls := "CornerDesk", name := "add", desc := "(III)I" } : Jvm.MethodName) ({ cls := "CornerDesk", name := "add", desc := "(III)I" } : Jvm.MethodName)) ∈ lw_all := lw_g (lw_at lw_m1 84 rfl) rfl
theorem q103 : (Jvm.Cond.code ({ cls := "CornerDesk", name := "add", desc := "(III)I" } : Jvm.MethodName) prog_1_method_2_code (4 : Nat) (Option.some Jvm.ClassFile.FieldType.int)) ∈ lw_all := lw_g (lw_at lw_m1 85 rfl) rfl
theorem q104 : (Jvm.Cond.methodLink "CornerDesk" (29 : Nat) ({ cls := "CornerDesk", name := "isCondition", desc := "(III)Z" } : Jvm.MethodName)) ∈ lw_all := lw_g (lw_at lw_m1 86 rfl) rfl
theorem q105 : (Jvm.Cond.static ({ cls := "CornerDesk", name := "isCondition", desc := "(III)Z" } : Jvm.MethodName)) ∈ lw_all := lw_g (lw_at lw_m1 87 rfl) rfl
theorem q106 : (Jvm.Cond.code ({ cls := "CornerDesk", name := "isCondition", desc := "(III)Z" } : Jvm.MethodName) prog_1_method_11_code (4 : Nat) (Option.some Jvm.ClassFile.FieldType.boolean)) ∈ lw_all := lw_g (lw_at lw_m1 88 rfl) rfl
theorem q108 : (Jvm.Cond.instanceMethod ({ cls := "CornerDesk", name := "push", desc := "()I" } : Jvm.MethodName)) ∈ lw_all := lw_g (lw_at lw_m1 90 rfl) rfl
theorem q109 : (Jvm.Cond.selects "CornerDesk" ({ cls := "CornerDesk", name := "push", desc := "()I" } : Jvm.MethodName) ({ cls := "CornerDesk", name := "push", desc := "()I" } : Jvm.MethodName)) ∈ lw_all := lw_g (lw_at lw_m1 91 rfl) rfl
theorem q110 : (Jvm.Cond.code ({ cls := "CornerDesk", name := "push", desc := "()I" } : Jvm.MethodName) prog_1_method_3_code (1 : Nat) (Option.some Jvm.ClassFile.FieldType.int)) ∈ lw_all := lw_g (lw_at lw_m1 92 rfl) rfl
theorem q112 : (Jvm.Cond.instanceMethod ({ cls := "CornerDesk", name := "pop", desc := "()I" } : Jvm.MethodName)) ∈ lw_all := lw_g (lw_at lw_m1 94 rfl) rfl
theorem q113 : (Jvm.Cond.selects "CornerDesk" ({ cls := "CornerDesk", name := "pop", desc := "()I" } : Jvm.MethodName) ({ cls := "CornerDesk", name := "pop", desc := "()I" } : Jvm.MethodName)) ∈ lw_all := lw_g (lw_at lw_m1 95 rfl) rfl
theorem q114 : (Jvm.Cond.code ({ cls := "CornerDesk", name := "pop", desc := "()I" } : Jvm.MethodName) prog_1_method_4_code (1 : Nat) (Option.some Jvm.ClassFile.FieldType.int)) ∈ lw_all := lw_g (lw_at lw_m1 96 rfl) rfl
theorem q116 : (Jvm.Cond.instanceMethod ({ cls := "CornerDesk", name := "possible", desc := "()I" } : Jvm.MethodName)) ∈ lw_all := lw_g (lw_at lw_m1 98 rfl) rfl
theorem q117 : (Jvm.Cond.selects "CornerDesk" ({ cls := "CornerDesk", name := "possible", desc := "()I" } : Jvm.MethodName) ({ cls := "CornerDesk", name := "possible", desc := "()I" } : Jvm.MethodName)) ∈ lw_all := lw_g (lw_at lw_m1 99 rfl) rfl
theorem q118 : (Jvm.Cond.code ({ cls := "CornerDesk", name := "possible", desc := "()I" } : Jvm.MethodName) prog_1_method_5_code (1 : Nat) (Option.some Jvm.ClassFile.FieldType.int)) ∈ lw_all := lw_g (lw_at lw_m1 100 rfl) rfl
theorem q119 : (Jvm.Cond.methodLink "CornerDesk" (33 : Nat) ({ cls := "CornerDesk", name := "solve", desc := "(III)Z" } : Jvm.MethodName)) ∈ lw_all := lw_g (lw_at lw_m1 101 rfl) rfl
theorem q120 : (Jvm.Cond.privateMethod ({ cls := "CornerDesk", name := "solve", desc := "(III)Z" } : Jvm.MethodName)) ∈ lw_tbl := lw_at lw_m1 102 rfl
theorem q121 : (Jvm.Cond.instanceMethod ({ cls := "CornerDesk", name := "solve", desc := "(III)Z" } : Jvm.MethodName)) ∈ lw_all := lw_g (lw_at lw_m1 103 rfl) rfl
theorem q122 : (Jvm.Cond.code ({ cls := "CornerDesk", name := "solve", desc := "(III)Z" } : Jvm.MethodName) prog_1_method_15_code (6 : Nat) (Option.some Jvm.ClassFile.FieldType.boolean)) ∈ lw_all := lw_g (lw_at lw_m1 104 rfl) rfl
theorem q123 : (Jvm.Cond.constantLong "CornerDesk" (77 : Nat) (50 : Int64)) ∈ lw_all := lw_g (lw_at lw_m1 105 rfl) rfl
theorem q124 : (Jvm.Cond.constantLong "CornerDesk" (79 : Nat) (-50 : Int64)) ∈ lw_all := lw_g (lw_at lw_m1 106 rfl) rfl
theorem q125 : (Jvm.Cond.methodLink "CornerDesk" (73 : Nat) ({ cls := "CornerDesk", name := "meets", desc := "(I)Z" } : Jvm.MethodName)) ∈ lw_all := lw_g (lw_at lw_m1 107 rfl) rfl
theorem q126 : (Jvm.Cond.privateMethod ({ cls := "CornerDesk", name := "meets", desc := "(I)Z" } : Jvm.MethodName)) ∈ lw_tbl := lw_at lw_m1 108 rfl
theorem q127 : (Jvm.Cond.instanceMethod ({ cls := "CornerDesk", name := "meets", desc := "(I)Z" } : Jvm.MethodName)) ∈ lw_all := lw_g (lw_at lw_m1 109 rfl) rfl
theorem q128 : (Jvm.Cond.code ({ cls := "CornerDesk", name := "meets", desc := "(I)Z" } : Jvm.MethodName) prog_1_method_14_code (2 : Nat) (Option.some Jvm.ClassFile.FieldType.boolean)) ∈ lw_all := lw_g (lw_at lw_m1 110 rfl) rfl
theorem q129 : (Jvm.Cond.methodLink "CornerDesk" (81 : Nat) ({ cls := "CornerDesk", name := "moveOnto", desc := "(IIII)Z" } : Jvm.MethodName)) ∈ lw_all := lw_g (lw_at lw_m1 111 rfl) rfl
theorem q130 : (Jvm.Cond.privateMethod ({ cls := "CornerDesk", name := "moveOnto", desc := "(IIII)Z" } : Jvm.MethodName)) ∈ lw_tbl := lw_at lw_m1 112 rfl
theorem q131 : (Jvm.Cond.instanceMethod ({ cls := "CornerDesk", name := "moveOnto", desc := "(IIII)Z" } : Jvm.MethodName)) ∈ lw_all := lw_g (lw_at lw_m1 113 rfl) rfl
theorem q132 : (Jvm.Cond.code ({ cls := "CornerDesk", name := "moveOnto", desc := "(IIII)Z" } : Jvm.MethodName) prog_1_method_16_code (7 : Nat) (Option.some Jvm.ClassFile.FieldType.boolean)) ∈ lw_all := lw_g (lw_at lw_m1 114 rfl) rfl
theorem q133 : (Jvm.Cond.methodLink "CornerDesk" (91 : Nat) ({ cls := "CornerDesk", name := "cutStretch", desc := "(II)Z" } : Jvm.MethodName)) ∈ lw_all := lw_g (lw_at lw_m1 115 rfl) rfl
theorem q134 : (Jvm.Cond.privateMethod ({ cls := "CornerDesk", name := "cutStretch", desc := "(II)Z" } : Jvm.MethodName)) ∈ lw_tbl := lw_at lw_m1 116 rfl
theorem q135 : (Jvm.Cond.instanceMethod ({ cls := "CornerDesk", name := "cutStretch", desc := "(II)Z" } : Jvm.MethodName)) ∈ lw_all := lw_g (lw_at lw_m1 117 rfl) rfl
theorem q136 : (Jvm.Cond.code ({ cls := "CornerDesk", name := "cutStretch", desc := "(II)Z" } : Jvm.MethodName) prog_1_method_18_code (8 : Nat) (Option.some Jvm.ClassFile.FieldType.boolean)) ∈ lw_all := lw_g (lw_at lw_m1 118 rfl) rfl
theorem q137 : (Jvm.Cond.methodLink "CornerDesk" (117 : Nat) ({ cls := "CornerDesk", name := "parallelMeets", desc := "(II)Z" } : Jvm.MethodName)) ∈ lw_all := lw_g (lw_at lw_m1 119 rfl) rfl
theorem q138 : (Jvm.Cond.privateMethod ({ cls := "CornerDesk", name := "parallelMeets", desc := "(II)Z" } : Jvm.MethodName)) ∈ lw_tbl := lw_at lw_m1 120 rfl
theorem q139 : (Jvm.Cond.instanceMethod ({ cls := "CornerDesk", name := "parallelMeets", desc := "(II)Z" } : Jvm.MethodName)) ∈ lw_all := lw_g (lw_at lw_m1 121 rfl) rfl
theorem q140 : (Jvm.Cond.code ({ cls := "CornerDesk", name := "parallelMeets", desc := "(II)Z" } : Jvm.MethodName) prog_1_method_19_code (5 : Nat) (Option.some Jvm.ClassFile.FieldType.boolean)) ∈ lw_all := lw_g (lw_at lw_m1 122 rfl) rfl
theorem q141 : (Jvm.Cond.methodLink "CornerDesk" (120 : Nat) ({ cls := "CornerDesk", name := "cutHigh", desc := "(IJJJ)V" } : Jvm.MethodName)) ∈ lw_all := lw_g (lw_at lw_m1 123 rfl) rfl
theorem q142 : (Jvm.Cond.privateMethod ({ cls := "CornerDesk", name := "cutHigh", desc := "(IJJJ)V" } : Jvm.MethodName)) ∈ lw_tbl := lw_at lw_m1 124 rfl
theorem q143 : (Jvm.Cond.instanceMethod ({ cls := "CornerDesk", name := "cutHigh", desc := "(IJJJ)V" } : Jvm.MethodName)) ∈ lw_all := lw_g (lw_at lw_m1 125 rfl) rfl
theorem q144 : (Jvm.Cond.code ({ cls := "CornerDesk", name := "cutHigh", desc := "(IJJJ)V" } : Jvm.MethodName) prog_1_method_20_code (8 : Nat) (Option.none : Option Jvm.ClassFile.FieldType)) ∈ lw_all := lw_g (lw_at lw_m1 126 rfl) rfl
theorem q145 : (Jvm.Cond.methodLink "CornerDesk" (101 : Nat) ({ cls := "CornerDesk", name := "along", desc := "(IJJ)J" } : Jvm.MethodName)) ∈ lw_all := lw_g (lw_at lw_m1 127 rfl) rfl
theorem q146 : (Jvm.Cond.privateMethod ({ cls := "CornerDesk", name := "along", desc := "(IJJ)J" } : Jvm.MethodName)) ∈ lw_tbl := lw_at lw_m1 128 rfl
theorem q147 : (Jvm.Cond.instanceMethod ({ cls := "CornerDesk", name := "along", desc := "(IJJ)J" } : Jvm.MethodName)) ∈ lw_all := lw_g (lw_at lw_m1 129 rfl) rfl
theorem q148 : (Jvm.Cond.code ({ cls := "CornerDesk", name := "along", desc := "(IJJ)J" } : Jvm.MethodName) prog_1_method_17_code (6 : Nat) (Option.some Jvm.ClassFile.FieldType.long)) ∈ lw_all := lw_g (lw_at lw_m1 130 rfl) rfl
theorem q149 : (Jvm.Cond.methodLink "CornerDesk" (124 : Nat) ({ cls := "CornerDesk", name := "cutLow", desc := "(IJJJ)V" } : Jvm.MethodName)) ∈ lw_all := lw_g (lw_at lw_m1 131 rfl) rfl
theorem q150 : (Jvm.Cond.privateMethod ({ cls := "CornerDesk", name := "cutLow", desc := "(IJJJ)V" } : Jvm.MethodName)) ∈ lw_tbl := lw_at lw_m1 132 rfl
theorem q151 : (Jvm.Cond.instanceMethod ({ cls := "CornerDesk", name := "cutLow", desc := "(IJJJ)V" } : Jvm.MethodName)) ∈ lw_all := lw_g (lw_at lw_m1 133 rfl) rfl
theorem q152 : (Jvm.Cond.code ({ cls := "CornerDesk", name := "cutLow", desc := "(IJJJ)V" } : Jvm.MethodName) prog_1_method_21_code (8 : Nat) (Option.none : Option Jvm.ClassFile.FieldType)) ∈ lw_all := lw_g (lw_at lw_m1 134 rfl) rfl
theorem q154 : (Jvm.Cond.instanceMethod ({ cls := "CornerDesk", name := "best", desc := "(II)I" } : Jvm.MethodName)) ∈ lw_all := lw_g (lw_at lw_m1 136 rfl) rfl
theorem q155 : (Jvm.Cond.selects "CornerDesk" ({ cls := "CornerDesk", name := "best", desc := "(II)I" } : Jvm.MethodName) ({ cls := "CornerDesk", name := "best", desc := "(II)I" } : Jvm.MethodName)) ∈ lw_all := lw_g (lw_at lw_m1 137 rfl) rfl
theorem q156 : (Jvm.Cond.code ({ cls := "CornerDesk", name := "best", desc := "(II)I" } : Jvm.MethodName) prog_1_method_6_code (3 : Nat) (Option.some Jvm.ClassFile.FieldType.int)) ∈ lw_all := lw_g (lw_at lw_m1 138 rfl) rfl
theorem q158 : (Jvm.Cond.instanceMethod ({ cls := "CornerDesk", name := "numerator", desc := "(I)I" } : Jvm.MethodName)) ∈ lw_all := lw_g (lw_at lw_m1 140 rfl) rfl
theorem q159 : (Jvm.Cond.selects "CornerDesk" ({ cls := "CornerDesk", name := "numerator", desc := "(I)I" } : Jvm.MethodName) ({ cls := "CornerDesk", name := "numerator", desc := "(I)I" } : Jvm.MethodName)) ∈ lw_all := lw_g (lw_at lw_m1 141 rfl) rfl
theorem q160 : (Jvm.Cond.code ({ cls := "CornerDesk", name := "numerator", desc := "(I)I" } : Jvm.MethodName) prog_1_method_7_code (4 : Nat) (Option.some Jvm.ClassFile.FieldType.int)) ∈ lw_all := lw_g (lw_at lw_m1 142 rfl) rfl
theorem q161 : (Jvm.Cond.methodLink "CornerDesk" (65 : Nat) ({ cls := "CornerDesk", name := "upper", desc := "(I)J" } : Jvm.MethodName)) ∈ lw_all := lw_g (lw_at lw_m1 143 rfl) rfl
theorem q162 : (Jvm.Cond.privateMethod ({ cls := "CornerDesk", name := "upper", desc := "(I)J" } : Jvm.MethodName)) ∈ lw_tbl := lw_at lw_m1 144 rfl
theorem q163 : (Jvm.Cond.instanceMethod ({ cls := "CornerDesk", name := "upper", desc := "(I)J" } : Jvm.MethodName)) ∈ lw_all := lw_g (lw_at lw_m1 145 rfl) rfl
theorem q164 : (Jvm.Cond.code ({ cls := "CornerDesk", name := "upper", desc := "(I)J" } : Jvm.MethodName) prog_1_method_12_code (2 : Nat) (Option.some Jvm.ClassFile.FieldType.long)) ∈ lw_all := lw_g (lw_at lw_m1 146 rfl) rfl
theorem q165 : (Jvm.Cond.methodLink "CornerDesk" (69 : Nat) ({ cls := "CornerDesk", name := "divisor", desc := "(JJ)J" } : Jvm.MethodName)) ∈ lw_all := lw_g (lw_at lw_m1 147 rfl) rfl
theorem q166 : (Jvm.Cond.static ({ cls := "CornerDesk", name := "divisor", desc := "(JJ)J" } : Jvm.MethodName)) ∈ lw_all := lw_g (lw_at lw_m1 148 rfl) rfl
theorem q167 : (Jvm.Cond.code ({ cls := "CornerDesk", name := "divisor", desc := "(JJ)J" } : Jvm.MethodName) prog_1_method_13_code (11 : Nat) (Option.some Jvm.ClassFile.FieldType.long)) ∈ lw_all := lw_g (lw_at lw_m1 149 rfl) rfl
theorem q169 : (Jvm.Cond.instanceMethod ({ cls := "CornerDesk", name := "denominator", desc := "(I)I" } : Jvm.MethodName)) ∈ lw_all := lw_g (lw_at lw_m1 151 rfl) rfl
theorem q170 : (Jvm.Cond.selects "CornerDesk" ({ cls := "CornerDesk", name := "denominator", desc := "(I)I" } : Jvm.MethodName) ({ cls := "CornerDesk", name := "denominator", desc := "(I)I" } : Jvm.MethodName)) ∈ lw_all := lw_g (lw_at lw_m1 152 rfl) rfl
theorem q171 : (Jvm.Cond.code ({ cls := "CornerDesk", name := "denominator", desc := "(I)I" } : Jvm.MethodName) prog_1_method_8_code (4 : Nat) (Option.some Jvm.ClassFile.FieldType.int)) ∈ lw_all := lw_g (lw_at lw_m1 153 rfl) rfl
theorem q173 : (Jvm.Cond.instanceMethod ({ cls := "CornerDesk", name := "test", desc := "(III)I" } : Jvm.MethodName)) ∈ lw_all := lw_g (lw_at lw_m1 155 rfl) rfl
theorem q174 : (Jvm.Cond.selects "CornerDesk" ({ cls := "CornerDesk", name := "test", desc := "(III)I" } : Jvm.MethodName) ({ cls := "CornerDesk", name := "test", desc := "(III)I" } : Jvm.MethodName)) ∈ lw_all := lw_g (lw_at lw_m1 156 rfl) rfl
theorem q175 : (Jvm.Cond.code ({ cls := "CornerDesk", name := "test", desc := "(III)I" } : Jvm.MethodName) prog_1_method_9_code (6 : Nat) (Option.some Jvm.ClassFile.FieldType.int)) ∈ lw_all := lw_g (lw_at lw_m1 157 rfl) rfl
theorem q177 : (Jvm.Cond.instanceMethod ({ cls := "CornerDesk", name := "spare", desc := "()I" } : Jvm.MethodName)) ∈ lw_all := lw_g (lw_at lw_m1 159 rfl) rfl
theorem q178 : (Jvm.Cond.selects "CornerDesk" ({ cls := "CornerDesk", name := "spare", desc := "()I" } : Jvm.MethodName) ({ cls := "CornerDesk", name := "spare", desc := "()I" } : Jvm.MethodName)) ∈ lw_all := lw_g (lw_at lw_m1 160 rfl) rfl
theorem q179 : (Jvm.Cond.code ({ cls := "CornerDesk", name := "spare", desc := "()I" } : Jvm.MethodName) prog_1_method_10_code (4 : Nat) (Option.some Jvm.ClassFile.FieldType.int)) ∈ lw_all := lw_g (lw_at lw_m1 161 rfl) rfl
theorem in_X0 : ∀ w ∈ wsX00, w ∈ lw_all := lw_in wsX00 [52, 54, 56, 58, 60, 62, 64, 66, 68, 70, 72, 74, 76, 78, 80, 82, 84, 86, 88, 90, 92, 94, 96] (by decide +kernel) (by decide +kernel)
end
section
/-! CornerDeskModel -/
set_option maxRecDepth 100000
def RX1 : String := "CornerDeskModel"
def TX1 : u_T := fun k => match k with
  | 0 => ("CornerDeskModel", "held", "I", false)
  | 1 => ("CornerDeskModel", "levels", "I", false)
  | 2 => ("CornerDeskModel", "begun", "[I", true)
  | 3 => ("CornerDeskModel", "as", "[I", true)
  | 4 => ("CornerDeskModel", "bs", "[I", true)
  | 5 => ("CornerDeskModel", "cs", "[I", true)
  | 6 => ("CornerDeskModel", "cornerX", "J", false)
  | 7 => ("CornerDeskModel", "cornerY", "J", false)
  | 8 => ("CornerDeskModel", "under", "J", false)
  | 9 => ("CornerDeskModel", "known", "Z", false)
  | 10 => ("CornerDeskModel", "bestX", "J", false)
  | 11 => ("CornerDeskModel", "bestY", "J", false)
  | 12 => ("CornerDeskModel", "bestUnder", "J", false)
  | 13 => ("CornerDeskModel", "aimP", "I", false)
  | _ => ("CornerDeskModel", "aimQ", "I", false)
def tyX1 : Nat → FieldType := fun k => match k with
  | 0 => .int
  | 1 => .int
  | 2 => .array .int
  | 3 => .array .int
  | 4 => .array .int
  | 5 => .array .int
  | 6 => .long
  | 7 => .long
  | 8 => .long
  | 9 => .boolean
  | 10 => .long
  | 11 => .long
  | 12 => .long
  | 13 => .int
  | _ => .int
abbrev wsX10 : List Cond := u_ws RX1 TX1 15
set_option maxRecDepth 100000 in
theorem nmX1 : ∀ a, a < 15 → ∀ b, b < 15 → a ≠ b → (TX1 a).2.1 ≠ (TX1 b).2.1 := by decide +kernel
set_option maxRecDepth 100000 in
theorem tyX1_ok : ∀ k, k < 15 → parseFieldDescriptor (TX1 k).2.2.1 = some (tyX1 k) := by decide +kernel
abbrev cX1_init : ByteArray := prog_3_method_1_code
def yX1_init : MethodName := ⟨RX1, "<init>", "()V"⟩
theorem dX1_init_0 : decode cX1_init 0 = .ok (.aload_n 0, 1) := by decide +kernel
theorem dX1_init_1 : decode cX1_init 1 = .ok (.invokespecial 1, 3) := by decide +kernel
theorem dX1_init_4 : decode cX1_init 4 = .ok (.aload_n 0, 1) := by decide +kernel
theorem dX1_init_5 : decode cX1_init 5 = .ok (.iconst 1, 1) := by decide +kernel
theorem dX1_init_6 : decode cX1_init 6 = .ok (.putfield 7, 3) := by decide +kernel
theorem dX1_init_9 : decode cX1_init 9 = .ok (.aload_n 0, 1) := by decide +kernel
theorem dX1_init_10 : decode cX1_init 10 = .ok (.bipush 8, 2) := by decide +kernel
theorem dX1_init_12 : decode cX1_init 12 = .ok (.newarray .int, 2) := by decide +kernel
theorem dX1_init_14 : decode cX1_init 14 = .ok (.putfield 13, 3) := by decide +kernel
theorem dX1_init_17 : decode cX1_init 17 = .ok (.aload_n 0, 1) := by decide +kernel
theorem dX1_init_18 : decode cX1_init 18 = .ok (.bipush 14, 2) := by decide +kernel
theorem dX1_init_20 : decode cX1_init 20 = .ok (.newarray .int, 2) := by decide +kernel
theorem dX1_init_22 : decode cX1_init 22 = .ok (.putfield 17, 3) := by decide +kernel
theorem dX1_init_25 : decode cX1_init 25 = .ok (.aload_n 0, 1) := by decide +kernel
theorem dX1_init_26 : decode cX1_init 26 = .ok (.bipush 14, 2) := by decide +kernel
theorem dX1_init_28 : decode cX1_init 28 = .ok (.newarray .int, 2) := by decide +kernel
theorem dX1_init_30 : decode cX1_init 30 = .ok (.putfield 20, 3) := by decide +kernel
theorem dX1_init_33 : decode cX1_init 33 = .ok (.aload_n 0, 1) := by decide +kernel
theorem dX1_init_34 : decode cX1_init 34 = .ok (.bipush 14, 2) := by decide +kernel
theorem dX1_init_36 : decode cX1_init 36 = .ok (.newarray .int, 2) := by decide +kernel
theorem dX1_init_38 : decode cX1_init 38 = .ok (.putfield 23, 3) := by decide +kernel
theorem dX1_init_41 : decode cX1_init 41 = .ok (.aload_n 0, 1) := by decide +kernel
theorem dX1_init_42 : decode cX1_init 42 = .ok (.bipush 10, 2) := by decide +kernel
theorem dX1_init_44 : decode cX1_init 44 = .ok (.iconst 1, 1) := by decide +kernel
theorem dX1_init_45 : decode cX1_init 45 = .ok (.iconst 0, 1) := by decide +kernel
theorem dX1_init_46 : decode cX1_init 46 = .ok (.bipush 50, 2) := by decide +kernel
theorem dX1_init_48 : decode cX1_init 48 = .ok (.invokevirtual 26, 3) := by decide +kernel
theorem dX1_init_51 : decode cX1_init 51 = .ok (.aload_n 0, 1) := by decide +kernel
theorem dX1_init_52 : decode cX1_init 52 = .ok (.bipush 11, 2) := by decide +kernel
theorem dX1_init_54 : decode cX1_init 54 = .ok (.iconst (-1), 1) := by decide +kernel
theorem dX1_init_55 : decode cX1_init 55 = .ok (.iconst 0, 1) := by decide +kernel
theorem dX1_init_56 : decode cX1_init 56 = .ok (.bipush 50, 2) := by decide +kernel
theorem dX1_init_58 : decode cX1_init 58 = .ok (.invokevirtual 26, 3) := by decide +kernel
theorem dX1_init_61 : decode cX1_init 61 = .ok (.aload_n 0, 1) := by decide +kernel
theorem dX1_init_62 : decode cX1_init 62 = .ok (.bipush 12, 2) := by decide +kernel
theorem dX1_init_64 : decode cX1_init 64 = .ok (.iconst 0, 1) := by decide +kernel
theorem dX1_init_65 : decode cX1_init 65 = .ok (.iconst 1, 1) := by decide +kernel
theorem dX1_init_66 : decode cX1_init 66 = .ok (.bipush 50, 2) := by decide +kernel
theorem dX1_init_68 : decode cX1_init 68 = .ok (.invokevirtual 26, 3) := by decide +kernel
theorem dX1_init_71 : decode cX1_init 71 = .ok (.aload_n 0, 1) := by decide +kernel
theorem dX1_init_72 : decode cX1_init 72 = .ok (.bipush 13, 2) := by decide +kernel
theorem dX1_init_74 : decode cX1_init 74 = .ok (.iconst 0, 1) := by decide +kernel
theorem dX1_init_75 : decode cX1_init 75 = .ok (.iconst (-1), 1) := by decide +kernel
theorem dX1_init_76 : decode cX1_init 76 = .ok (.bipush 50, 2) := by decide +kernel
theorem dX1_init_78 : decode cX1_init 78 = .ok (.invokevirtual 26, 3) := by decide +kernel
theorem dX1_init_81 : decode cX1_init 81 = .ok (.return_, 1) := by decide +kernel
abbrev cX1_write : ByteArray := prog_3_method_2_code
def yX1_write : MethodName := ⟨RX1, "write", "(IIII)V"⟩
theorem dX1_write_0 : decode cX1_write 0 = .ok (.aload_n 0, 1) := by decide +kernel
theorem dX1_write_1 : decode cX1_write 1 = .ok (.getfield 17, 3) := by decide +kernel
theorem dX1_write_4 : decode cX1_write 4 = .ok (.iload_n 1, 1) := by decide +kernel
theorem dX1_write_5 : decode cX1_write 5 = .ok (.iload_n 2, 1) := by decide +kernel
theorem dX1_write_6 : decode cX1_write 6 = .ok (.iastore, 1) := by decide +kernel
theorem dX1_write_7 : decode cX1_write 7 = .ok (.aload_n 0, 1) := by decide +kernel
theorem dX1_write_8 : decode cX1_write 8 = .ok (.getfield 20, 3) := by decide +kernel
theorem dX1_write_11 : decode cX1_write 11 = .ok (.iload_n 1, 1) := by decide +kernel
theorem dX1_write_12 : decode cX1_write 12 = .ok (.iload_n 3, 1) := by decide +kernel
theorem dX1_write_13 : decode cX1_write 13 = .ok (.iastore, 1) := by decide +kernel
theorem dX1_write_14 : decode cX1_write 14 = .ok (.aload_n 0, 1) := by decide +kernel
theorem dX1_write_15 : decode cX1_write 15 = .ok (.getfield 23, 3) := by decide +kernel
theorem dX1_write_18 : decode cX1_write 18 = .ok (.iload_n 1, 1) := by decide +kernel
theorem dX1_write_19 : decode cX1_write 19 = .ok (.iload 4, 2) := by decide +kernel
theorem dX1_write_21 : decode cX1_write 21 = .ok (.iastore, 1) := by decide +kernel
theorem dX1_write_22 : decode cX1_write 22 = .ok (.return_, 1) := by decide +kernel
abbrev cX1_add : ByteArray := prog_3_method_4_code
def yX1_add : MethodName := ⟨RX1, "add", "(III)I"⟩
theorem dX1_add_0 : decode cX1_add 0 = .ok (.iload_n 1, 1) := by decide +kernel
theorem dX1_add_1 : decode cX1_add 1 = .ok (.iload_n 2, 1) := by decide +kernel
theorem dX1_add_2 : decode cX1_add 2 = .ok (.iload_n 3, 1) := by decide +kernel
theorem dX1_add_3 : decode cX1_add 3 = .ok (.invokestatic 30, 3) := by decide +kernel
theorem dX1_add_6 : decode cX1_add 6 = .ok (.ifCond .ne 12, 3) := by decide +kernel
theorem dX1_add_9 : decode cX1_add 9 = .ok (.aload_n 0, 1) := by decide +kernel
theorem dX1_add_10 : decode cX1_add 10 = .ok (.getfield 34, 3) := by decide +kernel
theorem dX1_add_13 : decode cX1_add 13 = .ok (.bipush 10, 2) := by decide +kernel
theorem dX1_add_15 : decode cX1_add 15 = .ok (.if_icmp .ne 5, 3) := by decide +kernel
theorem dX1_add_18 : decode cX1_add 18 = .ok (.iconst (-1), 1) := by decide +kernel
theorem dX1_add_19 : decode cX1_add 19 = .ok (.ireturn, 1) := by decide +kernel
theorem dX1_add_20 : decode cX1_add 20 = .ok (.aload_n 0, 1) := by decide +kernel
theorem dX1_add_21 : decode cX1_add 21 = .ok (.aload_n 0, 1) := by decide +kernel
theorem dX1_add_22 : decode cX1_add 22 = .ok (.getfield 34, 3) := by decide +kernel
theorem dX1_add_25 : decode cX1_add 25 = .ok (.iload_n 1, 1) := by decide +kernel
theorem dX1_add_26 : decode cX1_add 26 = .ok (.iload_n 2, 1) := by decide +kernel
theorem dX1_add_27 : decode cX1_add 27 = .ok (.iload_n 3, 1) := by decide +kernel
theorem dX1_add_28 : decode cX1_add 28 = .ok (.invokevirtual 26, 3) := by decide +kernel
theorem dX1_add_31 : decode cX1_add 31 = .ok (.aload_n 0, 1) := by decide +kernel
theorem dX1_add_32 : decode cX1_add 32 = .ok (.dup, 1) := by decide +kernel
theorem dX1_add_33 : decode cX1_add 33 = .ok (.getfield 34, 3) := by decide +kernel
theorem dX1_add_36 : decode cX1_add 36 = .ok (.iconst 1, 1) := by decide +kernel
theorem dX1_add_37 : decode cX1_add 37 = .ok (.iadd, 1) := by decide +kernel
theorem dX1_add_38 : decode cX1_add 38 = .ok (.putfield 34, 3) := by decide +kernel
theorem dX1_add_41 : decode cX1_add 41 = .ok (.aload_n 0, 1) := by decide +kernel
theorem dX1_add_42 : decode cX1_add 42 = .ok (.getfield 34, 3) := by decide +kernel
theorem dX1_add_45 : decode cX1_add 45 = .ok (.ireturn, 1) := by decide +kernel
abbrev cX1_bad : ByteArray := prog_3_method_3_code
def yX1_bad : MethodName := ⟨RX1, "bad", "(III)Z"⟩
theorem dX1_bad_0 : decode cX1_bad 0 = .ok (.iload_n 0, 1) := by decide +kernel
theorem dX1_bad_1 : decode cX1_bad 1 = .ok (.bipush (-9), 2) := by decide +kernel
theorem dX1_bad_3 : decode cX1_bad 3 = .ok (.if_icmp .lt 41, 3) := by decide +kernel
theorem dX1_bad_6 : decode cX1_bad 6 = .ok (.iload_n 0, 1) := by decide +kernel
theorem dX1_bad_7 : decode cX1_bad 7 = .ok (.bipush 9, 2) := by decide +kernel
theorem dX1_bad_9 : decode cX1_bad 9 = .ok (.if_icmp .gt 35, 3) := by decide +kernel
theorem dX1_bad_12 : decode cX1_bad 12 = .ok (.iload_n 1, 1) := by decide +kernel
theorem dX1_bad_13 : decode cX1_bad 13 = .ok (.bipush (-9), 2) := by decide +kernel
theorem dX1_bad_15 : decode cX1_bad 15 = .ok (.if_icmp .lt 29, 3) := by decide +kernel
theorem dX1_bad_18 : decode cX1_bad 18 = .ok (.iload_n 1, 1) := by decide +kernel
theorem dX1_bad_19 : decode cX1_bad 19 = .ok (.bipush 9, 2) := by decide +kernel
theorem dX1_bad_21 : decode cX1_bad 21 = .ok (.if_icmp .gt 23, 3) := by decide +kernel
theorem dX1_bad_24 : decode cX1_bad 24 = .ok (.iload_n 2, 1) := by decide +kernel
theorem dX1_bad_25 : decode cX1_bad 25 = .ok (.bipush (-99), 2) := by decide +kernel
theorem dX1_bad_27 : decode cX1_bad 27 = .ok (.if_icmp .lt 17, 3) := by decide +kernel
theorem dX1_bad_30 : decode cX1_bad 30 = .ok (.iload_n 2, 1) := by decide +kernel
theorem dX1_bad_31 : decode cX1_bad 31 = .ok (.bipush 99, 2) := by decide +kernel
theorem dX1_bad_33 : decode cX1_bad 33 = .ok (.if_icmp .gt 11, 3) := by decide +kernel
theorem dX1_bad_36 : decode cX1_bad 36 = .ok (.iload_n 0, 1) := by decide +kernel
theorem dX1_bad_37 : decode cX1_bad 37 = .ok (.ifCond .ne 11, 3) := by decide +kernel
theorem dX1_bad_40 : decode cX1_bad 40 = .ok (.iload_n 1, 1) := by decide +kernel
theorem dX1_bad_41 : decode cX1_bad 41 = .ok (.ifCond .ne 7, 3) := by decide +kernel
theorem dX1_bad_44 : decode cX1_bad 44 = .ok (.iconst 1, 1) := by decide +kernel
theorem dX1_bad_45 : decode cX1_bad 45 = .ok (.goto 4, 3) := by decide +kernel
theorem dX1_bad_48 : decode cX1_bad 48 = .ok (.iconst 0, 1) := by decide +kernel
theorem dX1_bad_49 : decode cX1_bad 49 = .ok (.ireturn, 1) := by decide +kernel
abbrev cX1_push : ByteArray := prog_3_method_5_code
def yX1_push : MethodName := ⟨RX1, "push", "()I"⟩
theorem dX1_push_0 : decode cX1_push 0 = .ok (.aload_n 0, 1) := by decide +kernel
theorem dX1_push_1 : decode cX1_push 1 = .ok (.getfield 7, 3) := by decide +kernel
theorem dX1_push_4 : decode cX1_push 4 = .ok (.bipush 8, 2) := by decide +kernel
theorem dX1_push_6 : decode cX1_push 6 = .ok (.if_icmp .ne 5, 3) := by decide +kernel
theorem dX1_push_9 : decode cX1_push 9 = .ok (.iconst (-1), 1) := by decide +kernel
theorem dX1_push_10 : decode cX1_push 10 = .ok (.ireturn, 1) := by decide +kernel
theorem dX1_push_11 : decode cX1_push 11 = .ok (.aload_n 0, 1) := by decide +kernel
theorem dX1_push_12 : decode cX1_push 12 = .ok (.getfield 13, 3) := by decide +kernel
theorem dX1_push_15 : decode cX1_push 15 = .ok (.aload_n 0, 1) := by decide +kernel
theorem dX1_push_16 : decode cX1_push 16 = .ok (.getfield 7, 3) := by decide +kernel
theorem dX1_push_19 : decode cX1_push 19 = .ok (.aload_n 0, 1) := by decide +kernel
theorem dX1_push_20 : decode cX1_push 20 = .ok (.getfield 34, 3) := by decide +kernel
theorem dX1_push_23 : decode cX1_push 23 = .ok (.iastore, 1) := by decide +kernel
theorem dX1_push_24 : decode cX1_push 24 = .ok (.aload_n 0, 1) := by decide +kernel
theorem dX1_push_25 : decode cX1_push 25 = .ok (.dup, 1) := by decide +kernel
theorem dX1_push_26 : decode cX1_push 26 = .ok (.getfield 7, 3) := by decide +kernel
theorem dX1_push_29 : decode cX1_push 29 = .ok (.iconst 1, 1) := by decide +kernel
theorem dX1_push_30 : decode cX1_push 30 = .ok (.iadd, 1) := by decide +kernel
theorem dX1_push_31 : decode cX1_push 31 = .ok (.putfield 7, 3) := by decide +kernel
theorem dX1_push_34 : decode cX1_push 34 = .ok (.aload_n 0, 1) := by decide +kernel
theorem dX1_push_35 : decode cX1_push 35 = .ok (.getfield 7, 3) := by decide +kernel
theorem dX1_push_38 : decode cX1_push 38 = .ok (.ireturn, 1) := by decide +kernel
abbrev cX1_pop : ByteArray := prog_3_method_6_code
def yX1_pop : MethodName := ⟨RX1, "pop", "()I"⟩
theorem dX1_pop_0 : decode cX1_pop 0 = .ok (.aload_n 0, 1) := by decide +kernel
theorem dX1_pop_1 : decode cX1_pop 1 = .ok (.getfield 7, 3) := by decide +kernel
theorem dX1_pop_4 : decode cX1_pop 4 = .ok (.iconst 1, 1) := by decide +kernel
theorem dX1_pop_5 : decode cX1_pop 5 = .ok (.if_icmp .ne 5, 3) := by decide +kernel
theorem dX1_pop_8 : decode cX1_pop 8 = .ok (.iconst (-1), 1) := by decide +kernel
theorem dX1_pop_9 : decode cX1_pop 9 = .ok (.ireturn, 1) := by decide +kernel
theorem dX1_pop_10 : decode cX1_pop 10 = .ok (.aload_n 0, 1) := by decide +kernel
theorem dX1_pop_11 : decode cX1_pop 11 = .ok (.dup, 1) := by decide +kernel
theorem dX1_pop_12 : decode cX1_pop 12 = .ok (.getfield 7, 3) := by decide +kernel
theorem dX1_pop_15 : decode cX1_pop 15 = .ok (.iconst 1, 1) := by decide +kernel
theorem dX1_pop_16 : decode cX1_pop 16 = .ok (.isub, 1) := by decide +kernel
theorem dX1_pop_17 : decode cX1_pop 17 = .ok (.putfield 7, 3) := by decide +kernel
theorem dX1_pop_20 : decode cX1_pop 20 = .ok (.aload_n 0, 1) := by decide +kernel
theorem dX1_pop_21 : decode cX1_pop 21 = .ok (.aload_n 0, 1) := by decide +kernel
theorem dX1_pop_22 : decode cX1_pop 22 = .ok (.getfield 13, 3) := by decide +kernel
theorem dX1_pop_25 : decode cX1_pop 25 = .ok (.aload_n 0, 1) := by decide +kernel
theorem dX1_pop_26 : decode cX1_pop 26 = .ok (.getfield 7, 3) := by decide +kernel
theorem dX1_pop_29 : decode cX1_pop 29 = .ok (.iaload, 1) := by decide +kernel
theorem dX1_pop_30 : decode cX1_pop 30 = .ok (.putfield 34, 3) := by decide +kernel
theorem dX1_pop_33 : decode cX1_pop 33 = .ok (.aload_n 0, 1) := by decide +kernel
theorem dX1_pop_34 : decode cX1_pop 34 = .ok (.getfield 34, 3) := by decide +kernel
theorem dX1_pop_37 : decode cX1_pop 37 = .ok (.ireturn, 1) := by decide +kernel
abbrev cX1_possible : ByteArray := prog_3_method_13_code
def yX1_possible : MethodName := ⟨RX1, "possible", "()I"⟩
theorem dX1_possible_0 : decode cX1_possible 0 = .ok (.iconst 0, 1) := by decide +kernel
theorem dX1_possible_1 : decode cX1_possible 1 = .ok (.istore_n 1, 1) := by decide +kernel
theorem dX1_possible_2 : decode cX1_possible 2 = .ok (.iload_n 1, 1) := by decide +kernel
theorem dX1_possible_3 : decode cX1_possible 3 = .ok (.bipush 14, 2) := by decide +kernel
theorem dX1_possible_5 : decode cX1_possible 5 = .ok (.if_icmp .ge 59, 3) := by decide +kernel
theorem dX1_possible_8 : decode cX1_possible 8 = .ok (.iconst 0, 1) := by decide +kernel
theorem dX1_possible_9 : decode cX1_possible 9 = .ok (.istore_n 2, 1) := by decide +kernel
theorem dX1_possible_10 : decode cX1_possible 10 = .ok (.iload_n 2, 1) := by decide +kernel
theorem dX1_possible_11 : decode cX1_possible 11 = .ok (.iload_n 1, 1) := by decide +kernel
theorem dX1_possible_12 : decode cX1_possible 12 = .ok (.if_icmp .ge 46, 3) := by decide +kernel
theorem dX1_possible_15 : decode cX1_possible 15 = .ok (.aload_n 0, 1) := by decide +kernel
theorem dX1_possible_16 : decode cX1_possible 16 = .ok (.iload_n 1, 1) := by decide +kernel
theorem dX1_possible_17 : decode cX1_possible 17 = .ok (.iconst (-1), 1) := by decide +kernel
theorem dX1_possible_18 : decode cX1_possible 18 = .ok (.invokevirtual 47, 3) := by decide +kernel
theorem dX1_possible_21 : decode cX1_possible 21 = .ok (.ifCond .eq 31, 3) := by decide +kernel
theorem dX1_possible_24 : decode cX1_possible 24 = .ok (.aload_n 0, 1) := by decide +kernel
theorem dX1_possible_25 : decode cX1_possible 25 = .ok (.iload_n 2, 1) := by decide +kernel
theorem dX1_possible_26 : decode cX1_possible 26 = .ok (.iconst (-1), 1) := by decide +kernel
theorem dX1_possible_27 : decode cX1_possible 27 = .ok (.invokevirtual 47, 3) := by decide +kernel
theorem dX1_possible_30 : decode cX1_possible 30 = .ok (.ifCond .eq 22, 3) := by decide +kernel
theorem dX1_possible_33 : decode cX1_possible 33 = .ok (.aload_n 0, 1) := by decide +kernel
theorem dX1_possible_34 : decode cX1_possible 34 = .ok (.iload_n 1, 1) := by decide +kernel
theorem dX1_possible_35 : decode cX1_possible 35 = .ok (.iload_n 2, 1) := by decide +kernel
theorem dX1_possible_36 : decode cX1_possible 36 = .ok (.invokevirtual 64, 3) := by decide +kernel
theorem dX1_possible_39 : decode cX1_possible 39 = .ok (.ifCond .eq 13, 3) := by decide +kernel
theorem dX1_possible_42 : decode cX1_possible 42 = .ok (.aload_n 0, 1) := by decide +kernel
theorem dX1_possible_43 : decode cX1_possible 43 = .ok (.iconst (-1), 1) := by decide +kernel
theorem dX1_possible_44 : decode cX1_possible 44 = .ok (.invokevirtual 67, 3) := by decide +kernel
theorem dX1_possible_47 : decode cX1_possible 47 = .ok (.ifCond .eq 5, 3) := by decide +kernel
theorem dX1_possible_50 : decode cX1_possible 50 = .ok (.iconst 1, 1) := by decide +kernel
theorem dX1_possible_51 : decode cX1_possible 51 = .ok (.ireturn, 1) := by decide +kernel
theorem dX1_possible_52 : decode cX1_possible 52 = .ok (.iinc 2 1, 3) := by decide +kernel
theorem dX1_possible_55 : decode cX1_possible 55 = .ok (.goto (-45), 3) := by decide +kernel
theorem dX1_possible_58 : decode cX1_possible 58 = .ok (.iinc 1 1, 3) := by decide +kernel
theorem dX1_possible_61 : decode cX1_possible 61 = .ok (.goto (-59), 3) := by decide +kernel
theorem dX1_possible_64 : decode cX1_possible 64 = .ok (.iconst 0, 1) := by decide +kernel
theorem dX1_possible_65 : decode cX1_possible 65 = .ok (.ireturn, 1) := by decide +kernel
abbrev cX1_there : ByteArray := prog_3_method_7_code
def yX1_there : MethodName := ⟨RX1, "there", "(II)Z"⟩
theorem dX1_there_0 : decode cX1_there 0 = .ok (.iload_n 1, 1) := by decide +kernel
theorem dX1_there_1 : decode cX1_there 1 = .ok (.iload_n 2, 1) := by decide +kernel
theorem dX1_there_2 : decode cX1_there 2 = .ok (.if_icmp .eq 21, 3) := by decide +kernel
theorem dX1_there_5 : decode cX1_there 5 = .ok (.iload_n 1, 1) := by decide +kernel
theorem dX1_there_6 : decode cX1_there 6 = .ok (.aload_n 0, 1) := by decide +kernel
theorem dX1_there_7 : decode cX1_there 7 = .ok (.getfield 34, 3) := by decide +kernel
theorem dX1_there_10 : decode cX1_there 10 = .ok (.if_icmp .lt 9, 3) := by decide +kernel
theorem dX1_there_13 : decode cX1_there 13 = .ok (.iload_n 1, 1) := by decide +kernel
theorem dX1_there_14 : decode cX1_there 14 = .ok (.bipush 10, 2) := by decide +kernel
theorem dX1_there_16 : decode cX1_there 16 = .ok (.if_icmp .lt 7, 3) := by decide +kernel
theorem dX1_there_19 : decode cX1_there 19 = .ok (.iconst 1, 1) := by decide +kernel
theorem dX1_there_20 : decode cX1_there 20 = .ok (.goto 4, 3) := by decide +kernel
theorem dX1_there_23 : decode cX1_there 23 = .ok (.iconst 0, 1) := by decide +kernel
theorem dX1_there_24 : decode cX1_there 24 = .ok (.ireturn, 1) := by decide +kernel
abbrev cX1_meet : ByteArray := prog_3_method_8_code
def yX1_meet : MethodName := ⟨RX1, "meet", "(II)Z"⟩
theorem dX1_meet_0 : decode cX1_meet 0 = .ok (.aload_n 0, 1) := by decide +kernel
theorem dX1_meet_1 : decode cX1_meet 1 = .ok (.getfield 17, 3) := by decide +kernel
theorem dX1_meet_4 : decode cX1_meet 4 = .ok (.iload_n 1, 1) := by decide +kernel
theorem dX1_meet_5 : decode cX1_meet 5 = .ok (.iaload, 1) := by decide +kernel
theorem dX1_meet_6 : decode cX1_meet 6 = .ok (.aload_n 0, 1) := by decide +kernel
theorem dX1_meet_7 : decode cX1_meet 7 = .ok (.getfield 20, 3) := by decide +kernel
theorem dX1_meet_10 : decode cX1_meet 10 = .ok (.iload_n 2, 1) := by decide +kernel
theorem dX1_meet_11 : decode cX1_meet 11 = .ok (.iaload, 1) := by decide +kernel
theorem dX1_meet_12 : decode cX1_meet 12 = .ok (.imul, 1) := by decide +kernel
theorem dX1_meet_13 : decode cX1_meet 13 = .ok (.aload_n 0, 1) := by decide +kernel
theorem dX1_meet_14 : decode cX1_meet 14 = .ok (.getfield 17, 3) := by decide +kernel
theorem dX1_meet_17 : decode cX1_meet 17 = .ok (.iload_n 2, 1) := by decide +kernel
theorem dX1_meet_18 : decode cX1_meet 18 = .ok (.iaload, 1) := by decide +kernel
theorem dX1_meet_19 : decode cX1_meet 19 = .ok (.aload_n 0, 1) := by decide +kernel
theorem dX1_meet_20 : decode cX1_meet 20 = .ok (.getfield 20, 3) := by decide +kernel
theorem dX1_meet_23 : decode cX1_meet 23 = .ok (.iload_n 1, 1) := by decide +kernel
theorem dX1_meet_24 : decode cX1_meet 24 = .ok (.iaload, 1) := by decide +kernel
theorem dX1_meet_25 : decode cX1_meet 25 = .ok (.imul, 1) := by decide +kernel
theorem dX1_meet_26 : decode cX1_meet 26 = .ok (.isub, 1) := by decide +kernel
theorem dX1_meet_27 : decode cX1_meet 27 = .ok (.i2l, 1) := by decide +kernel
theorem dX1_meet_28 : decode cX1_meet 28 = .ok (.lstore_n 3, 1) := by decide +kernel
theorem dX1_meet_29 : decode cX1_meet 29 = .ok (.aload_n 0, 1) := by decide +kernel
theorem dX1_meet_30 : decode cX1_meet 30 = .ok (.getfield 23, 3) := by decide +kernel
theorem dX1_meet_33 : decode cX1_meet 33 = .ok (.iload_n 1, 1) := by decide +kernel
theorem dX1_meet_34 : decode cX1_meet 34 = .ok (.iaload, 1) := by decide +kernel
theorem dX1_meet_35 : decode cX1_meet 35 = .ok (.aload_n 0, 1) := by decide +kernel
theorem dX1_meet_36 : decode cX1_meet 36 = .ok (.getfield 20, 3) := by decide +kernel
theorem dX1_meet_39 : decode cX1_meet 39 = .ok (.iload_n 2, 1) := by decide +kernel
theorem dX1_meet_40 : decode cX1_meet 40 = .ok (.iaload, 1) := by decide +kernel
theorem dX1_meet_41 : decode cX1_meet 41 = .ok (.imul, 1) := by decide +kernel
theorem dX1_meet_42 : decode cX1_meet 42 = .ok (.aload_n 0, 1) := by decide +kernel
theorem dX1_meet_43 : decode cX1_meet 43 = .ok (.getfield 23, 3) := by decide +kernel
theorem dX1_meet_46 : decode cX1_meet 46 = .ok (.iload_n 2, 1) := by decide +kernel
theorem dX1_meet_47 : decode cX1_meet 47 = .ok (.iaload, 1) := by decide +kernel
theorem dX1_meet_48 : decode cX1_meet 48 = .ok (.aload_n 0, 1) := by decide +kernel
theorem dX1_meet_49 : decode cX1_meet 49 = .ok (.getfield 20, 3) := by decide +kernel
theorem dX1_meet_52 : decode cX1_meet 52 = .ok (.iload_n 1, 1) := by decide +kernel
theorem dX1_meet_53 : decode cX1_meet 53 = .ok (.iaload, 1) := by decide +kernel
theorem dX1_meet_54 : decode cX1_meet 54 = .ok (.imul, 1) := by decide +kernel
theorem dX1_meet_55 : decode cX1_meet 55 = .ok (.isub, 1) := by decide +kernel
theorem dX1_meet_56 : decode cX1_meet 56 = .ok (.i2l, 1) := by decide +kernel
theorem dX1_meet_57 : decode cX1_meet 57 = .ok (.lstore 5, 2) := by decide +kernel
theorem dX1_meet_59 : decode cX1_meet 59 = .ok (.aload_n 0, 1) := by decide +kernel
theorem dX1_meet_60 : decode cX1_meet 60 = .ok (.getfield 17, 3) := by decide +kernel
theorem dX1_meet_63 : decode cX1_meet 63 = .ok (.iload_n 1, 1) := by decide +kernel
theorem dX1_meet_64 : decode cX1_meet 64 = .ok (.iaload, 1) := by decide +kernel
theorem dX1_meet_65 : decode cX1_meet 65 = .ok (.aload_n 0, 1) := by decide +kernel
theorem dX1_meet_66 : decode cX1_meet 66 = .ok (.getfield 23, 3) := by decide +kernel
theorem dX1_meet_69 : decode cX1_meet 69 = .ok (.iload_n 2, 1) := by decide +kernel
theorem dX1_meet_70 : decode cX1_meet 70 = .ok (.iaload, 1) := by decide +kernel
theorem dX1_meet_71 : decode cX1_meet 71 = .ok (.imul, 1) := by decide +kernel
theorem dX1_meet_72 : decode cX1_meet 72 = .ok (.aload_n 0, 1) := by decide +kernel
theorem dX1_meet_73 : decode cX1_meet 73 = .ok (.getfield 17, 3) := by decide +kernel
theorem dX1_meet_76 : decode cX1_meet 76 = .ok (.iload_n 2, 1) := by decide +kernel
theorem dX1_meet_77 : decode cX1_meet 77 = .ok (.iaload, 1) := by decide +kernel
theorem dX1_meet_78 : decode cX1_meet 78 = .ok (.aload_n 0, 1) := by decide +kernel
theorem dX1_meet_79 : decode cX1_meet 79 = .ok (.getfield 23, 3) := by decide +kernel
theorem dX1_meet_82 : decode cX1_meet 82 = .ok (.iload_n 1, 1) := by decide +kernel
theorem dX1_meet_83 : decode cX1_meet 83 = .ok (.iaload, 1) := by decide +kernel
theorem dX1_meet_84 : decode cX1_meet 84 = .ok (.imul, 1) := by decide +kernel
theorem dX1_meet_85 : decode cX1_meet 85 = .ok (.isub, 1) := by decide +kernel
theorem dX1_meet_86 : decode cX1_meet 86 = .ok (.i2l, 1) := by decide +kernel
theorem dX1_meet_87 : decode cX1_meet 87 = .ok (.lstore 7, 2) := by decide +kernel
theorem dX1_meet_89 : decode cX1_meet 89 = .ok (.lload_n 3, 1) := by decide +kernel
theorem dX1_meet_90 : decode cX1_meet 90 = .ok (.lconst 0, 1) := by decide +kernel
theorem dX1_meet_91 : decode cX1_meet 91 = .ok (.lcmp, 1) := by decide +kernel
theorem dX1_meet_92 : decode cX1_meet 92 = .ok (.ifCond .ne 5, 3) := by decide +kernel
theorem dX1_meet_95 : decode cX1_meet 95 = .ok (.iconst 0, 1) := by decide +kernel
theorem dX1_meet_96 : decode cX1_meet 96 = .ok (.ireturn, 1) := by decide +kernel
theorem dX1_meet_97 : decode cX1_meet 97 = .ok (.aload_n 0, 1) := by decide +kernel
theorem dX1_meet_98 : decode cX1_meet 98 = .ok (.lload_n 3, 1) := by decide +kernel
theorem dX1_meet_99 : decode cX1_meet 99 = .ok (.lconst 0, 1) := by decide +kernel
theorem dX1_meet_100 : decode cX1_meet 100 = .ok (.lcmp, 1) := by decide +kernel
theorem dX1_meet_101 : decode cX1_meet 101 = .ok (.ifCond .ge 8, 3) := by decide +kernel
theorem dX1_meet_104 : decode cX1_meet 104 = .ok (.lload_n 3, 1) := by decide +kernel
theorem dX1_meet_105 : decode cX1_meet 105 = .ok (.lneg, 1) := by decide +kernel
theorem dX1_meet_106 : decode cX1_meet 106 = .ok (.goto 4, 3) := by decide +kernel
theorem dX1_meet_109 : decode cX1_meet 109 = .ok (.lload_n 3, 1) := by decide +kernel
theorem dX1_meet_110 : decode cX1_meet 110 = .ok (.putfield 37, 3) := by decide +kernel
theorem dX1_meet_113 : decode cX1_meet 113 = .ok (.aload_n 0, 1) := by decide +kernel
theorem dX1_meet_114 : decode cX1_meet 114 = .ok (.lload_n 3, 1) := by decide +kernel
theorem dX1_meet_115 : decode cX1_meet 115 = .ok (.lconst 0, 1) := by decide +kernel
theorem dX1_meet_116 : decode cX1_meet 116 = .ok (.lcmp, 1) := by decide +kernel
theorem dX1_meet_117 : decode cX1_meet 117 = .ok (.ifCond .ge 9, 3) := by decide +kernel
theorem dX1_meet_120 : decode cX1_meet 120 = .ok (.lload 5, 2) := by decide +kernel
theorem dX1_meet_122 : decode cX1_meet 122 = .ok (.lneg, 1) := by decide +kernel
theorem dX1_meet_123 : decode cX1_meet 123 = .ok (.goto 5, 3) := by decide +kernel
theorem dX1_meet_126 : decode cX1_meet 126 = .ok (.lload 5, 2) := by decide +kernel
theorem dX1_meet_128 : decode cX1_meet 128 = .ok (.putfield 41, 3) := by decide +kernel
theorem dX1_meet_131 : decode cX1_meet 131 = .ok (.aload_n 0, 1) := by decide +kernel
theorem dX1_meet_132 : decode cX1_meet 132 = .ok (.lload_n 3, 1) := by decide +kernel
theorem dX1_meet_133 : decode cX1_meet 133 = .ok (.lconst 0, 1) := by decide +kernel
theorem dX1_meet_134 : decode cX1_meet 134 = .ok (.lcmp, 1) := by decide +kernel
theorem dX1_meet_135 : decode cX1_meet 135 = .ok (.ifCond .ge 9, 3) := by decide +kernel
theorem dX1_meet_138 : decode cX1_meet 138 = .ok (.lload 7, 2) := by decide +kernel
theorem dX1_meet_140 : decode cX1_meet 140 = .ok (.lneg, 1) := by decide +kernel
theorem dX1_meet_141 : decode cX1_meet 141 = .ok (.goto 5, 3) := by decide +kernel
theorem dX1_meet_144 : decode cX1_meet 144 = .ok (.lload 7, 2) := by decide +kernel
theorem dX1_meet_146 : decode cX1_meet 146 = .ok (.putfield 44, 3) := by decide +kernel
theorem dX1_meet_149 : decode cX1_meet 149 = .ok (.iconst 1, 1) := by decide +kernel
theorem dX1_meet_150 : decode cX1_meet 150 = .ok (.ireturn, 1) := by decide +kernel
abbrev cX1_allowed : ByteArray := prog_3_method_10_code
def yX1_allowed : MethodName := ⟨RX1, "allowed", "(I)Z"⟩
theorem dX1_allowed_0 : decode cX1_allowed 0 = .ok (.iconst 0, 1) := by decide +kernel
theorem dX1_allowed_1 : decode cX1_allowed 1 = .ok (.istore_n 2, 1) := by decide +kernel
theorem dX1_allowed_2 : decode cX1_allowed 2 = .ok (.iload_n 2, 1) := by decide +kernel
theorem dX1_allowed_3 : decode cX1_allowed 3 = .ok (.bipush 14, 2) := by decide +kernel
theorem dX1_allowed_5 : decode cX1_allowed 5 = .ok (.if_icmp .ge 28, 3) := by decide +kernel
theorem dX1_allowed_8 : decode cX1_allowed 8 = .ok (.aload_n 0, 1) := by decide +kernel
theorem dX1_allowed_9 : decode cX1_allowed 9 = .ok (.iload_n 2, 1) := by decide +kernel
theorem dX1_allowed_10 : decode cX1_allowed 10 = .ok (.iload_n 1, 1) := by decide +kernel
theorem dX1_allowed_11 : decode cX1_allowed 11 = .ok (.invokevirtual 47, 3) := by decide +kernel
theorem dX1_allowed_14 : decode cX1_allowed 14 = .ok (.ifCond .eq 13, 3) := by decide +kernel
theorem dX1_allowed_17 : decode cX1_allowed 17 = .ok (.aload_n 0, 1) := by decide +kernel
theorem dX1_allowed_18 : decode cX1_allowed 18 = .ok (.iload_n 2, 1) := by decide +kernel
theorem dX1_allowed_19 : decode cX1_allowed 19 = .ok (.invokevirtual 51, 3) := by decide +kernel
theorem dX1_allowed_22 : decode cX1_allowed 22 = .ok (.ifCond .ne 5, 3) := by decide +kernel
theorem dX1_allowed_25 : decode cX1_allowed 25 = .ok (.iconst 0, 1) := by decide +kernel
theorem dX1_allowed_26 : decode cX1_allowed 26 = .ok (.ireturn, 1) := by decide +kernel
theorem dX1_allowed_27 : decode cX1_allowed 27 = .ok (.iinc 2 1, 3) := by decide +kernel
theorem dX1_allowed_30 : decode cX1_allowed 30 = .ok (.goto (-28), 3) := by decide +kernel
theorem dX1_allowed_33 : decode cX1_allowed 33 = .ok (.iconst 1, 1) := by decide +kernel
theorem dX1_allowed_34 : decode cX1_allowed 34 = .ok (.ireturn, 1) := by decide +kernel
abbrev cX1_meets : ByteArray := prog_3_method_9_code
def yX1_meets : MethodName := ⟨RX1, "meets", "(I)Z"⟩
theorem dX1_meets_0 : decode cX1_meets 0 = .ok (.aload_n 0, 1) := by decide +kernel
theorem dX1_meets_1 : decode cX1_meets 1 = .ok (.getfield 17, 3) := by decide +kernel
theorem dX1_meets_4 : decode cX1_meets 4 = .ok (.iload_n 1, 1) := by decide +kernel
theorem dX1_meets_5 : decode cX1_meets 5 = .ok (.iaload, 1) := by decide +kernel
theorem dX1_meets_6 : decode cX1_meets 6 = .ok (.i2l, 1) := by decide +kernel
theorem dX1_meets_7 : decode cX1_meets 7 = .ok (.aload_n 0, 1) := by decide +kernel
theorem dX1_meets_8 : decode cX1_meets 8 = .ok (.getfield 41, 3) := by decide +kernel
theorem dX1_meets_11 : decode cX1_meets 11 = .ok (.lmul, 1) := by decide +kernel
theorem dX1_meets_12 : decode cX1_meets 12 = .ok (.aload_n 0, 1) := by decide +kernel
theorem dX1_meets_13 : decode cX1_meets 13 = .ok (.getfield 20, 3) := by decide +kernel
theorem dX1_meets_16 : decode cX1_meets 16 = .ok (.iload_n 1, 1) := by decide +kernel
theorem dX1_meets_17 : decode cX1_meets 17 = .ok (.iaload, 1) := by decide +kernel
theorem dX1_meets_18 : decode cX1_meets 18 = .ok (.i2l, 1) := by decide +kernel
theorem dX1_meets_19 : decode cX1_meets 19 = .ok (.aload_n 0, 1) := by decide +kernel
theorem dX1_meets_20 : decode cX1_meets 20 = .ok (.getfield 44, 3) := by decide +kernel
theorem dX1_meets_23 : decode cX1_meets 23 = .ok (.lmul, 1) := by decide +kernel
theorem dX1_meets_24 : decode cX1_meets 24 = .ok (.ladd, 1) := by decide +kernel
theorem dX1_meets_25 : decode cX1_meets 25 = .ok (.aload_n 0, 1) := by decide +kernel
theorem dX1_meets_26 : decode cX1_meets 26 = .ok (.getfield 23, 3) := by decide +kernel
theorem dX1_meets_29 : decode cX1_meets 29 = .ok (.iload_n 1, 1) := by decide +kernel
theorem dX1_meets_30 : decode cX1_meets 30 = .ok (.iaload, 1) := by decide +kernel
theorem dX1_meets_31 : decode cX1_meets 31 = .ok (.i2l, 1) := by decide +kernel
theorem dX1_meets_32 : decode cX1_meets 32 = .ok (.aload_n 0, 1) := by decide +kernel
theorem dX1_meets_33 : decode cX1_meets 33 = .ok (.getfield 37, 3) := by decide +kernel
theorem dX1_meets_36 : decode cX1_meets 36 = .ok (.lmul, 1) := by decide +kernel
theorem dX1_meets_37 : decode cX1_meets 37 = .ok (.lcmp, 1) := by decide +kernel
theorem dX1_meets_38 : decode cX1_meets 38 = .ok (.ifCond .gt 7, 3) := by decide +kernel
theorem dX1_meets_41 : decode cX1_meets 41 = .ok (.iconst 1, 1) := by decide +kernel
theorem dX1_meets_42 : decode cX1_meets 42 = .ok (.goto 4, 3) := by decide +kernel
theorem dX1_meets_45 : decode cX1_meets 45 = .ok (.iconst 0, 1) := by decide +kernel
theorem dX1_meets_46 : decode cX1_meets 46 = .ok (.ireturn, 1) := by decide +kernel
abbrev cX1_best : ByteArray := prog_3_method_14_code
def yX1_best : MethodName := ⟨RX1, "best", "(II)I"⟩
theorem dX1_best_0 : decode cX1_best 0 = .ok (.iload_n 1, 1) := by decide +kernel
theorem dX1_best_1 : decode cX1_best 1 = .ok (.bipush (-9), 2) := by decide +kernel
theorem dX1_best_3 : decode cX1_best 3 = .ok (.if_icmp .lt 21, 3) := by decide +kernel
theorem dX1_best_6 : decode cX1_best 6 = .ok (.iload_n 1, 1) := by decide +kernel
theorem dX1_best_7 : decode cX1_best 7 = .ok (.bipush 9, 2) := by decide +kernel
theorem dX1_best_9 : decode cX1_best 9 = .ok (.if_icmp .gt 15, 3) := by decide +kernel
theorem dX1_best_12 : decode cX1_best 12 = .ok (.iload_n 2, 1) := by decide +kernel
theorem dX1_best_13 : decode cX1_best 13 = .ok (.bipush (-9), 2) := by decide +kernel
theorem dX1_best_15 : decode cX1_best 15 = .ok (.if_icmp .lt 9, 3) := by decide +kernel
theorem dX1_best_18 : decode cX1_best 18 = .ok (.iload_n 2, 1) := by decide +kernel
theorem dX1_best_19 : decode cX1_best 19 = .ok (.bipush 9, 2) := by decide +kernel
theorem dX1_best_21 : decode cX1_best 21 = .ok (.if_icmp .le 5, 3) := by decide +kernel
theorem dX1_best_24 : decode cX1_best 24 = .ok (.iconst (-1), 1) := by decide +kernel
theorem dX1_best_25 : decode cX1_best 25 = .ok (.ireturn, 1) := by decide +kernel
theorem dX1_best_26 : decode cX1_best 26 = .ok (.aload_n 0, 1) := by decide +kernel
theorem dX1_best_27 : decode cX1_best 27 = .ok (.aload_n 0, 1) := by decide +kernel
theorem dX1_best_28 : decode cX1_best 28 = .ok (.iload_n 1, 1) := by decide +kernel
theorem dX1_best_29 : decode cX1_best 29 = .ok (.iload_n 2, 1) := by decide +kernel
theorem dX1_best_30 : decode cX1_best 30 = .ok (.invokevirtual 73, 3) := by decide +kernel
theorem dX1_best_33 : decode cX1_best 33 = .ok (.putfield 76, 3) := by decide +kernel
theorem dX1_best_36 : decode cX1_best 36 = .ok (.aload_n 0, 1) := by decide +kernel
theorem dX1_best_37 : decode cX1_best 37 = .ok (.iload_n 1, 1) := by decide +kernel
theorem dX1_best_38 : decode cX1_best 38 = .ok (.putfield 80, 3) := by decide +kernel
theorem dX1_best_41 : decode cX1_best 41 = .ok (.aload_n 0, 1) := by decide +kernel
theorem dX1_best_42 : decode cX1_best 42 = .ok (.iload_n 2, 1) := by decide +kernel
theorem dX1_best_43 : decode cX1_best 43 = .ok (.putfield 83, 3) := by decide +kernel
theorem dX1_best_46 : decode cX1_best 46 = .ok (.aload_n 0, 1) := by decide +kernel
theorem dX1_best_47 : decode cX1_best 47 = .ok (.getfield 76, 3) := by decide +kernel
theorem dX1_best_50 : decode cX1_best 50 = .ok (.ifCond .eq 7, 3) := by decide +kernel
theorem dX1_best_53 : decode cX1_best 53 = .ok (.iconst 1, 1) := by decide +kernel
theorem dX1_best_54 : decode cX1_best 54 = .ok (.goto 4, 3) := by decide +kernel
theorem dX1_best_57 : decode cX1_best 57 = .ok (.iconst 0, 1) := by decide +kernel
theorem dX1_best_58 : decode cX1_best 58 = .ok (.ireturn, 1) := by decide +kernel
abbrev cX1_search : ByteArray := prog_3_method_12_code
def yX1_search : MethodName := ⟨RX1, "search", "(II)Z"⟩
theorem dX1_search_0 : decode cX1_search 0 = .ok (.iconst 0, 1) := by decide +kernel
theorem dX1_search_1 : decode cX1_search 1 = .ok (.istore_n 3, 1) := by decide +kernel
theorem dX1_search_2 : decode cX1_search 2 = .ok (.iconst 0, 1) := by decide +kernel
theorem dX1_search_3 : decode cX1_search 3 = .ok (.istore 4, 2) := by decide +kernel
theorem dX1_search_5 : decode cX1_search 5 = .ok (.iload 4, 2) := by decide +kernel
theorem dX1_search_7 : decode cX1_search 7 = .ok (.bipush 14, 2) := by decide +kernel
theorem dX1_search_9 : decode cX1_search 9 = .ok (.if_icmp .ge 103, 3) := by decide +kernel
theorem dX1_search_12 : decode cX1_search 12 = .ok (.iconst 0, 1) := by decide +kernel
theorem dX1_search_13 : decode cX1_search 13 = .ok (.istore 5, 2) := by decide +kernel
theorem dX1_search_15 : decode cX1_search 15 = .ok (.iload 5, 2) := by decide +kernel
theorem dX1_search_17 : decode cX1_search 17 = .ok (.iload 4, 2) := by decide +kernel
theorem dX1_search_19 : decode cX1_search 19 = .ok (.if_icmp .ge 87, 3) := by decide +kernel
theorem dX1_search_22 : decode cX1_search 22 = .ok (.aload_n 0, 1) := by decide +kernel
theorem dX1_search_23 : decode cX1_search 23 = .ok (.iload 4, 2) := by decide +kernel
theorem dX1_search_25 : decode cX1_search 25 = .ok (.iconst (-1), 1) := by decide +kernel
theorem dX1_search_26 : decode cX1_search 26 = .ok (.invokevirtual 47, 3) := by decide +kernel
theorem dX1_search_29 : decode cX1_search 29 = .ok (.ifCond .eq 71, 3) := by decide +kernel
theorem dX1_search_32 : decode cX1_search 32 = .ok (.aload_n 0, 1) := by decide +kernel
theorem dX1_search_33 : decode cX1_search 33 = .ok (.iload 5, 2) := by decide +kernel
theorem dX1_search_35 : decode cX1_search 35 = .ok (.iconst (-1), 1) := by decide +kernel
theorem dX1_search_36 : decode cX1_search 36 = .ok (.invokevirtual 47, 3) := by decide +kernel
theorem dX1_search_39 : decode cX1_search 39 = .ok (.ifCond .eq 61, 3) := by decide +kernel
theorem dX1_search_42 : decode cX1_search 42 = .ok (.aload_n 0, 1) := by decide +kernel
theorem dX1_search_43 : decode cX1_search 43 = .ok (.iload 4, 2) := by decide +kernel
theorem dX1_search_45 : decode cX1_search 45 = .ok (.iload 5, 2) := by decide +kernel
theorem dX1_search_47 : decode cX1_search 47 = .ok (.invokevirtual 64, 3) := by decide +kernel
theorem dX1_search_50 : decode cX1_search 50 = .ok (.ifCond .eq 50, 3) := by decide +kernel
theorem dX1_search_53 : decode cX1_search 53 = .ok (.aload_n 0, 1) := by decide +kernel
theorem dX1_search_54 : decode cX1_search 54 = .ok (.iconst (-1), 1) := by decide +kernel
theorem dX1_search_55 : decode cX1_search 55 = .ok (.invokevirtual 67, 3) := by decide +kernel
theorem dX1_search_58 : decode cX1_search 58 = .ok (.ifCond .eq 42, 3) := by decide +kernel
theorem dX1_search_61 : decode cX1_search 61 = .ok (.iload_n 3, 1) := by decide +kernel
theorem dX1_search_62 : decode cX1_search 62 = .ok (.ifCond .eq 12, 3) := by decide +kernel
theorem dX1_search_65 : decode cX1_search 65 = .ok (.aload_n 0, 1) := by decide +kernel
theorem dX1_search_66 : decode cX1_search 66 = .ok (.iload_n 1, 1) := by decide +kernel
theorem dX1_search_67 : decode cX1_search 67 = .ok (.iload_n 2, 1) := by decide +kernel
theorem dX1_search_68 : decode cX1_search 68 = .ok (.invokevirtual 70, 3) := by decide +kernel
theorem dX1_search_71 : decode cX1_search 71 = .ok (.ifCond .eq 29, 3) := by decide +kernel
theorem dX1_search_74 : decode cX1_search 74 = .ok (.iconst 1, 1) := by decide +kernel
theorem dX1_search_75 : decode cX1_search 75 = .ok (.istore_n 3, 1) := by decide +kernel
theorem dX1_search_76 : decode cX1_search 76 = .ok (.aload_n 0, 1) := by decide +kernel
theorem dX1_search_77 : decode cX1_search 77 = .ok (.aload_n 0, 1) := by decide +kernel
theorem dX1_search_78 : decode cX1_search 78 = .ok (.getfield 41, 3) := by decide +kernel
theorem dX1_search_81 : decode cX1_search 81 = .ok (.putfield 58, 3) := by decide +kernel
theorem dX1_search_84 : decode cX1_search 84 = .ok (.aload_n 0, 1) := by decide +kernel
theorem dX1_search_85 : decode cX1_search 85 = .ok (.aload_n 0, 1) := by decide +kernel
theorem dX1_search_86 : decode cX1_search 86 = .ok (.getfield 44, 3) := by decide +kernel
theorem dX1_search_89 : decode cX1_search 89 = .ok (.putfield 61, 3) := by decide +kernel
theorem dX1_search_92 : decode cX1_search 92 = .ok (.aload_n 0, 1) := by decide +kernel
theorem dX1_search_93 : decode cX1_search 93 = .ok (.aload_n 0, 1) := by decide +kernel
theorem dX1_search_94 : decode cX1_search 94 = .ok (.getfield 37, 3) := by decide +kernel
theorem dX1_search_97 : decode cX1_search 97 = .ok (.putfield 55, 3) := by decide +kernel
theorem dX1_search_100 : decode cX1_search 100 = .ok (.iinc 5 1, 3) := by decide +kernel
theorem dX1_search_103 : decode cX1_search 103 = .ok (.goto (-88), 3) := by decide +kernel
theorem dX1_search_106 : decode cX1_search 106 = .ok (.iinc 4 1, 3) := by decide +kernel
theorem dX1_search_109 : decode cX1_search 109 = .ok (.goto (-104), 3) := by decide +kernel
theorem dX1_search_112 : decode cX1_search 112 = .ok (.iload_n 3, 1) := by decide +kernel
theorem dX1_search_113 : decode cX1_search 113 = .ok (.ireturn, 1) := by decide +kernel
abbrev cX1_better : ByteArray := prog_3_method_11_code
def yX1_better : MethodName := ⟨RX1, "better", "(II)Z"⟩
theorem dX1_better_0 : decode cX1_better 0 = .ok (.iload_n 1, 1) := by decide +kernel
theorem dX1_better_1 : decode cX1_better 1 = .ok (.i2l, 1) := by decide +kernel
theorem dX1_better_2 : decode cX1_better 2 = .ok (.aload_n 0, 1) := by decide +kernel
theorem dX1_better_3 : decode cX1_better 3 = .ok (.getfield 41, 3) := by decide +kernel
theorem dX1_better_6 : decode cX1_better 6 = .ok (.lmul, 1) := by decide +kernel
theorem dX1_better_7 : decode cX1_better 7 = .ok (.iload_n 2, 1) := by decide +kernel
theorem dX1_better_8 : decode cX1_better 8 = .ok (.i2l, 1) := by decide +kernel
theorem dX1_better_9 : decode cX1_better 9 = .ok (.aload_n 0, 1) := by decide +kernel
theorem dX1_better_10 : decode cX1_better 10 = .ok (.getfield 44, 3) := by decide +kernel
theorem dX1_better_13 : decode cX1_better 13 = .ok (.lmul, 1) := by decide +kernel
theorem dX1_better_14 : decode cX1_better 14 = .ok (.ladd, 1) := by decide +kernel
theorem dX1_better_15 : decode cX1_better 15 = .ok (.aload_n 0, 1) := by decide +kernel
theorem dX1_better_16 : decode cX1_better 16 = .ok (.getfield 55, 3) := by decide +kernel
theorem dX1_better_19 : decode cX1_better 19 = .ok (.lmul, 1) := by decide +kernel
theorem dX1_better_20 : decode cX1_better 20 = .ok (.lstore_n 3, 1) := by decide +kernel
theorem dX1_better_21 : decode cX1_better 21 = .ok (.iload_n 1, 1) := by decide +kernel
theorem dX1_better_22 : decode cX1_better 22 = .ok (.i2l, 1) := by decide +kernel
theorem dX1_better_23 : decode cX1_better 23 = .ok (.aload_n 0, 1) := by decide +kernel
theorem dX1_better_24 : decode cX1_better 24 = .ok (.getfield 58, 3) := by decide +kernel
theorem dX1_better_27 : decode cX1_better 27 = .ok (.lmul, 1) := by decide +kernel
theorem dX1_better_28 : decode cX1_better 28 = .ok (.iload_n 2, 1) := by decide +kernel
theorem dX1_better_29 : decode cX1_better 29 = .ok (.i2l, 1) := by decide +kernel
theorem dX1_better_30 : decode cX1_better 30 = .ok (.aload_n 0, 1) := by decide +kernel
theorem dX1_better_31 : decode cX1_better 31 = .ok (.getfield 61, 3) := by decide +kernel
theorem dX1_better_34 : decode cX1_better 34 = .ok (.lmul, 1) := by decide +kernel
theorem dX1_better_35 : decode cX1_better 35 = .ok (.ladd, 1) := by decide +kernel
theorem dX1_better_36 : decode cX1_better 36 = .ok (.aload_n 0, 1) := by decide +kernel
theorem dX1_better_37 : decode cX1_better 37 = .ok (.getfield 37, 3) := by decide +kernel
theorem dX1_better_40 : decode cX1_better 40 = .ok (.lmul, 1) := by decide +kernel
theorem dX1_better_41 : decode cX1_better 41 = .ok (.lstore 5, 2) := by decide +kernel
theorem dX1_better_43 : decode cX1_better 43 = .ok (.lload_n 3, 1) := by decide +kernel
theorem dX1_better_44 : decode cX1_better 44 = .ok (.lload 5, 2) := by decide +kernel
theorem dX1_better_46 : decode cX1_better 46 = .ok (.lcmp, 1) := by decide +kernel
theorem dX1_better_47 : decode cX1_better 47 = .ok (.ifCond .eq 16, 3) := by decide +kernel
theorem dX1_better_50 : decode cX1_better 50 = .ok (.lload_n 3, 1) := by decide +kernel
theorem dX1_better_51 : decode cX1_better 51 = .ok (.lload 5, 2) := by decide +kernel
theorem dX1_better_53 : decode cX1_better 53 = .ok (.lcmp, 1) := by decide +kernel
theorem dX1_better_54 : decode cX1_better 54 = .ok (.ifCond .le 7, 3) := by decide +kernel
theorem dX1_better_57 : decode cX1_better 57 = .ok (.iconst 1, 1) := by decide +kernel
theorem dX1_better_58 : decode cX1_better 58 = .ok (.goto 4, 3) := by decide +kernel
theorem dX1_better_61 : decode cX1_better 61 = .ok (.iconst 0, 1) := by decide +kernel
theorem dX1_better_62 : decode cX1_better 62 = .ok (.ireturn, 1) := by decide +kernel
theorem dX1_better_63 : decode cX1_better 63 = .ok (.aload_n 0, 1) := by decide +kernel
theorem dX1_better_64 : decode cX1_better 64 = .ok (.getfield 41, 3) := by decide +kernel
theorem dX1_better_67 : decode cX1_better 67 = .ok (.aload_n 0, 1) := by decide +kernel
theorem dX1_better_68 : decode cX1_better 68 = .ok (.getfield 55, 3) := by decide +kernel
theorem dX1_better_71 : decode cX1_better 71 = .ok (.lmul, 1) := by decide +kernel
theorem dX1_better_72 : decode cX1_better 72 = .ok (.aload_n 0, 1) := by decide +kernel
theorem dX1_better_73 : decode cX1_better 73 = .ok (.getfield 58, 3) := by decide +kernel
theorem dX1_better_76 : decode cX1_better 76 = .ok (.aload_n 0, 1) := by decide +kernel
theorem dX1_better_77 : decode cX1_better 77 = .ok (.getfield 37, 3) := by decide +kernel
theorem dX1_better_80 : decode cX1_better 80 = .ok (.lmul, 1) := by decide +kernel
theorem dX1_better_81 : decode cX1_better 81 = .ok (.lcmp, 1) := by decide +kernel
theorem dX1_better_82 : decode cX1_better 82 = .ok (.ifCond .eq 31, 3) := by decide +kernel
theorem dX1_better_85 : decode cX1_better 85 = .ok (.aload_n 0, 1) := by decide +kernel
theorem dX1_better_86 : decode cX1_better 86 = .ok (.getfield 41, 3) := by decide +kernel
theorem dX1_better_89 : decode cX1_better 89 = .ok (.aload_n 0, 1) := by decide +kernel
theorem dX1_better_90 : decode cX1_better 90 = .ok (.getfield 55, 3) := by decide +kernel
theorem dX1_better_93 : decode cX1_better 93 = .ok (.lmul, 1) := by decide +kernel
theorem dX1_better_94 : decode cX1_better 94 = .ok (.aload_n 0, 1) := by decide +kernel
theorem dX1_better_95 : decode cX1_better 95 = .ok (.getfield 58, 3) := by decide +kernel
theorem dX1_better_98 : decode cX1_better 98 = .ok (.aload_n 0, 1) := by decide +kernel
theorem dX1_better_99 : decode cX1_better 99 = .ok (.getfield 37, 3) := by decide +kernel
theorem dX1_better_102 : decode cX1_better 102 = .ok (.lmul, 1) := by decide +kernel
theorem dX1_better_103 : decode cX1_better 103 = .ok (.lcmp, 1) := by decide +kernel
theorem dX1_better_104 : decode cX1_better 104 = .ok (.ifCond .ge 7, 3) := by decide +kernel
theorem dX1_better_107 : decode cX1_better 107 = .ok (.iconst 1, 1) := by decide +kernel
theorem dX1_better_108 : decode cX1_better 108 = .ok (.goto 4, 3) := by decide +kernel
theorem dX1_better_111 : decode cX1_better 111 = .ok (.iconst 0, 1) := by decide +kernel
theorem dX1_better_112 : decode cX1_better 112 = .ok (.ireturn, 1) := by decide +kernel
theorem dX1_better_113 : decode cX1_better 113 = .ok (.aload_n 0, 1) := by decide +kernel
theorem dX1_better_114 : decode cX1_better 114 = .ok (.getfield 44, 3) := by decide +kernel
theorem dX1_better_117 : decode cX1_better 117 = .ok (.aload_n 0, 1) := by decide +kernel
theorem dX1_better_118 : decode cX1_better 118 = .ok (.getfield 55, 3) := by decide +kernel
theorem dX1_better_121 : decode cX1_better 121 = .ok (.lmul, 1) := by decide +kernel
theorem dX1_better_122 : decode cX1_better 122 = .ok (.aload_n 0, 1) := by decide +kernel
theorem dX1_better_123 : decode cX1_better 123 = .ok (.getfield 61, 3) := by decide +kernel
theorem dX1_better_126 : decode cX1_better 126 = .ok (.aload_n 0, 1) := by decide +kernel
theorem dX1_better_127 : decode cX1_better 127 = .ok (.getfield 37, 3) := by decide +kernel
theorem dX1_better_130 : decode cX1_better 130 = .ok (.lmul, 1) := by decide +kernel
theorem dX1_better_131 : decode cX1_better 131 = .ok (.lcmp, 1) := by decide +kernel
theorem dX1_better_132 : decode cX1_better 132 = .ok (.ifCond .ge 7, 3) := by decide +kernel
theorem dX1_better_135 : decode cX1_better 135 = .ok (.iconst 1, 1) := by decide +kernel
theorem dX1_better_136 : decode cX1_better 136 = .ok (.goto 4, 3) := by decide +kernel
theorem dX1_better_139 : decode cX1_better 139 = .ok (.iconst 0, 1) := by decide +kernel
theorem dX1_better_140 : decode cX1_better 140 = .ok (.ireturn, 1) := by decide +kernel
abbrev cX1_numerator : ByteArray := prog_3_method_17_code
def yX1_numerator : MethodName := ⟨RX1, "numerator", "(I)I"⟩
theorem dX1_numerator_0 : decode cX1_numerator 0 = .ok (.aload_n 0, 1) := by decide +kernel
theorem dX1_numerator_1 : decode cX1_numerator 1 = .ok (.getfield 76, 3) := by decide +kernel
theorem dX1_numerator_4 : decode cX1_numerator 4 = .ok (.ifCond .eq 12, 3) := by decide +kernel
theorem dX1_numerator_7 : decode cX1_numerator 7 = .ok (.iload_n 1, 1) := by decide +kernel
theorem dX1_numerator_8 : decode cX1_numerator 8 = .ok (.ifCond .lt 8, 3) := by decide +kernel
theorem dX1_numerator_11 : decode cX1_numerator 11 = .ok (.iload_n 1, 1) := by decide +kernel
theorem dX1_numerator_12 : decode cX1_numerator 12 = .ok (.iconst 2, 1) := by decide +kernel
theorem dX1_numerator_13 : decode cX1_numerator 13 = .ok (.if_icmp .le 5, 3) := by decide +kernel
theorem dX1_numerator_16 : decode cX1_numerator 16 = .ok (.iconst 0, 1) := by decide +kernel
theorem dX1_numerator_17 : decode cX1_numerator 17 = .ok (.ireturn, 1) := by decide +kernel
theorem dX1_numerator_18 : decode cX1_numerator 18 = .ok (.aload_n 0, 1) := by decide +kernel
theorem dX1_numerator_19 : decode cX1_numerator 19 = .ok (.iload_n 1, 1) := by decide +kernel
theorem dX1_numerator_20 : decode cX1_numerator 20 = .ok (.invokevirtual 86, 3) := by decide +kernel
theorem dX1_numerator_23 : decode cX1_numerator 23 = .ok (.lstore_n 2, 1) := by decide +kernel
theorem dX1_numerator_24 : decode cX1_numerator 24 = .ok (.lload_n 2, 1) := by decide +kernel
theorem dX1_numerator_25 : decode cX1_numerator 25 = .ok (.aload_n 0, 1) := by decide +kernel
theorem dX1_numerator_26 : decode cX1_numerator 26 = .ok (.getfield 55, 3) := by decide +kernel
theorem dX1_numerator_29 : decode cX1_numerator 29 = .ok (.invokestatic 90, 3) := by decide +kernel
theorem dX1_numerator_32 : decode cX1_numerator 32 = .ok (.lstore 4, 2) := by decide +kernel
theorem dX1_numerator_34 : decode cX1_numerator 34 = .ok (.lload 4, 2) := by decide +kernel
theorem dX1_numerator_36 : decode cX1_numerator 36 = .ok (.lconst 0, 1) := by decide +kernel
theorem dX1_numerator_37 : decode cX1_numerator 37 = .ok (.lcmp, 1) := by decide +kernel
theorem dX1_numerator_38 : decode cX1_numerator 38 = .ok (.ifCond .ne 7, 3) := by decide +kernel
theorem dX1_numerator_41 : decode cX1_numerator 41 = .ok (.iconst 0, 1) := by decide +kernel
theorem dX1_numerator_42 : decode cX1_numerator 42 = .ok (.goto 8, 3) := by decide +kernel
theorem dX1_numerator_45 : decode cX1_numerator 45 = .ok (.lload_n 2, 1) := by decide +kernel
theorem dX1_numerator_46 : decode cX1_numerator 46 = .ok (.lload 4, 2) := by decide +kernel
theorem dX1_numerator_48 : decode cX1_numerator 48 = .ok (.ldiv, 1) := by decide +kernel
theorem dX1_numerator_49 : decode cX1_numerator 49 = .ok (.l2i, 1) := by decide +kernel
theorem dX1_numerator_50 : decode cX1_numerator 50 = .ok (.ireturn, 1) := by decide +kernel
abbrev cX1_top : ByteArray := prog_3_method_16_code
def yX1_top : MethodName := ⟨RX1, "top", "(I)J"⟩
theorem dX1_top_0 : decode cX1_top 0 = .ok (.iload_n 1, 1) := by decide +kernel
theorem dX1_top_1 : decode cX1_top 1 = .ok (.iconst 1, 1) := by decide +kernel
theorem dX1_top_2 : decode cX1_top 2 = .ok (.if_icmp .ne 10, 3) := by decide +kernel
theorem dX1_top_5 : decode cX1_top 5 = .ok (.aload_n 0, 1) := by decide +kernel
theorem dX1_top_6 : decode cX1_top 6 = .ok (.getfield 58, 3) := by decide +kernel
theorem dX1_top_9 : decode cX1_top 9 = .ok (.goto 36, 3) := by decide +kernel
theorem dX1_top_12 : decode cX1_top 12 = .ok (.iload_n 1, 1) := by decide +kernel
theorem dX1_top_13 : decode cX1_top 13 = .ok (.iconst 2, 1) := by decide +kernel
theorem dX1_top_14 : decode cX1_top 14 = .ok (.if_icmp .ne 10, 3) := by decide +kernel
theorem dX1_top_17 : decode cX1_top 17 = .ok (.aload_n 0, 1) := by decide +kernel
theorem dX1_top_18 : decode cX1_top 18 = .ok (.getfield 61, 3) := by decide +kernel
theorem dX1_top_21 : decode cX1_top 21 = .ok (.goto 24, 3) := by decide +kernel
theorem dX1_top_24 : decode cX1_top 24 = .ok (.aload_n 0, 1) := by decide +kernel
theorem dX1_top_25 : decode cX1_top 25 = .ok (.getfield 80, 3) := by decide +kernel
theorem dX1_top_28 : decode cX1_top 28 = .ok (.i2l, 1) := by decide +kernel
theorem dX1_top_29 : decode cX1_top 29 = .ok (.aload_n 0, 1) := by decide +kernel
theorem dX1_top_30 : decode cX1_top 30 = .ok (.getfield 58, 3) := by decide +kernel
theorem dX1_top_33 : decode cX1_top 33 = .ok (.lmul, 1) := by decide +kernel
theorem dX1_top_34 : decode cX1_top 34 = .ok (.aload_n 0, 1) := by decide +kernel
theorem dX1_top_35 : decode cX1_top 35 = .ok (.getfield 83, 3) := by decide +kernel
theorem dX1_top_38 : decode cX1_top 38 = .ok (.i2l, 1) := by decide +kernel
theorem dX1_top_39 : decode cX1_top 39 = .ok (.aload_n 0, 1) := by decide +kernel
theorem dX1_top_40 : decode cX1_top 40 = .ok (.getfield 61, 3) := by decide +kernel
theorem dX1_top_43 : decode cX1_top 43 = .ok (.lmul, 1) := by decide +kernel
theorem dX1_top_44 : decode cX1_top 44 = .ok (.ladd, 1) := by decide +kernel
theorem dX1_top_45 : decode cX1_top 45 = .ok (.lreturn, 1) := by decide +kernel
abbrev cX1_divisor : ByteArray := prog_3_method_15_code
def yX1_divisor : MethodName := ⟨RX1, "divisor", "(JJ)J"⟩
theorem dX1_divisor_0 : decode cX1_divisor 0 = .ok (.lload_n 0, 1) := by decide +kernel
theorem dX1_divisor_1 : decode cX1_divisor 1 = .ok (.lconst 0, 1) := by decide +kernel
theorem dX1_divisor_2 : decode cX1_divisor 2 = .ok (.lcmp, 1) := by decide +kernel
theorem dX1_divisor_3 : decode cX1_divisor 3 = .ok (.ifCond .ge 8, 3) := by decide +kernel
theorem dX1_divisor_6 : decode cX1_divisor 6 = .ok (.lload_n 0, 1) := by decide +kernel
theorem dX1_divisor_7 : decode cX1_divisor 7 = .ok (.lneg, 1) := by decide +kernel
theorem dX1_divisor_8 : decode cX1_divisor 8 = .ok (.goto 4, 3) := by decide +kernel
theorem dX1_divisor_11 : decode cX1_divisor 11 = .ok (.lload_n 0, 1) := by decide +kernel
theorem dX1_divisor_12 : decode cX1_divisor 12 = .ok (.lstore 4, 2) := by decide +kernel
theorem dX1_divisor_14 : decode cX1_divisor 14 = .ok (.lload_n 2, 1) := by decide +kernel
theorem dX1_divisor_15 : decode cX1_divisor 15 = .ok (.lstore 6, 2) := by decide +kernel
theorem dX1_divisor_17 : decode cX1_divisor 17 = .ok (.iconst 0, 1) := by decide +kernel
theorem dX1_divisor_18 : decode cX1_divisor 18 = .ok (.istore 8, 2) := by decide +kernel
theorem dX1_divisor_20 : decode cX1_divisor 20 = .ok (.iload 8, 2) := by decide +kernel
theorem dX1_divisor_22 : decode cX1_divisor 22 = .ok (.bipush 100, 2) := by decide +kernel
theorem dX1_divisor_24 : decode cX1_divisor 24 = .ok (.if_icmp .ge 31, 3) := by decide +kernel
theorem dX1_divisor_27 : decode cX1_divisor 27 = .ok (.lload 6, 2) := by decide +kernel
theorem dX1_divisor_29 : decode cX1_divisor 29 = .ok (.lconst 0, 1) := by decide +kernel
theorem dX1_divisor_30 : decode cX1_divisor 30 = .ok (.lcmp, 1) := by decide +kernel
theorem dX1_divisor_31 : decode cX1_divisor 31 = .ok (.ifCond .le 24, 3) := by decide +kernel
theorem dX1_divisor_34 : decode cX1_divisor 34 = .ok (.lload 4, 2) := by decide +kernel
theorem dX1_divisor_36 : decode cX1_divisor 36 = .ok (.lload 6, 2) := by decide +kernel
theorem dX1_divisor_38 : decode cX1_divisor 38 = .ok (.lrem, 1) := by decide +kernel
theorem dX1_divisor_39 : decode cX1_divisor 39 = .ok (.lstore 9, 2) := by decide +kernel
theorem dX1_divisor_41 : decode cX1_divisor 41 = .ok (.lload 6, 2) := by decide +kernel
theorem dX1_divisor_43 : decode cX1_divisor 43 = .ok (.lstore 4, 2) := by decide +kernel
theorem dX1_divisor_45 : decode cX1_divisor 45 = .ok (.lload 9, 2) := by decide +kernel
theorem dX1_divisor_47 : decode cX1_divisor 47 = .ok (.lstore 6, 2) := by decide +kernel
theorem dX1_divisor_49 : decode cX1_divisor 49 = .ok (.iinc 8 1, 3) := by decide +kernel
theorem dX1_divisor_52 : decode cX1_divisor 52 = .ok (.goto (-32), 3) := by decide +kernel
theorem dX1_divisor_55 : decode cX1_divisor 55 = .ok (.lload 4, 2) := by decide +kernel
theorem dX1_divisor_57 : decode cX1_divisor 57 = .ok (.lreturn, 1) := by decide +kernel
abbrev cX1_denominator : ByteArray := prog_3_method_18_code
def yX1_denominator : MethodName := ⟨RX1, "denominator", "(I)I"⟩
theorem dX1_denominator_0 : decode cX1_denominator 0 = .ok (.aload_n 0, 1) := by decide +kernel
theorem dX1_denominator_1 : decode cX1_denominator 1 = .ok (.getfield 76, 3) := by decide +kernel
theorem dX1_denominator_4 : decode cX1_denominator 4 = .ok (.ifCond .eq 12, 3) := by decide +kernel
theorem dX1_denominator_7 : decode cX1_denominator 7 = .ok (.iload_n 1, 1) := by decide +kernel
theorem dX1_denominator_8 : decode cX1_denominator 8 = .ok (.ifCond .lt 8, 3) := by decide +kernel
theorem dX1_denominator_11 : decode cX1_denominator 11 = .ok (.iload_n 1, 1) := by decide +kernel
theorem dX1_denominator_12 : decode cX1_denominator 12 = .ok (.iconst 2, 1) := by decide +kernel
theorem dX1_denominator_13 : decode cX1_denominator 13 = .ok (.if_icmp .le 5, 3) := by decide +kernel
theorem dX1_denominator_16 : decode cX1_denominator 16 = .ok (.iconst 0, 1) := by decide +kernel
theorem dX1_denominator_17 : decode cX1_denominator 17 = .ok (.ireturn, 1) := by decide +kernel
theorem dX1_denominator_18 : decode cX1_denominator 18 = .ok (.aload_n 0, 1) := by decide +kernel
theorem dX1_denominator_19 : decode cX1_denominator 19 = .ok (.iload_n 1, 1) := by decide +kernel
theorem dX1_denominator_20 : decode cX1_denominator 20 = .ok (.invokevirtual 86, 3) := by decide +kernel
theorem dX1_denominator_23 : decode cX1_denominator 23 = .ok (.lstore_n 2, 1) := by decide +kernel
theorem dX1_denominator_24 : decode cX1_denominator 24 = .ok (.lload_n 2, 1) := by decide +kernel
theorem dX1_denominator_25 : decode cX1_denominator 25 = .ok (.aload_n 0, 1) := by decide +kernel
theorem dX1_denominator_26 : decode cX1_denominator 26 = .ok (.getfield 55, 3) := by decide +kernel
theorem dX1_denominator_29 : decode cX1_denominator 29 = .ok (.invokestatic 90, 3) := by decide +kernel
theorem dX1_denominator_32 : decode cX1_denominator 32 = .ok (.lstore 4, 2) := by decide +kernel
theorem dX1_denominator_34 : decode cX1_denominator 34 = .ok (.lload 4, 2) := by decide +kernel
theorem dX1_denominator_36 : decode cX1_denominator 36 = .ok (.lconst 0, 1) := by decide +kernel
theorem dX1_denominator_37 : decode cX1_denominator 37 = .ok (.lcmp, 1) := by decide +kernel
theorem dX1_denominator_38 : decode cX1_denominator 38 = .ok (.ifCond .ne 7, 3) := by decide +kernel
theorem dX1_denominator_41 : decode cX1_denominator 41 = .ok (.iconst 0, 1) := by decide +kernel
theorem dX1_denominator_42 : decode cX1_denominator 42 = .ok (.goto 11, 3) := by decide +kernel
theorem dX1_denominator_45 : decode cX1_denominator 45 = .ok (.aload_n 0, 1) := by decide +kernel
theorem dX1_denominator_46 : decode cX1_denominator 46 = .ok (.getfield 55, 3) := by decide +kernel
theorem dX1_denominator_49 : decode cX1_denominator 49 = .ok (.lload 4, 2) := by decide +kernel
theorem dX1_denominator_51 : decode cX1_denominator 51 = .ok (.ldiv, 1) := by decide +kernel
theorem dX1_denominator_52 : decode cX1_denominator 52 = .ok (.l2i, 1) := by decide +kernel
theorem dX1_denominator_53 : decode cX1_denominator 53 = .ok (.ireturn, 1) := by decide +kernel
abbrev cX1_test : ByteArray := prog_3_method_19_code
def yX1_test : MethodName := ⟨RX1, "test", "(III)I"⟩
theorem dX1_test_0 : decode cX1_test 0 = .ok (.aload_n 0, 1) := by decide +kernel
theorem dX1_test_1 : decode cX1_test 1 = .ok (.getfield 76, 3) := by decide +kernel
theorem dX1_test_4 : decode cX1_test 4 = .ok (.ifCond .eq 12, 3) := by decide +kernel
theorem dX1_test_7 : decode cX1_test 7 = .ok (.iload_n 1, 1) := by decide +kernel
theorem dX1_test_8 : decode cX1_test 8 = .ok (.iload_n 2, 1) := by decide +kernel
theorem dX1_test_9 : decode cX1_test 9 = .ok (.iload_n 3, 1) := by decide +kernel
theorem dX1_test_10 : decode cX1_test 10 = .ok (.invokestatic 30, 3) := by decide +kernel
theorem dX1_test_13 : decode cX1_test 13 = .ok (.ifCond .eq 5, 3) := by decide +kernel
theorem dX1_test_16 : decode cX1_test 16 = .ok (.iconst (-1), 1) := by decide +kernel
theorem dX1_test_17 : decode cX1_test 17 = .ok (.ireturn, 1) := by decide +kernel
theorem dX1_test_18 : decode cX1_test 18 = .ok (.iload_n 1, 1) := by decide +kernel
theorem dX1_test_19 : decode cX1_test 19 = .ok (.i2l, 1) := by decide +kernel
theorem dX1_test_20 : decode cX1_test 20 = .ok (.aload_n 0, 1) := by decide +kernel
theorem dX1_test_21 : decode cX1_test 21 = .ok (.getfield 58, 3) := by decide +kernel
theorem dX1_test_24 : decode cX1_test 24 = .ok (.lmul, 1) := by decide +kernel
theorem dX1_test_25 : decode cX1_test 25 = .ok (.iload_n 2, 1) := by decide +kernel
theorem dX1_test_26 : decode cX1_test 26 = .ok (.i2l, 1) := by decide +kernel
theorem dX1_test_27 : decode cX1_test 27 = .ok (.aload_n 0, 1) := by decide +kernel
theorem dX1_test_28 : decode cX1_test 28 = .ok (.getfield 61, 3) := by decide +kernel
theorem dX1_test_31 : decode cX1_test 31 = .ok (.lmul, 1) := by decide +kernel
theorem dX1_test_32 : decode cX1_test 32 = .ok (.ladd, 1) := by decide +kernel
theorem dX1_test_33 : decode cX1_test 33 = .ok (.lstore 4, 2) := by decide +kernel
theorem dX1_test_35 : decode cX1_test 35 = .ok (.iload_n 3, 1) := by decide +kernel
theorem dX1_test_36 : decode cX1_test 36 = .ok (.i2l, 1) := by decide +kernel
theorem dX1_test_37 : decode cX1_test 37 = .ok (.aload_n 0, 1) := by decide +kernel
theorem dX1_test_38 : decode cX1_test 38 = .ok (.getfield 55, 3) := by decide +kernel
theorem dX1_test_41 : decode cX1_test 41 = .ok (.lmul, 1) := by decide +kernel
theorem dX1_test_42 : decode cX1_test 42 = .ok (.lstore 6, 2) := by decide +kernel
theorem dX1_test_44 : decode cX1_test 44 = .ok (.lload 4, 2) := by decide +kernel
theorem dX1_test_46 : decode cX1_test 46 = .ok (.lload 6, 2) := by decide +kernel
theorem dX1_test_48 : decode cX1_test 48 = .ok (.lcmp, 1) := by decide +kernel
theorem dX1_test_49 : decode cX1_test 49 = .ok (.ifCond .ne 7, 3) := by decide +kernel
theorem dX1_test_52 : decode cX1_test 52 = .ok (.iconst 1, 1) := by decide +kernel
theorem dX1_test_53 : decode cX1_test 53 = .ok (.goto 16, 3) := by decide +kernel
theorem dX1_test_56 : decode cX1_test 56 = .ok (.lload 4, 2) := by decide +kernel
theorem dX1_test_58 : decode cX1_test 58 = .ok (.lload 6, 2) := by decide +kernel
theorem dX1_test_60 : decode cX1_test 60 = .ok (.lcmp, 1) := by decide +kernel
theorem dX1_test_61 : decode cX1_test 61 = .ok (.ifCond .ge 7, 3) := by decide +kernel
theorem dX1_test_64 : decode cX1_test 64 = .ok (.iconst 2, 1) := by decide +kernel
theorem dX1_test_65 : decode cX1_test 65 = .ok (.goto 4, 3) := by decide +kernel
theorem dX1_test_68 : decode cX1_test 68 = .ok (.iconst 0, 1) := by decide +kernel
theorem dX1_test_69 : decode cX1_test 69 = .ok (.ireturn, 1) := by decide +kernel
abbrev cX1_spare : ByteArray := prog_3_method_21_code
def yX1_spare : MethodName := ⟨RX1, "spare", "()I"⟩
theorem dX1_spare_0 : decode cX1_spare 0 = .ok (.iconst 0, 1) := by decide +kernel
theorem dX1_spare_1 : decode cX1_spare 1 = .ok (.istore_n 1, 1) := by decide +kernel
theorem dX1_spare_2 : decode cX1_spare 2 = .ok (.iconst 0, 1) := by decide +kernel
theorem dX1_spare_3 : decode cX1_spare 3 = .ok (.istore_n 2, 1) := by decide +kernel
theorem dX1_spare_4 : decode cX1_spare 4 = .ok (.iload_n 2, 1) := by decide +kernel
theorem dX1_spare_5 : decode cX1_spare 5 = .ok (.aload_n 0, 1) := by decide +kernel
theorem dX1_spare_6 : decode cX1_spare 6 = .ok (.getfield 34, 3) := by decide +kernel
theorem dX1_spare_9 : decode cX1_spare 9 = .ok (.if_icmp .ge 20, 3) := by decide +kernel
theorem dX1_spare_12 : decode cX1_spare 12 = .ok (.aload_n 0, 1) := by decide +kernel
theorem dX1_spare_13 : decode cX1_spare 13 = .ok (.iload_n 2, 1) := by decide +kernel
theorem dX1_spare_14 : decode cX1_spare 14 = .ok (.invokevirtual 94, 3) := by decide +kernel
theorem dX1_spare_17 : decode cX1_spare 17 = .ok (.ifCond .eq 6, 3) := by decide +kernel
theorem dX1_spare_20 : decode cX1_spare 20 = .ok (.iinc 1 1, 3) := by decide +kernel
theorem dX1_spare_23 : decode cX1_spare 23 = .ok (.iinc 2 1, 3) := by decide +kernel
theorem dX1_spare_26 : decode cX1_spare 26 = .ok (.goto (-22), 3) := by decide +kernel
theorem dX1_spare_29 : decode cX1_spare 29 = .ok (.iload_n 1, 1) := by decide +kernel
theorem dX1_spare_30 : decode cX1_spare 30 = .ok (.ireturn, 1) := by decide +kernel
abbrev cX1_spared : ByteArray := prog_3_method_20_code
def yX1_spared : MethodName := ⟨RX1, "spared", "(I)Z"⟩
theorem dX1_spared_0 : decode cX1_spared 0 = .ok (.iconst 0, 1) := by decide +kernel
theorem dX1_spared_1 : decode cX1_spared 1 = .ok (.istore_n 2, 1) := by decide +kernel
theorem dX1_spared_2 : decode cX1_spared 2 = .ok (.iload_n 2, 1) := by decide +kernel
theorem dX1_spared_3 : decode cX1_spared 3 = .ok (.bipush 14, 2) := by decide +kernel
theorem dX1_spared_5 : decode cX1_spared 5 = .ok (.if_icmp .ge 67, 3) := by decide +kernel
theorem dX1_spared_8 : decode cX1_spared 8 = .ok (.iconst 0, 1) := by decide +kernel
theorem dX1_spared_9 : decode cX1_spared 9 = .ok (.istore_n 3, 1) := by decide +kernel
theorem dX1_spared_10 : decode cX1_spared 10 = .ok (.iload_n 3, 1) := by decide +kernel
theorem dX1_spared_11 : decode cX1_spared 11 = .ok (.iload_n 2, 1) := by decide +kernel
theorem dX1_spared_12 : decode cX1_spared 12 = .ok (.if_icmp .ge 54, 3) := by decide +kernel
theorem dX1_spared_15 : decode cX1_spared 15 = .ok (.aload_n 0, 1) := by decide +kernel
theorem dX1_spared_16 : decode cX1_spared 16 = .ok (.iload_n 2, 1) := by decide +kernel
theorem dX1_spared_17 : decode cX1_spared 17 = .ok (.iload_n 1, 1) := by decide +kernel
theorem dX1_spared_18 : decode cX1_spared 18 = .ok (.invokevirtual 47, 3) := by decide +kernel
theorem dX1_spared_21 : decode cX1_spared 21 = .ok (.ifCond .eq 39, 3) := by decide +kernel
theorem dX1_spared_24 : decode cX1_spared 24 = .ok (.aload_n 0, 1) := by decide +kernel
theorem dX1_spared_25 : decode cX1_spared 25 = .ok (.iload_n 3, 1) := by decide +kernel
theorem dX1_spared_26 : decode cX1_spared 26 = .ok (.iload_n 1, 1) := by decide +kernel
theorem dX1_spared_27 : decode cX1_spared 27 = .ok (.invokevirtual 47, 3) := by decide +kernel
theorem dX1_spared_30 : decode cX1_spared 30 = .ok (.ifCond .eq 30, 3) := by decide +kernel
theorem dX1_spared_33 : decode cX1_spared 33 = .ok (.aload_n 0, 1) := by decide +kernel
theorem dX1_spared_34 : decode cX1_spared 34 = .ok (.iload_n 2, 1) := by decide +kernel
theorem dX1_spared_35 : decode cX1_spared 35 = .ok (.iload_n 3, 1) := by decide +kernel
theorem dX1_spared_36 : decode cX1_spared 36 = .ok (.invokevirtual 64, 3) := by decide +kernel
theorem dX1_spared_39 : decode cX1_spared 39 = .ok (.ifCond .eq 21, 3) := by decide +kernel
theorem dX1_spared_42 : decode cX1_spared 42 = .ok (.aload_n 0, 1) := by decide +kernel
theorem dX1_spared_43 : decode cX1_spared 43 = .ok (.iload_n 1, 1) := by decide +kernel
theorem dX1_spared_44 : decode cX1_spared 44 = .ok (.invokevirtual 67, 3) := by decide +kernel
theorem dX1_spared_47 : decode cX1_spared 47 = .ok (.ifCond .eq 13, 3) := by decide +kernel
theorem dX1_spared_50 : decode cX1_spared 50 = .ok (.aload_n 0, 1) := by decide +kernel
theorem dX1_spared_51 : decode cX1_spared 51 = .ok (.iload_n 1, 1) := by decide +kernel
theorem dX1_spared_52 : decode cX1_spared 52 = .ok (.invokevirtual 51, 3) := by decide +kernel
theorem dX1_spared_55 : decode cX1_spared 55 = .ok (.ifCond .ne 5, 3) := by decide +kernel
theorem dX1_spared_58 : decode cX1_spared 58 = .ok (.iconst 0, 1) := by decide +kernel
theorem dX1_spared_59 : decode cX1_spared 59 = .ok (.ireturn, 1) := by decide +kernel
theorem dX1_spared_60 : decode cX1_spared 60 = .ok (.iinc 3 1, 3) := by decide +kernel
theorem dX1_spared_63 : decode cX1_spared 63 = .ok (.goto (-53), 3) := by decide +kernel
theorem dX1_spared_66 : decode cX1_spared 66 = .ok (.iinc 2 1, 3) := by decide +kernel
theorem dX1_spared_69 : decode cX1_spared 69 = .ok (.goto (-67), 3) := by decide +kernel
theorem dX1_spared_72 : decode cX1_spared 72 = .ok (.iconst 1, 1) := by decide +kernel
theorem dX1_spared_73 : decode cX1_spared 73 = .ok (.ireturn, 1) := by decide +kernel
theorem q20 : (Jvm.Cond.initialized "CornerDeskModel") ∈ lw_all := lw_g (lw_at lw_m1 2 rfl) rfl
theorem q181 : (Jvm.Cond.instantiable "CornerDeskModel" (15 : Nat)) ∈ lw_all := lw_g (lw_at lw_m1 163 rfl) rfl
theorem q183 : (Jvm.Cond.instanceMethod ({ cls := "CornerDeskModel", name := "<init>", desc := "()V" } : Jvm.MethodName)) ∈ lw_all := lw_g (lw_at lw_m1 165 rfl) rfl
theorem q184 : (Jvm.Cond.code ({ cls := "CornerDeskModel", name := "<init>", desc := "()V" } : Jvm.MethodName) prog_3_method_1_code (1 : Nat) (Option.none : Option Jvm.ClassFile.FieldType)) ∈ lw_all := lw_g (lw_at lw_m1 166 rfl) rfl
theorem q185 : (Jvm.Cond.methodLink "CornerDeskModel" (1 : Nat) ({ cls := "java/lang/Object", name := "<init>", desc := "()V" } : Jvm.MethodName)) ∈ lw_all := lw_g (lw_at lw_m1 167 rfl) rfl
theorem q186 : (Jvm.Cond.methodLink "CornerDeskModel" (26 : Nat) ({ cls := "CornerDeskModel", name := "write", desc := "(IIII)V" } : Jvm.MethodName)) ∈ lw_all := lw_g (lw_at lw_m1 168 rfl) rfl
theorem q187 : (Jvm.Cond.privateMethod ({ cls := "CornerDeskModel", name := "write", desc := "(IIII)V" } : Jvm.MethodName)) ∈ lw_tbl := lw_at lw_m1 169 rfl
theorem q188 : (Jvm.Cond.instanceMethod ({ cls := "CornerDeskModel", name := "write", desc := "(IIII)V" } : Jvm.MethodName)) ∈ lw_all := lw_g (lw_at lw_m1 170 rfl) rfl
theorem q189 : (Jvm.Cond.code ({ cls := "CornerDeskModel", name := "write", desc := "(IIII)V" } : Jvm.MethodName) prog_3_method_2_code (5 : Nat) (Option.none : Option Jvm.ClassFile.FieldType)) ∈ lw_all := lw_g (lw_at lw_m1 171 rfl) rfl
theorem q190 : (Jvm.Cond.fieldLink "CornerDeskModel" (34 : Nat) "CornerDeskModel" "held" "I") ∈ lw_all := lw_g (lw_at lw_m1 172 rfl) rfl
theorem q191 : (Jvm.Cond.fieldLink "CornerDeskModel" (7 : Nat) "CornerDeskModel" "levels" "I") ∈ lw_all := lw_g (lw_at lw_m1 173 rfl) rfl
theorem q192 : (Jvm.Cond.fieldLink "CornerDeskModel" (13 : Nat) "CornerDeskModel" "begun" "[I") ∈ lw_all := lw_g (lw_at lw_m1 174 rfl) rfl
theorem q193 : (Jvm.Cond.fieldLink "CornerDeskModel" (17 : Nat) "CornerDeskModel" "as" "[I") ∈ lw_all := lw_g (lw_at lw_m1 175 rfl) rfl
theorem q194 : (Jvm.Cond.fieldLink "CornerDeskModel" (20 : Nat) "CornerDeskModel" "bs" "[I") ∈ lw_all := lw_g (lw_at lw_m1 176 rfl) rfl
theorem q195 : (Jvm.Cond.fieldLink "CornerDeskModel" (23 : Nat) "CornerDeskModel" "cs" "[I") ∈ lw_all := lw_g (lw_at lw_m1 177 rfl) rfl
theorem q196 : (Jvm.Cond.fieldLink "CornerDeskModel" (41 : Nat) "CornerDeskModel" "cornerX" "J") ∈ lw_all := lw_g (lw_at lw_m1 178 rfl) rfl
theorem q197 : (Jvm.Cond.fieldLink "CornerDeskModel" (44 : Nat) "CornerDeskModel" "cornerY" "J") ∈ lw_all := lw_g (lw_at lw_m1 179 rfl) rfl
theorem q198 : (Jvm.Cond.fieldLink "CornerDeskModel" (37 : Nat) "CornerDeskModel" "under" "J") ∈ lw_all := lw_g (lw_at lw_m1 180 rfl) rfl
theorem q199 : (Jvm.Cond.fieldLink "CornerDeskModel" (76 : Nat) "CornerDeskModel" "known" "Z") ∈ lw_all := lw_g (lw_at lw_m1 181 rfl) rfl
theorem q200 : (Jvm.Cond.fieldLink "CornerDeskModel" (58 : Nat) "CornerDeskModel" "bestX" "J") ∈ lw_all := lw_g (lw_at lw_m1 182 rfl) rfl
theorem q201 : (Jvm.Cond.fieldLink "CornerDeskModel" (61 : Nat) "CornerDeskModel" "bestY" "J") ∈ lw_all := lw_g (lw_at lw_m1 183 rfl) rfl
theorem q202 : (Jvm.Cond.fieldLink "CornerDeskModel" (55 : Nat) "CornerDeskModel" "bestUnder" "J") ∈ lw_all := lw_g (lw_at lw_m1 184 rfl) rfl
theorem q203 : (Jvm.Cond.fieldLink "CornerDeskModel" (80 : Nat) "CornerDeskModel" "aimP" "I") ∈ lw_all := lw_g (lw_at lw_m1 185 rfl) rfl
theorem q204 : (Jvm.Cond.fieldLink "CornerDeskModel" (83 : Nat) "CornerDeskModel" "aimQ" "I") ∈ lw_all := lw_g (lw_at lw_m1 186 rfl) rfl
theorem q205 : (Jvm.Cond.lays "CornerDeskModel" "CornerDeskModel" "held" "I") ∈ lw_all := lw_g (lw_at lw_m1 187 rfl) rfl
theorem q206 : (Jvm.Cond.soleField "CornerDeskModel" "held") ∈ lw_all := lw_g (lw_at lw_m1 188 rfl) rfl
theorem q207 : (Jvm.Cond.lays "CornerDeskModel" "CornerDeskModel" "levels" "I") ∈ lw_all := lw_g (lw_at lw_m1 189 rfl) rfl
theorem q208 : (Jvm.Cond.soleField "CornerDeskModel" "levels") ∈ lw_all := lw_g (lw_at lw_m1 190 rfl) rfl
theorem q209 : (Jvm.Cond.laysFinal "CornerDeskModel" "CornerDeskModel" "begun" "[I") ∈ lw_all := lw_g (lw_at lw_m1 191 rfl) rfl
theorem q210 : (Jvm.Cond.soleField "CornerDeskModel" "begun") ∈ lw_all := lw_g (lw_at lw_m1 192 rfl) rfl
theorem q211 : (Jvm.Cond.laysFinal "CornerDeskModel" "CornerDeskModel" "as" "[I") ∈ lw_all := lw_g (lw_at lw_m1 193 rfl) rfl
theorem q212 : (Jvm.Cond.soleField "CornerDeskModel" "as") ∈ lw_all := lw_g (lw_at lw_m1 194 rfl) rfl
theorem q213 : (Jvm.Cond.laysFinal "CornerDeskModel" "CornerDeskModel" "bs" "[I") ∈ lw_all := lw_g (lw_at lw_m1 195 rfl) rfl
theorem q214 : (Jvm.Cond.soleField "CornerDeskModel" "bs") ∈ lw_all := lw_g (lw_at lw_m1 196 rfl) rfl
theorem q215 : (Jvm.Cond.laysFinal "CornerDeskModel" "CornerDeskModel" "cs" "[I") ∈ lw_all := lw_g (lw_at lw_m1 197 rfl) rfl
theorem q216 : (Jvm.Cond.soleField "CornerDeskModel" "cs") ∈ lw_all := lw_g (lw_at lw_m1 198 rfl) rfl
theorem q217 : (Jvm.Cond.lays "CornerDeskModel" "CornerDeskModel" "cornerX" "J") ∈ lw_all := lw_g (lw_at lw_m1 199 rfl) rfl
theorem q218 : (Jvm.Cond.soleField "CornerDeskModel" "cornerX") ∈ lw_all := lw_g (lw_at lw_m1 200 rfl) rfl
theorem q219 : (Jvm.Cond.lays "CornerDeskModel" "CornerDeskModel" "cornerY" "J") ∈ lw_all := lw_g (lw_at lw_m1 201 rfl) rfl
theorem q220 : (Jvm.Cond.soleField "CornerDeskModel" "cornerY") ∈ lw_all := lw_g (lw_at lw_m1 202 rfl) rfl
theorem q221 : (Jvm.Cond.lays "CornerDeskModel" "CornerDeskModel" "under" "J") ∈ lw_all := lw_g (lw_at lw_m1 203 rfl) rfl
theorem q222 : (Jvm.Cond.soleField "CornerDeskModel" "under") ∈ lw_all := lw_g (lw_at lw_m1 204 rfl) rfl
theorem q223 : (Jvm.Cond.lays "CornerDeskModel" "CornerDeskModel" "known" "Z") ∈ lw_all := lw_g (lw_at lw_m1 205 rfl) rfl
theorem q224 : (Jvm.Cond.soleField "CornerDeskModel" "known") ∈ lw_all := lw_g (lw_at lw_m1 206 rfl) rfl
theorem q225 : (Jvm.Cond.lays "CornerDeskModel" "CornerDeskModel" "bestX" "J") ∈ lw_all := lw_g (lw_at lw_m1 207 rfl) rfl
theorem q226 : (Jvm.Cond.soleField "CornerDeskModel" "bestX") ∈ lw_all := lw_g (lw_at lw_m1 208 rfl) rfl
theorem q227 : (Jvm.Cond.lays "CornerDeskModel" "CornerDeskModel" "bestY" "J") ∈ lw_all := lw_g (lw_at lw_m1 209 rfl) rfl
theorem q228 : (Jvm.Cond.soleField "CornerDeskModel" "bestY") ∈ lw_all := lw_g (lw_at lw_m1 210 rfl) rfl
theorem q229 : (Jvm.Cond.lays "CornerDeskModel" "CornerDeskModel" "bestUnder" "J") ∈ lw_all := lw_g (lw_at lw_m1 211 rfl) rfl
theorem q230 : (Jvm.Cond.soleField "CornerDeskModel" "bestUnder") ∈ lw_all := lw_g (lw_at lw_m1 212 rfl) rfl
theorem q231 : (Jvm.Cond.lays "CornerDeskModel" "CornerDeskModel" "aimP" "I") ∈ lw_all := lw_g (lw_at lw_m1 213 rfl) rfl
theorem q232 : (Jvm.Cond.soleField "CornerDeskModel" "aimP") ∈ lw_all := lw_g (lw_at lw_m1 214 rfl) rfl
theorem q233 : (Jvm.Cond.lays "CornerDeskModel" "CornerDeskModel" "aimQ" "I") ∈ lw_all := lw_g (lw_at lw_m1 215 rfl) rfl
theorem q234 : (Jvm.Cond.soleField "CornerDeskModel" "aimQ") ∈ lw_all := lw_g (lw_at lw_m1 216 rfl) rfl
theorem q235 : (Jvm.Cond.superclass "CornerDeskModel" "java/lang/Object") ∈ lw_all := lw_g (lw_at lw_m1 217 rfl) rfl
theorem q237 : (Jvm.Cond.instanceMethod ({ cls := "CornerDeskModel", name := "add", desc := "(III)I" } : Jvm.MethodName)) ∈ lw_all := lw_g (lw_at lw_m1 219 rfl) rfl
theorem q238 : (Jvm.Cond.selects "CornerDeskModel" ({ cls := "CornerDeskModel", name := "add", desc := "(III)I" } : Jvm.MethodName) ({ cls := "CornerDeskModel", name := "add", desc := "(III)I" } : Jvm.MethodName)) ∈ lw_all := lw_g (lw_at lw_m1 220 rfl) rfl
theorem q239 : (Jvm.Cond.code ({ cls := "CornerDeskModel", name := "add", desc := "(III)I" } : Jvm.MethodName) prog_3_method_4_code (4 : Nat) (Option.some Jvm.ClassFile.FieldType.int)) ∈ lw_all := lw_g (lw_at lw_m1 221 rfl) rfl
theorem q240 : (Jvm.Cond.methodLink "CornerDeskModel" (30 : Nat) ({ cls := "CornerDeskModel", name := "bad", desc := "(III)Z" } : Jvm.MethodName)) ∈ lw_all := lw_g (lw_at lw_m1 222 rfl) rfl
theorem q241 : (Jvm.Cond.static ({ cls := "CornerDeskModel", name := "bad", desc := "(III)Z" } : Jvm.MethodName)) ∈ lw_all := lw_g (lw_at lw_m1 223 rfl) rfl
theorem q242 : (Jvm.Cond.code ({ cls := "CornerDeskModel", name := "bad", desc := "(III)Z" } : Jvm.MethodName) prog_3_method_3_code (3 : Nat) (Option.some Jvm.ClassFile.FieldType.boolean)) ∈ lw_all := lw_g (lw_at lw_m1 224 rfl) rfl
theorem q244 : (Jvm.Cond.instanceMethod ({ cls := "CornerDeskModel", name := "push", desc := "()I" } : Jvm.MethodName)) ∈ lw_all := lw_g (lw_at lw_m1 226 rfl) rfl
theorem q245 : (Jvm.Cond.selects "CornerDeskModel" ({ cls := "CornerDeskModel", name := "push", desc := "()I" } : Jvm.MethodName) ({ cls := "CornerDeskModel", name := "push", desc := "()I" } : Jvm.MethodName)) ∈ lw_all := lw_g (lw_at lw_m1 227 rfl) rfl
theorem q246 : (Jvm.Cond.code ({ cls := "CornerDeskModel", name := "push", desc := "()I" } : Jvm.MethodName) prog_3_method_5_code (1 : Nat) (Option.some Jvm.ClassFile.FieldType.int)) ∈ lw_all := lw_g (lw_at lw_m1 228 rfl) rfl
theorem q248 : (Jvm.Cond.instanceMethod ({ cls := "CornerDeskModel", name := "pop", desc := "()I" } : Jvm.MethodName)) ∈ lw_all := lw_g (lw_at lw_m1 230 rfl) rfl
theorem q249 : (Jvm.Cond.selects "CornerDeskModel" ({ cls := "CornerDeskModel", name := "pop", desc := "()I" } : Jvm.MethodName) ({ cls := "CornerDeskModel", name := "pop", desc := "()I" } : Jvm.MethodName)) ∈ lw_all := lw_g (lw_at lw_m1 231 rfl) rfl
theorem q250 : (Jvm.Cond.code ({ cls := "CornerDeskModel", name := "pop", desc := "()I" } : Jvm.MethodName) prog_3_method_6_code (1 : Nat) (Option.some Jvm.ClassFile.FieldType.int)) ∈ lw_all := lw_g (lw_at lw_m1 232 rfl) rfl
theorem q252 : (Jvm.Cond.instanceMethod ({ cls := "CornerDeskModel", name := "possible", desc := "()I" } : Jvm.MethodName)) ∈ lw_all := lw_g (lw_at lw_m1 234 rfl) rfl
theorem q253 : (Jvm.Cond.selects "CornerDeskModel" ({ cls := "CornerDeskModel", name := "possible", desc := "()I" } : Jvm.MethodName) ({ cls := "CornerDeskModel", name := "possible", desc := "()I" } : Jvm.MethodName)) ∈ lw_all := lw_g (lw_at lw_m1 235 rfl) rfl
theorem q254 : (Jvm.Cond.code ({ cls := "CornerDeskModel", name := "possible", desc := "()I" } : Jvm.MethodName) prog_3_method_13_code (3 : Nat) (Option.some Jvm.ClassFile.FieldType.int)) ∈ lw_all := lw_g (lw_at lw_m1 236 rfl) rfl
theorem q255 : (Jvm.Cond.methodLink "CornerDeskModel" (47 : Nat) ({ cls := "CornerDeskModel", name := "there", desc := "(II)Z" } : Jvm.MethodName)) ∈ lw_all := lw_g (lw_at lw_m1 237 rfl) rfl
theorem q256 : (Jvm.Cond.privateMethod ({ cls := "CornerDeskModel", name := "there", desc := "(II)Z" } : Jvm.MethodName)) ∈ lw_tbl := lw_at lw_m1 238 rfl
theorem q257 : (Jvm.Cond.instanceMethod ({ cls := "CornerDeskModel", name := "there", desc := "(II)Z" } : Jvm.MethodName)) ∈ lw_all := lw_g (lw_at lw_m1 239 rfl) rfl
theorem q258 : (Jvm.Cond.code ({ cls := "CornerDeskModel", name := "there", desc := "(II)Z" } : Jvm.MethodName) prog_3_method_7_code (3 : Nat) (Option.some Jvm.ClassFile.FieldType.boolean)) ∈ lw_all := lw_g (lw_at lw_m2 0 rfl) rfl
theorem q259 : (Jvm.Cond.methodLink "CornerDeskModel" (64 : Nat) ({ cls := "CornerDeskModel", name := "meet", desc := "(II)Z" } : Jvm.MethodName)) ∈ lw_all := lw_g (lw_at lw_m2 1 rfl) rfl
theorem q260 : (Jvm.Cond.privateMethod ({ cls := "CornerDeskModel", name := "meet", desc := "(II)Z" } : Jvm.MethodName)) ∈ lw_tbl := lw_at lw_m2 2 rfl
theorem q261 : (Jvm.Cond.instanceMethod ({ cls := "CornerDeskModel", name := "meet", desc := "(II)Z" } : Jvm.MethodName)) ∈ lw_all := lw_g (lw_at lw_m2 3 rfl) rfl
theorem q262 : (Jvm.Cond.code ({ cls := "CornerDeskModel", name := "meet", desc := "(II)Z" } : Jvm.MethodName) prog_3_method_8_code (9 : Nat) (Option.some Jvm.ClassFile.FieldType.boolean)) ∈ lw_all := lw_g (lw_at lw_m2 4 rfl) rfl
theorem q263 : (Jvm.Cond.methodLink "CornerDeskModel" (67 : Nat) ({ cls := "CornerDeskModel", name := "allowed", desc := "(I)Z" } : Jvm.MethodName)) ∈ lw_all := lw_g (lw_at lw_m2 5 rfl) rfl
theorem q264 : (Jvm.Cond.privateMethod ({ cls := "CornerDeskModel", name := "allowed", desc := "(I)Z" } : Jvm.MethodName)) ∈ lw_tbl := lw_at lw_m2 6 rfl
theorem q265 : (Jvm.Cond.instanceMethod ({ cls := "CornerDeskModel", name := "allowed", desc := "(I)Z" } : Jvm.MethodName)) ∈ lw_all := lw_g (lw_at lw_m2 7 rfl) rfl
theorem q266 : (Jvm.Cond.code ({ cls := "CornerDeskModel", name := "allowed", desc := "(I)Z" } : Jvm.MethodName) prog_3_method_10_code (3 : Nat) (Option.some Jvm.ClassFile.FieldType.boolean)) ∈ lw_all := lw_g (lw_at lw_m2 8 rfl) rfl
theorem q267 : (Jvm.Cond.methodLink "CornerDeskModel" (51 : Nat) ({ cls := "CornerDeskModel", name := "meets", desc := "(I)Z" } : Jvm.MethodName)) ∈ lw_all := lw_g (lw_at lw_m2 9 rfl) rfl
theorem q268 : (Jvm.Cond.privateMethod ({ cls := "CornerDeskModel", name := "meets", desc := "(I)Z" } : Jvm.MethodName)) ∈ lw_tbl := lw_at lw_m2 10 rfl
theorem q269 : (Jvm.Cond.instanceMethod ({ cls := "CornerDeskModel", name := "meets", desc := "(I)Z" } : Jvm.MethodName)) ∈ lw_all := lw_g (lw_at lw_m2 11 rfl) rfl
theorem q270 : (Jvm.Cond.code ({ cls := "CornerDeskModel", name := "meets", desc := "(I)Z" } : Jvm.MethodName) prog_3_method_9_code (2 : Nat) (Option.some Jvm.ClassFile.FieldType.boolean)) ∈ lw_all := lw_g (lw_at lw_m2 12 rfl) rfl
theorem q272 : (Jvm.Cond.instanceMethod ({ cls := "CornerDeskModel", name := "best", desc := "(II)I" } : Jvm.MethodName)) ∈ lw_all := lw_g (lw_at lw_m2 14 rfl) rfl
theorem q273 : (Jvm.Cond.selects "CornerDeskModel" ({ cls := "CornerDeskModel", name := "best", desc := "(II)I" } : Jvm.MethodName) ({ cls := "CornerDeskModel", name := "best", desc := "(II)I" } : Jvm.MethodName)) ∈ lw_all := lw_g (lw_at lw_m2 15 rfl) rfl
theorem q274 : (Jvm.Cond.code ({ cls := "CornerDeskModel", name := "best", desc := "(II)I" } : Jvm.MethodName) prog_3_method_14_code (3 : Nat) (Option.some Jvm.ClassFile.FieldType.int)) ∈ lw_all := lw_g (lw_at lw_m2 16 rfl) rfl
theorem q275 : (Jvm.Cond.methodLink "CornerDeskModel" (73 : Nat) ({ cls := "CornerDeskModel", name := "search", desc := "(II)Z" } : Jvm.MethodName)) ∈ lw_all := lw_g (lw_at lw_m2 17 rfl) rfl
theorem q276 : (Jvm.Cond.privateMethod ({ cls := "CornerDeskModel", name := "search", desc := "(II)Z" } : Jvm.MethodName)) ∈ lw_tbl := lw_at lw_m2 18 rfl
theorem q277 : (Jvm.Cond.instanceMethod ({ cls := "CornerDeskModel", name := "search", desc := "(II)Z" } : Jvm.MethodName)) ∈ lw_all := lw_g (lw_at lw_m2 19 rfl) rfl
theorem q278 : (Jvm.Cond.code ({ cls := "CornerDeskModel", name := "search", desc := "(II)Z" } : Jvm.MethodName) prog_3_method_12_code (6 : Nat) (Option.some Jvm.ClassFile.FieldType.boolean)) ∈ lw_all := lw_g (lw_at lw_m2 20 rfl) rfl
theorem q279 : (Jvm.Cond.methodLink "CornerDeskModel" (70 : Nat) ({ cls := "CornerDeskModel", name := "better", desc := "(II)Z" } : Jvm.MethodName)) ∈ lw_all := lw_g (lw_at lw_m2 21 rfl) rfl
theorem q280 : (Jvm.Cond.privateMethod ({ cls := "CornerDeskModel", name := "better", desc := "(II)Z" } : Jvm.MethodName)) ∈ lw_tbl := lw_at lw_m2 22 rfl
theorem q281 : (Jvm.Cond.instanceMethod ({ cls := "CornerDeskModel", name := "better", desc := "(II)Z" } : Jvm.MethodName)) ∈ lw_all := lw_g (lw_at lw_m2 23 rfl) rfl
theorem q282 : (Jvm.Cond.code ({ cls := "CornerDeskModel", name := "better", desc := "(II)Z" } : Jvm.MethodName) prog_3_method_11_code (7 : Nat) (Option.some Jvm.ClassFile.FieldType.boolean)) ∈ lw_all := lw_g (lw_at lw_m2 24 rfl) rfl
theorem q284 : (Jvm.Cond.instanceMethod ({ cls := "CornerDeskModel", name := "numerator", desc := "(I)I" } : Jvm.MethodName)) ∈ lw_all := lw_g (lw_at lw_m2 26 rfl) rfl
theorem q285 : (Jvm.Cond.selects "CornerDeskModel" ({ cls := "CornerDeskModel", name := "numerator", desc := "(I)I" } : Jvm.MethodName) ({ cls := "CornerDeskModel", name := "numerator", desc := "(I)I" } : Jvm.MethodName)) ∈ lw_all := lw_g (lw_at lw_m2 27 rfl) rfl
theorem q286 : (Jvm.Cond.code ({ cls := "CornerDeskModel", name := "numerator", desc := "(I)I" } : Jvm.MethodName) prog_3_method_17_code (6 : Nat) (Option.some Jvm.ClassFile.FieldType.int)) ∈ lw_all := lw_g (lw_at lw_m2 28 rfl) rfl
theorem q287 : (Jvm.Cond.methodLink "CornerDeskModel" (86 : Nat) ({ cls := "CornerDeskModel", name := "top", desc := "(I)J" } : Jvm.MethodName)) ∈ lw_all := lw_g (lw_at lw_m2 29 rfl) rfl
theorem q288 : (Jvm.Cond.privateMethod ({ cls := "CornerDeskModel", name := "top", desc := "(I)J" } : Jvm.MethodName)) ∈ lw_tbl := lw_at lw_m2 30 rfl
theorem q289 : (Jvm.Cond.instanceMethod ({ cls := "CornerDeskModel", name := "top", desc := "(I)J" } : Jvm.MethodName)) ∈ lw_all := lw_g (lw_at lw_m2 31 rfl) rfl
theorem q290 : (Jvm.Cond.code ({ cls := "CornerDeskModel", name := "top", desc := "(I)J" } : Jvm.MethodName) prog_3_method_16_code (2 : Nat) (Option.some Jvm.ClassFile.FieldType.long)) ∈ lw_all := lw_g (lw_at lw_m2 32 rfl) rfl
theorem q291 : (Jvm.Cond.methodLink "CornerDeskModel" (90 : Nat) ({ cls := "CornerDeskModel", name := "divisor", desc := "(JJ)J" } : Jvm.MethodName)) ∈ lw_all := lw_g (lw_at lw_m2 33 rfl) rfl
theorem q292 : (Jvm.Cond.static ({ cls := "CornerDeskModel", name := "divisor", desc := "(JJ)J" } : Jvm.MethodName)) ∈ lw_all := lw_g (lw_at lw_m2 34 rfl) rfl
theorem q293 : (Jvm.Cond.code ({ cls := "CornerDeskModel", name := "divisor", desc := "(JJ)J" } : Jvm.MethodName) prog_3_method_15_code (11 : Nat) (Option.some Jvm.ClassFile.FieldType.long)) ∈ lw_all := lw_g (lw_at lw_m2 35 rfl) rfl
theorem q295 : (Jvm.Cond.instanceMethod ({ cls := "CornerDeskModel", name := "denominator", desc := "(I)I" } : Jvm.MethodName)) ∈ lw_all := lw_g (lw_at lw_m2 37 rfl) rfl
theorem q296 : (Jvm.Cond.selects "CornerDeskModel" ({ cls := "CornerDeskModel", name := "denominator", desc := "(I)I" } : Jvm.MethodName) ({ cls := "CornerDeskModel", name := "denominator", desc := "(I)I" } : Jvm.MethodName)) ∈ lw_all := lw_g (lw_at lw_m2 38 rfl) rfl
theorem q297 : (Jvm.Cond.code ({ cls := "CornerDeskModel", name := "denominator", desc := "(I)I" } : Jvm.MethodName) prog_3_method_18_code (6 : Nat) (Option.some Jvm.ClassFile.FieldType.int)) ∈ lw_all := lw_g (lw_at lw_m2 39 rfl) rfl
theorem q299 : (Jvm.Cond.instanceMethod ({ cls := "CornerDeskModel", name := "test", desc := "(III)I" } : Jvm.MethodName)) ∈ lw_all := lw_g (lw_at lw_m2 41 rfl) rfl
theorem q300 : (Jvm.Cond.selects "CornerDeskModel" ({ cls := "CornerDeskModel", name := "test", desc := "(III)I" } : Jvm.MethodName) ({ cls := "CornerDeskModel", name := "test", desc := "(III)I" } : Jvm.MethodName)) ∈ lw_all := lw_g (lw_at lw_m2 42 rfl) rfl
theorem q301 : (Jvm.Cond.code ({ cls := "CornerDeskModel", name := "test", desc := "(III)I" } : Jvm.MethodName) prog_3_method_19_code (8 : Nat) (Option.some Jvm.ClassFile.FieldType.int)) ∈ lw_all := lw_g (lw_at lw_m2 43 rfl) rfl
theorem q303 : (Jvm.Cond.instanceMethod ({ cls := "CornerDeskModel", name := "spare", desc := "()I" } : Jvm.MethodName)) ∈ lw_all := lw_g (lw_at lw_m2 45 rfl) rfl
theorem q304 : (Jvm.Cond.selects "CornerDeskModel" ({ cls := "CornerDeskModel", name := "spare", desc := "()I" } : Jvm.MethodName) ({ cls := "CornerDeskModel", name := "spare", desc := "()I" } : Jvm.MethodName)) ∈ lw_all := lw_g (lw_at lw_m2 46 rfl) rfl
theorem q305 : (Jvm.Cond.code ({ cls := "CornerDeskModel", name := "spare", desc := "()I" } : Jvm.MethodName) prog_3_method_21_code (3 : Nat) (Option.some Jvm.ClassFile.FieldType.int)) ∈ lw_all := lw_g (lw_at lw_m2 47 rfl) rfl
theorem q306 : (Jvm.Cond.methodLink "CornerDeskModel" (94 : Nat) ({ cls := "CornerDeskModel", name := "spared", desc := "(I)Z" } : Jvm.MethodName)) ∈ lw_all := lw_g (lw_at lw_m2 48 rfl) rfl
theorem q307 : (Jvm.Cond.privateMethod ({ cls := "CornerDeskModel", name := "spared", desc := "(I)Z" } : Jvm.MethodName)) ∈ lw_tbl := lw_at lw_m2 49 rfl
theorem q308 : (Jvm.Cond.instanceMethod ({ cls := "CornerDeskModel", name := "spared", desc := "(I)Z" } : Jvm.MethodName)) ∈ lw_all := lw_g (lw_at lw_m2 50 rfl) rfl
theorem q309 : (Jvm.Cond.code ({ cls := "CornerDeskModel", name := "spared", desc := "(I)Z" } : Jvm.MethodName) prog_3_method_20_code (4 : Nat) (Option.some Jvm.ClassFile.FieldType.boolean)) ∈ lw_all := lw_g (lw_at lw_m2 51 rfl) rfl
theorem in_X1 : ∀ w ∈ wsX10, w ∈ lw_all := lw_in wsX10 [205, 207, 209, 211, 213, 215, 217, 219, 221, 223, 225, 227, 229, 231, 233] (by decide +kernel) (by decide +kernel)
/-! java/lang/Object -/
set_option maxRecDepth 100000
def RJ0 : String := "java/lang/Object"
abbrev cJ0_init : ByteArray := object_method_1_code
def yJ0_init : MethodName := ⟨RJ0, "<init>", "()V"⟩
theorem dJ0_init_0 : decode cJ0_init 0 = .ok (.return_, 1) := by decide +kernel
theorem q27 : (Jvm.Cond.instanceMethod ({ cls := "java/lang/Object", name := "<init>", desc := "()V" } : Jvm.MethodName)) ∈ lw_all := lw_g (lw_at lw_m1 9 rfl) rfl
theorem q28 : (Jvm.Cond.code ({ cls := "java/lang/Object", name := "<init>", desc := "()V" } : Jvm.MethodName) object_method_1_code (1 : Nat) (Option.none : Option Jvm.ClassFile.FieldType)) ∈ lw_all := lw_g (lw_at lw_m1 10 rfl) rfl
theorem q99 : (Jvm.Cond.arrayClass Jvm.ClassFile.FieldType.int) ∈ lw_all := lw_g (lw_at lw_m1 81 rfl) rfl
set_option maxRecDepth 100000
theorem q18 : (Jvm.Cond.initialized "CornerDeskLaw") ∈ lw_all := lw_g (lw_at lw_m1 0 rfl) rfl
set_option maxRecDepth 100000
theorem q21 : (Jvm.Cond.classLink "CornerDeskLaw" (7 : Nat) "CornerDesk") ∈ lw_all := lw_g (lw_at lw_m1 3 rfl) rfl
theorem q23 : (Jvm.Cond.methodLink "CornerDeskLaw" (9 : Nat) ({ cls := "CornerDesk", name := "<init>", desc := "()V" } : Jvm.MethodName)) ∈ lw_all := lw_g (lw_at lw_m1 5 rfl) rfl
theorem q100 : (Jvm.Cond.methodLink "CornerDeskLaw" (13 : Nat) ({ cls := "CornerDesk", name := "add", desc := "(III)I" } : Jvm.MethodName)) ∈ lw_all := lw_g (lw_at lw_m1 82 rfl) rfl
theorem q107 : (Jvm.Cond.methodLink "CornerDeskLaw" (18 : Nat) ({ cls := "CornerDesk", name := "push", desc := "()I" } : Jvm.MethodName)) ∈ lw_all := lw_g (lw_at lw_m1 89 rfl) rfl
theorem q111 : (Jvm.Cond.methodLink "CornerDeskLaw" (23 : Nat) ({ cls := "CornerDesk", name := "pop", desc := "()I" } : Jvm.MethodName)) ∈ lw_all := lw_g (lw_at lw_m1 93 rfl) rfl
theorem q115 : (Jvm.Cond.methodLink "CornerDeskLaw" (27 : Nat) ({ cls := "CornerDesk", name := "possible", desc := "()I" } : Jvm.MethodName)) ∈ lw_all := lw_g (lw_at lw_m1 97 rfl) rfl
theorem q153 : (Jvm.Cond.methodLink "CornerDeskLaw" (31 : Nat) ({ cls := "CornerDesk", name := "best", desc := "(II)I" } : Jvm.MethodName)) ∈ lw_all := lw_g (lw_at lw_m1 135 rfl) rfl
theorem q157 : (Jvm.Cond.methodLink "CornerDeskLaw" (36 : Nat) ({ cls := "CornerDesk", name := "numerator", desc := "(I)I" } : Jvm.MethodName)) ∈ lw_all := lw_g (lw_at lw_m1 139 rfl) rfl
theorem q168 : (Jvm.Cond.methodLink "CornerDeskLaw" (41 : Nat) ({ cls := "CornerDesk", name := "denominator", desc := "(I)I" } : Jvm.MethodName)) ∈ lw_all := lw_g (lw_at lw_m1 150 rfl) rfl
theorem q172 : (Jvm.Cond.methodLink "CornerDeskLaw" (45 : Nat) ({ cls := "CornerDesk", name := "test", desc := "(III)I" } : Jvm.MethodName)) ∈ lw_all := lw_g (lw_at lw_m1 154 rfl) rfl
theorem q176 : (Jvm.Cond.methodLink "CornerDeskLaw" (49 : Nat) ({ cls := "CornerDesk", name := "spare", desc := "()I" } : Jvm.MethodName)) ∈ lw_all := lw_g (lw_at lw_m1 158 rfl) rfl
theorem q180 : (Jvm.Cond.classLink "CornerDeskLaw" (10 : Nat) "CornerDeskModel") ∈ lw_all := lw_g (lw_at lw_m1 162 rfl) rfl
theorem q182 : (Jvm.Cond.methodLink "CornerDeskLaw" (12 : Nat) ({ cls := "CornerDeskModel", name := "<init>", desc := "()V" } : Jvm.MethodName)) ∈ lw_all := lw_g (lw_at lw_m1 164 rfl) rfl
theorem q236 : (Jvm.Cond.methodLink "CornerDeskLaw" (17 : Nat) ({ cls := "CornerDeskModel", name := "add", desc := "(III)I" } : Jvm.MethodName)) ∈ lw_all := lw_g (lw_at lw_m1 218 rfl) rfl
theorem q243 : (Jvm.Cond.methodLink "CornerDeskLaw" (22 : Nat) ({ cls := "CornerDeskModel", name := "push", desc := "()I" } : Jvm.MethodName)) ∈ lw_all := lw_g (lw_at lw_m1 225 rfl) rfl
theorem q247 : (Jvm.Cond.methodLink "CornerDeskLaw" (26 : Nat) ({ cls := "CornerDeskModel", name := "pop", desc := "()I" } : Jvm.MethodName)) ∈ lw_all := lw_g (lw_at lw_m1 229 rfl) rfl
theorem q251 : (Jvm.Cond.methodLink "CornerDeskLaw" (30 : Nat) ({ cls := "CornerDeskModel", name := "possible", desc := "()I" } : Jvm.MethodName)) ∈ lw_all := lw_g (lw_at lw_m1 233 rfl) rfl
theorem q271 : (Jvm.Cond.methodLink "CornerDeskLaw" (35 : Nat) ({ cls := "CornerDeskModel", name := "best", desc := "(II)I" } : Jvm.MethodName)) ∈ lw_all := lw_g (lw_at lw_m2 13 rfl) rfl
theorem q283 : (Jvm.Cond.methodLink "CornerDeskLaw" (40 : Nat) ({ cls := "CornerDeskModel", name := "numerator", desc := "(I)I" } : Jvm.MethodName)) ∈ lw_all := lw_g (lw_at lw_m2 25 rfl) rfl
theorem q294 : (Jvm.Cond.methodLink "CornerDeskLaw" (44 : Nat) ({ cls := "CornerDeskModel", name := "denominator", desc := "(I)I" } : Jvm.MethodName)) ∈ lw_all := lw_g (lw_at lw_m2 36 rfl) rfl
theorem q298 : (Jvm.Cond.methodLink "CornerDeskLaw" (48 : Nat) ({ cls := "CornerDeskModel", name := "test", desc := "(III)I" } : Jvm.MethodName)) ∈ lw_all := lw_g (lw_at lw_m2 40 rfl) rfl
theorem q302 : (Jvm.Cond.methodLink "CornerDeskLaw" (52 : Nat) ({ cls := "CornerDeskModel", name := "spare", desc := "()I" } : Jvm.MethodName)) ∈ lw_all := lw_g (lw_at lw_m2 44 rfl) rfl
/-- the classes whose objects the worlds hold: 0 CornerDesk, 1 CornerDeskModel -/
abbrev vwCl : List vw_C := [(RX0, TX0, 23), (RX1, TX1, 15)]
end
section
/-! rows of this claim: whole numbers beside the machine's: cd_I x is x as an int, cd_L x is x as a long -/
def cd_I (x : Int) : Int32 := Int32.ofInt x
def cd_L (x : Int) : Int64 := Int64.ofInt x
def cd_c (g : Nat → Int) : Nat → Int32 := fun j => cd_I (g j)
def cd_n (g : Nat → Nat) : Nat → Int32 := fun j => cd_I ((g j : Nat) : Int)
def cd_u (g : Nat → Int) (k : Nat) (v : Int) : Nat → Int := fun j => if j = k then v else g j
def cd_un (g : Nat → Nat) (k : Nat) (v : Nat) : Nat → Nat := fun j => if j = k then v else g j
def cd_R32 (x : Int) : Prop := -2147483648 ≤ x ∧ x < 2147483648
def cd_R64 (x : Int) : Prop := -9223372036854775808 ≤ x ∧ x < 9223372036854775808
def cd_b (A x : Int) : Prop := -A ≤ x ∧ x ≤ A
theorem cd_bA {A B x y : Int} (h : cd_b A x) (g : cd_b B y) : cd_b (A + B) (x + y) := by
  obtain ⟨h1, h2⟩ := h
  obtain ⟨g1, g2⟩ := g
  exact ⟨by omega, by omega⟩
theorem cd_bS {A B x y : Int} (h : cd_b A x) (g : cd_b B y) : cd_b (A + B) (x - y) := by
  obtain ⟨h1, h2⟩ := h
  obtain ⟨g1, g2⟩ := g
  exact ⟨by omega, by omega⟩
theorem cd_bN {A x : Int} (h : cd_b A x) : cd_b A (-x) := by
  obtain ⟨h1, h2⟩ := h
  exact ⟨by omega, by omega⟩
theorem cd_bM {A B x y : Int} (h : cd_b A x) (g : cd_b B y) : cd_b (A * B) (x * y) := by
  obtain ⟨h1, h2⟩ := h
  obtain ⟨g1, g2⟩ := g
  have e1 : 0 ≤ (A - x) * (B - y) := Int.mul_nonneg (by omega) (by omega)
  have e2 : 0 ≤ (A - x) * (B + y) := Int.mul_nonneg (by omega) (by omega)
  have e3 : 0 ≤ (A + x) * (B - y) := Int.mul_nonneg (by omega) (by omega)
  have e4 : 0 ≤ (A + x) * (B + y) := Int.mul_nonneg (by omega) (by omega)
  have f1 : (A - x) * (B - y) = A * B - A * y - x * B + x * y := by grind
  have f2 : (A - x) * (B + y) = A * B + A * y - x * B - x * y := by grind
  have f3 : (A + x) * (B - y) = A * B - A * y + x * B - x * y := by grind
  have f4 : (A + x) * (B + y) = A * B + A * y + x * B + x * y := by grind
  rw [f1] at e1
  rw [f2] at e2
  rw [f3] at e3
  rw [f4] at e4
  exact ⟨by omega, by omega⟩
theorem cd_bR32 {A x : Int} (h : cd_b A x) (hA : A ≤ 2147483647) : cd_R32 x := by
  obtain ⟨h1, h2⟩ := h
  exact ⟨by omega, by omega⟩
theorem cd_bR64 {A x : Int} (h : cd_b A x) (hA : A ≤ 9223372036854775807) : cd_R64 x := by
  obtain ⟨h1, h2⟩ := h
  exact ⟨by omega, by omega⟩
theorem cd_bW {A B x : Int} (h : cd_b A x) (hA : A ≤ B) : cd_b B x := by
  obtain ⟨h1, h2⟩ := h
  exact ⟨by omega, by omega⟩
theorem cd_I_toInt {x : Int} (h : cd_R32 x) : (cd_I x).toInt = x := by
  obtain ⟨h1, h2⟩ := h
  exact Int32.toInt_ofInt_of_le (by omega) (by omega)
theorem cd_L_toInt {x : Int} (h : cd_R64 x) : (cd_L x).toInt = x := by
  obtain ⟨h1, h2⟩ := h
  exact Int64.toInt_ofInt_of_le (by omega) (by omega)
theorem cd_I_lt {x y : Int} (hx : cd_R32 x) (hy : cd_R32 y) : cd_I x < cd_I y ↔ x < y := by rw [Int32.lt_iff_toInt_lt, cd_I_toInt hx, cd_I_toInt hy]
theorem cd_I_le {x y : Int} (hx : cd_R32 x) (hy : cd_R32 y) : cd_I x ≤ cd_I y ↔ x ≤ y := by rw [Int32.le_iff_toInt_le, cd_I_toInt hx, cd_I_toInt hy]
theorem cd_I_eq {x y : Int} (hx : cd_R32 x) (hy : cd_R32 y) : cd_I x = cd_I y ↔ x = y := by rw [← Int32.toInt_inj, cd_I_toInt hx, cd_I_toInt hy]
theorem cd_L_lt {x y : Int} (hx : cd_R64 x) (hy : cd_R64 y) : cd_L x < cd_L y ↔ x < y := by rw [Int64.lt_iff_toInt_lt, cd_L_toInt hx, cd_L_toInt hy]
theorem cd_L_le {x y : Int} (hx : cd_R64 x) (hy : cd_R64 y) : cd_L x ≤ cd_L y ↔ x ≤ y := by rw [Int64.le_iff_toInt_le, cd_L_toInt hx, cd_L_toInt hy]
theorem cd_L_eq {x y : Int} (hx : cd_R64 x) (hy : cd_R64 y) : cd_L x = cd_L y ↔ x = y := by rw [← Int64.toInt_inj, cd_L_toInt hx, cd_L_toInt hy]
theorem cd_R0 : cd_R32 0 := ⟨by decide, by decide⟩
theorem cd_I0 : (0 : Int32) = cd_I 0 := by decide
theorem cd_L0 : (0 : Int64) = cd_L 0 := by decide
theorem cd_addI (x y : Int) : cd_I x + cd_I y = cd_I (x + y) := (Int32.ofInt_add x y).symm
theorem cd_subI (x y : Int) : cd_I x - cd_I y = cd_I (x - y) := (Int32.ofInt_sub x y).symm
theorem cd_mulI (x y : Int) : cd_I x * cd_I y = cd_I (x * y) := (Int32.ofInt_mul x y).symm
theorem cd_negI (x : Int) : -cd_I x = cd_I (-x) := (Int32.ofInt_neg x).symm
theorem cd_addL (x y : Int) : cd_L x + cd_L y = cd_L (x + y) := (Int64.ofInt_add x y).symm
theorem cd_subL (x y : Int) : cd_L x - cd_L y = cd_L (x - y) := (Int64.ofInt_sub x y).symm
theorem cd_mulL (x y : Int) : cd_L x * cd_L y = cd_L (x * y) := (Int64.ofInt_mul x y).symm
theorem cd_negL (x : Int) : -cd_L x = cd_L (-x) := (Int64.ofInt_neg x).symm
theorem cd_64 {x : Int} (h : cd_R32 x) : cd_R64 x := by
  obtain ⟨h1, h2⟩ := h
  exact ⟨by omega, by omega⟩
theorem cd_i2lE {x : Int} (h : cd_R32 x) : (cd_I x).toInt64 = cd_L x := by
  rw [← Int64.toInt_inj, Int32.toInt_toInt64, cd_I_toInt h, cd_L_toInt (cd_64 h)]
theorem cd_l2iE (x : Int) : (cd_L x).toInt32 = cd_I x := Int64.toInt32_ofInt
theorem cd_ldivE {x y : Int} (hx : cd_R64 x) (hy : cd_R64 y) (h0 : 0 < y) : cd_L x / cd_L y = cd_L (x.tdiv y) := by
  rw [← Int64.toInt_inj, Int64.toInt_div_of_ne_right, cd_L_toInt hx, cd_L_toInt hy, cd_L_toInt]
  · obtain ⟨h1, h2⟩ := hx
    have e1 : (x.tdiv y).natAbs ≤ x.natAbs := Int.natAbs_tdiv_le_natAbs x y
    by_cases hs : x.tdiv y = -9223372036854775808
    · exact ⟨by omega, by omega⟩
    · by_cases hq : 0 ≤ x
      · have e2 : 0 ≤ x.tdiv y := Int.tdiv_nonneg hq (by omega)
        exact ⟨by omega, by omega⟩
      · have e2 : x.tdiv y ≤ 0 := by
          have e3 := Int.tdiv_nonneg (a := -x) (b := y) (by omega) (by omega)
          rw [Int.neg_tdiv] at e3
          omega
        exact ⟨by omega, by omega⟩
  · intro h
    have h2 := congrArg Int64.toInt h
    rw [cd_L_toInt hy] at h2
    have h3 : (-1 : Int64).toInt = -1 := by decide
    omega
theorem cd_lremE {x y : Int} (hx : cd_R64 x) (hy : cd_R64 y) (hx0 : 0 ≤ x) (h0 : 0 < y) : cd_L x - cd_L x / cd_L y * cd_L y = cd_L (x % y) := by
  rw [cd_ldivE hx hy h0, cd_mulL, cd_subL]
  congr 1
  rw [Int.tdiv_eq_ediv_of_nonneg hx0]
  have := Int.emod_add_mul_ediv x y
  have e : y * (x / y) = x / y * y := Int.mul_comm _ _
  omega
theorem cd_in {k N : Nat} (h : k < N) (hN : N < 2 ^ 31) : vp_in (cd_I (k : Int)) N := by
  rw [vp_in_iff, cd_I_toInt ⟨by omega, by omega⟩]
  omega
theorem cd_cl {k : Nat} (h : k < 2 ^ 31) : (cd_I (k : Int)).toNatClampNeg = k := by
  have e : (cd_I (k : Int)).toInt.toNat = k := by
    rw [cd_I_toInt ⟨by omega, by omega⟩]
    omega
  exact e
theorem cd_upd (g : Nat → Int) (k : Nat) (v : Int) : upd (cd_c g) k (cd_I v) = cd_c (cd_u g k v) := by
  funext j
  unfold upd cd_c cd_u
  by_cases h : j = k
  · simp [h]
  · simp [h]
theorem cd_updn (g : Nat → Nat) (k : Nat) (v : Nat) : upd (cd_n g) k (cd_I (v : Int)) = cd_n (cd_un g k v) := by
  funext j
  unfold upd cd_n cd_un
  by_cases h : j = k
  · simp [h]
  · simp [h]
theorem cd_c0 : (fun _ => 0 : Nat → Int32) = cd_c (fun _ => 0) := by
  funext j
  exact cd_I0
theorem cd_n0 : (fun _ => 0 : Nat → Int32) = cd_n (fun _ => 0) := by
  funext j
  exact cd_I0
section CDR
variable {p : Program} {l : Launch} {e : Env} {R : Room} {s : State} {m : MethodId} {args : Array Value} {below : List Frame} {meth : Method} {c : Code} {H : Heap} {locs : List Loc} {cells slots : Nat} {Q : State → Prop}
variable {cc : ByteArray} {pc : Nat} {ls : Array Slot} {rest : List Value}
theorem cd_iadd (hexec : p.tables.exec = Jvm.exec) (hb : c.code = cc) {x y : Int} (hdg : decode cc pc = .ok (.iadd, 1)) (k : W p l e R s m args below meth c H locs cells slots Q (F0 m (pc + 1) ls (.int (cd_I (x + y)) :: rest))) : W p l e R s m args below meth c H locs cells slots Q (F0 m pc ls (.int (cd_I y) :: .int (cd_I x) :: rest)) := lv_iadd hexec hb hdg (by rw [cd_addI]; exact k)
theorem cd_isub (hexec : p.tables.exec = Jvm.exec) (hb : c.code = cc) {x y : Int} (hdg : decode cc pc = .ok (.isub, 1)) (k : W p l e R s m args below meth c H locs cells slots Q (F0 m (pc + 1) ls (.int (cd_I (x - y)) :: rest))) : W p l e R s m args below meth c H locs cells slots Q (F0 m pc ls (.int (cd_I y) :: .int (cd_I x) :: rest)) := lv_isub hexec hb hdg (by rw [cd_subI]; exact k)
theorem cd_imul (hexec : p.tables.exec = Jvm.exec) (hb : c.code = cc) {x y : Int} (hdg : decode cc pc = .ok (.imul, 1)) (k : W p l e R s m args below meth c H locs cells slots Q (F0 m (pc + 1) ls (.int (cd_I (x * y)) :: rest))) : W p l e R s m args below meth c H locs cells slots Q (F0 m pc ls (.int (cd_I y) :: .int (cd_I x) :: rest)) := lv_imul hexec hb hdg (by rw [cd_mulI]; exact k)
theorem cd_ladd (hexec : p.tables.exec = Jvm.exec) (hb : c.code = cc) {x y : Int} (hdg : decode cc pc = .ok (.ladd, 1)) (k : W p l e R s m args below meth c H locs cells slots Q (F0 m (pc + 1) ls (.long (cd_L (x + y)) :: rest))) : W p l e R s m args below meth c H locs cells slots Q (F0 m pc ls (.long (cd_L y) :: .long (cd_L x) :: rest)) := lv_ladd hexec hb hdg (by rw [cd_addL]; exact k)
theorem cd_lsub (hexec : p.tables.exec = Jvm.exec) (hb : c.code = cc) {x y : Int} (hdg : decode cc pc = .ok (.lsub, 1)) (k : W p l e R s m args below meth c H locs cells slots Q (F0 m (pc + 1) ls (.long (cd_L (x - y)) :: rest))) : W p l e R s m args below meth c H locs cells slots Q (F0 m pc ls (.long (cd_L y) :: .long (cd_L x) :: rest)) := lv_lsub hexec hb hdg (by rw [cd_subL]; exact k)
theorem cd_lmul (hexec : p.tables.exec = Jvm.exec) (hb : c.code = cc) {x y : Int} (hdg : decode cc pc = .ok (.lmul, 1)) (k : W p l e R s m args below meth c H locs cells slots Q (F0 m (pc + 1) ls (.long (cd_L (x * y)) :: rest))) : W p l e R s m args below meth c H locs cells slots Q (F0 m pc ls (.long (cd_L y) :: .long (cd_L x) :: rest)) := lv_lmul hexec hb hdg (by rw [cd_mulL]; exact k)
theorem cd_ineg (hexec : p.tables.exec = Jvm.exec) (hb : c.code = cc) {x : Int} (hdg : decode cc pc = .ok (.ineg, 1)) (k : W p l e R s m args below meth c H locs cells slots Q (F0 m (pc + 1) ls (.int (cd_I (-x)) :: rest))) : W p l e R s m args below meth c H locs cells slots Q (F0 m pc ls (.int (cd_I x) :: rest)) := lv_ineg hexec hb hdg (by rw [cd_negI]; exact k)
theorem cd_lneg (hexec : p.tables.exec = Jvm.exec) (hb : c.code = cc) {x : Int} (hdg : decode cc pc = .ok (.lneg, 1)) (k : W p l e R s m args below meth c H locs cells slots Q (F0 m (pc + 1) ls (.long (cd_L (-x)) :: rest))) : W p l e R s m args below meth c H locs cells slots Q (F0 m pc ls (.long (cd_L x) :: rest)) := lv_lneg hexec hb hdg (by rw [cd_negL]; exact k)
theorem cd_i2l (hexec : p.tables.exec = Jvm.exec) (hb : c.code = cc) {x : Int} (hx : cd_R32 x) (hdg : decode cc pc = .ok (.i2l, 1)) (k : W p l e R s m args below meth c H locs cells slots Q (F0 m (pc + 1) ls (.long (cd_L x) :: rest))) : W p l e R s m args below meth c H locs cells slots Q (F0 m pc ls (.int (cd_I x) :: rest)) := lv_i2l hexec hb hdg (cd_i2lE hx) k
theorem cd_l2i (hexec : p.tables.exec = Jvm.exec) (hb : c.code = cc) {x : Int} (hdg : decode cc pc = .ok (.l2i, 1)) (k : W p l e R s m args below meth c H locs cells slots Q (F0 m (pc + 1) ls (.int (cd_I x) :: rest))) : W p l e R s m args below meth c H locs cells slots Q (F0 m pc ls (.long (cd_L x) :: rest)) := lv_l2i hexec hb hdg (cd_l2iE x) k
theorem cd_ne0 {y : Int} (hy : cd_R64 y) (h0 : 0 < y) : ¬ cd_L y = 0 := fun h => by
  have h2 := congrArg Int64.toInt h
  rw [cd_L_toInt hy] at h2
  have h3 : (0 : Int64).toInt = 0 := by decide
  omega
theorem cd_ldiv (hexec : p.tables.exec = Jvm.exec) (hb : c.code = cc) {x y : Int} (hx : cd_R64 x) (hy : cd_R64 y) (h0 : 0 < y) (hdg : decode cc pc = .ok (.ldiv, 1)) (k : W p l e R s m args below meth c H locs cells slots Q (F0 m (pc + 1) ls (.long (cd_L (x.tdiv y)) :: rest))) : W p l e R s m args below meth c H locs cells slots Q (F0 m pc ls (.long (cd_L y) :: .long (cd_L x) :: rest)) := lv_ldiv hexec hb hdg (cd_ne0 hy h0) (by rw [cd_ldivE hx hy h0]; exact k)
theorem cd_lrem (hexec : p.tables.exec = Jvm.exec) (hb : c.code = cc) {x y : Int} (hx : cd_R64 x) (hy : cd_R64 y) (hx0 : 0 ≤ x) (h0 : 0 < y) (hdg : decode cc pc = .ok (.lrem, 1)) (k : W p l e R s m args below meth c H locs cells slots Q (F0 m (pc + 1) ls (.long (cd_L (x % y)) :: rest))) : W p l e R s m args below meth c H locs cells slots Q (F0 m pc ls (.long (cd_L y) :: .long (cd_L x) :: rest)) := lv_lrem hexec hb hdg (cd_ne0 hy h0) (by rw [cd_lremE hx hy hx0 h0]; exact k)
theorem cd_icmp_eq (hexec : p.tables.exec = Jvm.exec) (hb : c.code = cc) {x y : Int} {off : Int} {tgt : Nat} (hx : cd_R32 x) (hy : cd_R32 y) (hdg : decode cc pc = .ok (.if_icmp .eq off, 3)) (ht : (pc : Int) + off = (tgt : Int)) (kt : x = y → W p l e R s m args below meth c H locs cells slots Q (F0 m tgt ls rest)) (kf : ¬ x = y → W p l e R s m args below meth c H locs cells slots Q (F0 m (pc + 3) ls rest)) : W p l e R s m args below meth c H locs cells slots Q (F0 m pc ls (.int (cd_I y) :: .int (cd_I x) :: rest)) := lv_icmp_eq hexec hb hdg ht (fun h => kt ((cd_I_eq hx hy).mp h)) (fun h => kf (fun q => h ((cd_I_eq hx hy).mpr q)))
theorem cd_if_eq (hexec : p.tables.exec = Jvm.exec) (hb : c.code = cc) {x : Int} {off : Int} {tgt : Nat} (hx : cd_R32 x) (hdg : decode cc pc = .ok (.ifCond .eq off, 3)) (ht : (pc : Int) + off = (tgt : Int)) (kt : x = 0 → W p l e R s m args below meth c H locs cells slots Q (F0 m tgt ls rest)) (kf : ¬ x = 0 → W p l e R s m args below meth c H locs cells slots Q (F0 m (pc + 3) ls rest)) : W p l e R s m args below meth c H locs cells slots Q (F0 m pc ls (.int (cd_I x) :: rest)) := by
  have hi : (cd_I x = (0 : Int32)) ↔ (x = 0) := by rw [cd_I0]; exact (cd_I_eq hx cd_R0)
  exact lv_if_eq hexec hb hdg ht (fun h => kt (hi.mp h)) (fun h => kf (fun q => h (hi.mpr q)))
theorem cd_lcmp_eq (hexec : p.tables.exec = Jvm.exec) (hb : c.code = cc) {x y : Int} {off : Int} {tgt : Nat} (hx : cd_R64 x) (hy : cd_R64 y) (hdg : decode cc pc = .ok (.lcmp, 1)) (hdg2 : decode cc (pc + 1) = .ok (.ifCond .eq off, 3)) (ht : ((pc + 1 : Nat) : Int) + off = (tgt : Int)) (kt : x = y → W p l e R s m args below meth c H locs cells slots Q (F0 m tgt ls rest)) (kf : ¬ x = y → W p l e R s m args below meth c H locs cells slots Q (F0 m (pc + 1 + 3) ls rest)) : W p l e R s m args below meth c H locs cells slots Q (F0 m pc ls (.long (cd_L y) :: .long (cd_L x) :: rest)) := by
  have hi : (lg_cmp (cd_L x) (cd_L y) = 0) ↔ (x = y) := (lg_cmp_eq _ _).trans (cd_L_eq hx hy)
  exact W.lcmp hexec hb hdg (lv_if_eq hexec hb hdg2 ht (fun h => kt (hi.mp h)) (fun h => kf (fun q => h (hi.mpr q))))
theorem cd_icmp_ne (hexec : p.tables.exec = Jvm.exec) (hb : c.code = cc) {x y : Int} {off : Int} {tgt : Nat} (hx : cd_R32 x) (hy : cd_R32 y) (hdg : decode cc pc = .ok (.if_icmp .ne off, 3)) (ht : (pc : Int) + off = (tgt : Int)) (kt : ¬ x = y → W p l e R s m args below meth c H locs cells slots Q (F0 m tgt ls rest)) (kf : x = y → W p l e R s m args below meth c H locs cells slots Q (F0 m (pc + 3) ls rest)) : W p l e R s m args below meth c H locs cells slots Q (F0 m pc ls (.int (cd_I y) :: .int (cd_I x) :: rest)) := lv_icmp_ne hexec hb hdg ht (fun h => kt (fun q => h ((cd_I_eq hx hy).mpr q))) (fun h => kf ((cd_I_eq hx hy).mp h))
theorem cd_if_ne (hexec : p.tables.exec = Jvm.exec) (hb : c.code = cc) {x : Int} {off : Int} {tgt : Nat} (hx : cd_R32 x) (hdg : decode cc pc = .ok (.ifCond .ne off, 3)) (ht : (pc : Int) + off = (tgt : Int)) (kt : ¬ x = 0 → W p l e R s m args below meth c H locs cells slots Q (F0 m tgt ls rest)) (kf : x = 0 → W p l e R s m args below meth c H locs cells slots Q (F0 m (pc + 3) ls rest)) : W p l e R s m args below meth c H locs cells slots Q (F0 m pc ls (.int (cd_I x) :: rest)) := by
  have hi : (cd_I x = (0 : Int32)) ↔ (x = 0) := by rw [cd_I0]; exact (cd_I_eq hx cd_R0)
  exact lv_if_ne hexec hb hdg ht (fun h => kt (fun q => h (hi.mpr q))) (fun h => kf (hi.mp h))
theorem cd_lcmp_ne (hexec : p.tables.exec = Jvm.exec) (hb : c.code = cc) {x y : Int} {off : Int} {tgt : Nat} (hx : cd_R64 x) (hy : cd_R64 y) (hdg : decode cc pc = .ok (.lcmp, 1)) (hdg2 : decode cc (pc + 1) = .ok (.ifCond .ne off, 3)) (ht : ((pc + 1 : Nat) : Int) + off = (tgt : Int)) (kt : ¬ x = y → W p l e R s m args below meth c H locs cells slots Q (F0 m tgt ls rest)) (kf : x = y → W p l e R s m args below meth c H locs cells slots Q (F0 m (pc + 1 + 3) ls rest)) : W p l e R s m args below meth c H locs cells slots Q (F0 m pc ls (.long (cd_L y) :: .long (cd_L x) :: rest)) := by
  have hi : (lg_cmp (cd_L x) (cd_L y) = 0) ↔ (x = y) := (lg_cmp_eq _ _).trans (cd_L_eq hx hy)
  exact W.lcmp hexec hb hdg (lv_if_ne hexec hb hdg2 ht (fun h => kt (fun q => h (hi.mpr q))) (fun h => kf (hi.mp h)))
theorem cd_icmp_lt (hexec : p.tables.exec = Jvm.exec) (hb : c.code = cc) {x y : Int} {off : Int} {tgt : Nat} (hx : cd_R32 x) (hy : cd_R32 y) (hdg : decode cc pc = .ok (.if_icmp .lt off, 3)) (ht : (pc : Int) + off = (tgt : Int)) (kt : x < y → W p l e R s m args below meth c H locs cells slots Q (F0 m tgt ls rest)) (kf : ¬ x < y → W p l e R s m args below meth c H locs cells slots Q (F0 m (pc + 3) ls rest)) : W p l e R s m args below meth c H locs cells slots Q (F0 m pc ls (.int (cd_I y) :: .int (cd_I x) :: rest)) := lv_icmp_lt hexec hb hdg ht (fun h => kt ((cd_I_lt hx hy).mp h)) (fun h => kf (fun q => h ((cd_I_lt hx hy).mpr q)))
theorem cd_if_lt (hexec : p.tables.exec = Jvm.exec) (hb : c.code = cc) {x : Int} {off : Int} {tgt : Nat} (hx : cd_R32 x) (hdg : decode cc pc = .ok (.ifCond .lt off, 3)) (ht : (pc : Int) + off = (tgt : Int)) (kt : x < 0 → W p l e R s m args below meth c H locs cells slots Q (F0 m tgt ls rest)) (kf : ¬ x < 0 → W p l e R s m args below meth c H locs cells slots Q (F0 m (pc + 3) ls rest)) : W p l e R s m args below meth c H locs cells slots Q (F0 m pc ls (.int (cd_I x) :: rest)) := by
  have hi : (cd_I x < (0 : Int32)) ↔ (x < 0) := by rw [cd_I0]; exact (cd_I_lt hx cd_R0)
  exact lv_if_lt hexec hb hdg ht (fun h => kt (hi.mp h)) (fun h => kf (fun q => h (hi.mpr q)))
theorem cd_lcmp_lt (hexec : p.tables.exec = Jvm.exec) (hb : c.code = cc) {x y : Int} {off : Int} {tgt : Nat} (hx : cd_R64 x) (hy : cd_R64 y) (hdg : decode cc pc = .ok (.lcmp, 1)) (hdg2 : decode cc (pc + 1) = .ok (.ifCond .lt off, 3)) (ht : ((pc + 1 : Nat) : Int) + off = (tgt : Int)) (kt : x < y → W p l e R s m args below meth c H locs cells slots Q (F0 m tgt ls rest)) (kf : ¬ x < y → W p l e R s m args below meth c H locs cells slots Q (F0 m (pc + 1 + 3) ls rest)) : W p l e R s m args below meth c H locs cells slots Q (F0 m pc ls (.long (cd_L y) :: .long (cd_L x) :: rest)) := by
  have hi : (lg_cmp (cd_L x) (cd_L y) < 0) ↔ (x < y) := (lg_cmp_lt _ _).trans (cd_L_lt hx hy)
  exact W.lcmp hexec hb hdg (lv_if_lt hexec hb hdg2 ht (fun h => kt (hi.mp h)) (fun h => kf (fun q => h (hi.mpr q))))
theorem cd_icmp_ge (hexec : p.tables.exec = Jvm.exec) (hb : c.code = cc) {x y : Int} {off : Int} {tgt : Nat} (hx : cd_R32 x) (hy : cd_R32 y) (hdg : decode cc pc = .ok (.if_icmp .ge off, 3)) (ht : (pc : Int) + off = (tgt : Int)) (kt : y ≤ x → W p l e R s m args below meth c H locs cells slots Q (F0 m tgt ls rest)) (kf : ¬ y ≤ x → W p l e R s m args below meth c H locs cells slots Q (F0 m (pc + 3) ls rest)) : W p l e R s m args below meth c H locs cells slots Q (F0 m pc ls (.int (cd_I y) :: .int (cd_I x) :: rest)) := lv_icmp_ge hexec hb hdg ht (fun h => kt ((cd_I_le hy hx).mp h)) (fun h => kf (fun q => h ((cd_I_le hy hx).mpr q)))
theorem cd_if_ge (hexec : p.tables.exec = Jvm.exec) (hb : c.code = cc) {x : Int} {off : Int} {tgt : Nat} (hx : cd_R32 x) (hdg : decode cc pc = .ok (.ifCond .ge off, 3)) (ht : (pc : Int) + off = (tgt : Int)) (kt : 0 ≤ x → W p l e R s m args below meth c H locs cells slots Q (F0 m tgt ls rest)) (kf : ¬ 0 ≤ x → W p l e R s m args below meth c H locs cells slots Q (F0 m (pc + 3) ls rest)) : W p l e R s m args below meth c H locs cells slots Q (F0 m pc ls (.int (cd_I x) :: rest)) := by
  have hi : ((0 : Int32) ≤ cd_I x) ↔ (0 ≤ x) := by rw [cd_I0]; exact (cd_I_le cd_R0 hx)
  exact lv_if_ge hexec hb hdg ht (fun h => kt (hi.mp h)) (fun h => kf (fun q => h (hi.mpr q)))
theorem cd_lcmp_ge (hexec : p.tables.exec = Jvm.exec) (hb : c.code = cc) {x y : Int} {off : Int} {tgt : Nat} (hx : cd_R64 x) (hy : cd_R64 y) (hdg : decode cc pc = .ok (.lcmp, 1)) (hdg2 : decode cc (pc + 1) = .ok (.ifCond .ge off, 3)) (ht : ((pc + 1 : Nat) : Int) + off = (tgt : Int)) (kt : y ≤ x → W p l e R s m args below meth c H locs cells slots Q (F0 m tgt ls rest)) (kf : ¬ y ≤ x → W p l e R s m args below meth c H locs cells slots Q (F0 m (pc + 1 + 3) ls rest)) : W p l e R s m args below meth c H locs cells slots Q (F0 m pc ls (.long (cd_L y) :: .long (cd_L x) :: rest)) := by
  have hi : (0 ≤ lg_cmp (cd_L x) (cd_L y)) ↔ (y ≤ x) := (lg_cmp_ge _ _).trans (cd_L_le hy hx)
  exact W.lcmp hexec hb hdg (lv_if_ge hexec hb hdg2 ht (fun h => kt (hi.mp h)) (fun h => kf (fun q => h (hi.mpr q))))
theorem cd_icmp_gt (hexec : p.tables.exec = Jvm.exec) (hb : c.code = cc) {x y : Int} {off : Int} {tgt : Nat} (hx : cd_R32 x) (hy : cd_R32 y) (hdg : decode cc pc = .ok (.if_icmp .gt off, 3)) (ht : (pc : Int) + off = (tgt : Int)) (kt : y < x → W p l e R s m args below meth c H locs cells slots Q (F0 m tgt ls rest)) (kf : ¬ y < x → W p l e R s m args below meth c H locs cells slots Q (F0 m (pc + 3) ls rest)) : W p l e R s m args below meth c H locs cells slots Q (F0 m pc ls (.int (cd_I y) :: .int (cd_I x) :: rest)) := lv_icmp_gt hexec hb hdg ht (fun h => kt ((cd_I_lt hy hx).mp h)) (fun h => kf (fun q => h ((cd_I_lt hy hx).mpr q)))
theorem cd_if_gt (hexec : p.tables.exec = Jvm.exec) (hb : c.code = cc) {x : Int} {off : Int} {tgt : Nat} (hx : cd_R32 x) (hdg : decode cc pc = .ok (.ifCond .gt off, 3)) (ht : (pc : Int) + off = (tgt : Int)) (kt : 0 < x → W p l e R s m args below meth c H locs cells slots Q (F0 m tgt ls rest)) (kf : ¬ 0 < x → W p l e R s m args below meth c H locs cells slots Q (F0 m (pc + 3) ls rest)) : W p l e R s m args below meth c H locs cells slots Q (F0 m pc ls (.int (cd_I x) :: rest)) := by
  have hi : ((0 : Int32) < cd_I x) ↔ (0 < x) := by rw [cd_I0]; exact (cd_I_lt cd_R0 hx)
  exact lv_if_gt hexec hb hdg ht (fun h => kt (hi.mp h)) (fun h => kf (fun q => h (hi.mpr q)))
theorem cd_lcmp_gt (hexec : p.tables.exec = Jvm.exec) (hb : c.code = cc) {x y : Int} {off : Int} {tgt : Nat} (hx : cd_R64 x) (hy : cd_R64 y) (hdg : decode cc pc = .ok (.lcmp, 1)) (hdg2 : decode cc (pc + 1) = .ok (.ifCond .gt off, 3)) (ht : ((pc + 1 : Nat) : Int) + off = (tgt : Int)) (kt : y < x → W p l e R s m args below meth c H locs cells slots Q (F0 m tgt ls rest)) (kf : ¬ y < x → W p l e R s m args below meth c H locs cells slots Q (F0 m (pc + 1 + 3) ls rest)) : W p l e R s m args below meth c H locs cells slots Q (F0 m pc ls (.long (cd_L y) :: .long (cd_L x) :: rest)) := by
  have hi : (0 < lg_cmp (cd_L x) (cd_L y)) ↔ (y < x) := (lg_cmp_gt _ _).trans (cd_L_lt hy hx)
  exact W.lcmp hexec hb hdg (lv_if_gt hexec hb hdg2 ht (fun h => kt (hi.mp h)) (fun h => kf (fun q => h (hi.mpr q))))
theorem cd_icmp_le (hexec : p.tables.exec = Jvm.exec) (hb : c.code = cc) {x y : Int} {off : Int} {tgt : Nat} (hx : cd_R32 x) (hy : cd_R32 y) (hdg : decode cc pc = .ok (.if_icmp .le off, 3)) (ht : (pc : Int) + off = (tgt : Int)) (kt : x ≤ y → W p l e R s m args below meth c H locs cells slots Q (F0 m tgt ls rest)) (kf : ¬ x ≤ y → W p l e R s m args below meth c H locs cells slots Q (F0 m (pc + 3) ls rest)) : W p l e R s m args below meth c H locs cells slots Q (F0 m pc ls (.int (cd_I y) :: .int (cd_I x) :: rest)) := lv_icmp_le hexec hb hdg ht (fun h => kt ((cd_I_le hx hy).mp h)) (fun h => kf (fun q => h ((cd_I_le hx hy).mpr q)))
theorem cd_if_le (hexec : p.tables.exec = Jvm.exec) (hb : c.code = cc) {x : Int} {off : Int} {tgt : Nat} (hx : cd_R32 x) (hdg : decode cc pc = .ok (.ifCond .le off, 3)) (ht : (pc : Int) + off = (tgt : Int)) (kt : x ≤ 0 → W p l e R s m args below meth c H locs cells slots Q (F0 m tgt ls rest)) (kf : ¬ x ≤ 0 → W p l e R s m args below meth c H locs cells slots Q (F0 m (pc + 3) ls rest)) : W p l e R s m args below meth c H locs cells slots Q (F0 m pc ls (.int (cd_I x) :: rest)) := by
  have hi : (cd_I x ≤ (0 : Int32)) ↔ (x ≤ 0) := by rw [cd_I0]; exact (cd_I_le hx cd_R0)
  exact lv_if_le hexec hb hdg ht (fun h => kt (hi.mp h)) (fun h => kf (fun q => h (hi.mpr q)))
theorem cd_lcmp_le (hexec : p.tables.exec = Jvm.exec) (hb : c.code = cc) {x y : Int} {off : Int} {tgt : Nat} (hx : cd_R64 x) (hy : cd_R64 y) (hdg : decode cc pc = .ok (.lcmp, 1)) (hdg2 : decode cc (pc + 1) = .ok (.ifCond .le off, 3)) (ht : ((pc + 1 : Nat) : Int) + off = (tgt : Int)) (kt : x ≤ y → W p l e R s m args below meth c H locs cells slots Q (F0 m tgt ls rest)) (kf : ¬ x ≤ y → W p l e R s m args below meth c H locs cells slots Q (F0 m (pc + 1 + 3) ls rest)) : W p l e R s m args below meth c H locs cells slots Q (F0 m pc ls (.long (cd_L y) :: .long (cd_L x) :: rest)) := by
  have hi : (lg_cmp (cd_L x) (cd_L y) ≤ 0) ↔ (x ≤ y) := (lg_cmp_le _ _).trans (cd_L_le hx hy)
  exact W.lcmp hexec hb hdg (lv_if_le hexec hb hdg2 ht (fun h => kt (hi.mp h)) (fun h => kf (fun q => h (hi.mpr q))))
theorem cd_toI {x y : Int} (h : x = y) (k : W p l e R s m args below meth c H locs cells slots Q (F0 m pc ls (.int (cd_I y) :: rest))) : W p l e R s m args below meth c H locs cells slots Q (F0 m pc ls (.int (cd_I x) :: rest)) := by
  rw [h]
  exact k
theorem cd_toL {x y : Int} (h : x = y) (k : W p l e R s m args below meth c H locs cells slots Q (F0 m pc ls (.long (cd_L y) :: rest))) : W p l e R s m args below meth c H locs cells slots Q (F0 m pc ls (.long (cd_L x) :: rest)) := by
  rw [h]
  exact k
theorem cd_ofI {v : Int32} (k : W p l e R s m args below meth c H locs cells slots Q (F0 m pc ls (.int (cd_I v.toInt) :: rest))) : W p l e R s m args below meth c H locs cells slots Q (F0 m pc ls (.int v :: rest)) := by
  have h : cd_I v.toInt = v := Int32.ofInt_toInt v
  rw [h] at k
  exact k
theorem cd_iinc (hexec : p.tables.exec = Jvm.exec) (hb : c.code = cc) {i nL k : Nat} {n : Int} {x : Int} {lv lv' : List (Nat × Value)} (hdg : decode cc pc = .ok (.iinc i n, 3)) (h : lv_has ls nL lv) (hk : lv[k]? = some (i, .int (cd_I x))) (hn : i < nL) (hl : (i, Value.int (cd_I (x + n))) :: lv.filter (fun q => !(q.1 == i) && !(q.1 + 1 == i && q.2.category == 2)) = lv')
    (kk : ∀ ls' : Array Slot, lv_has ls' nL lv' → W p l e R s m args below meth c H locs cells slots Q (F0 m (pc + 3) ls' rest)) : W p l e R s m args below meth c H locs cells slots Q (F0 m pc ls rest) := lv_iinc hexec hb hdg h hk (cd_addI x n) hn hl kk
variable {D : va_G} {cl : List vw_C} {A : Nat → Prop} {a : Nat} {tys : List (ClassId × FieldType)} {ws : va_W} {H0 : Heap}
theorem cd_iald (hexec : p.tables.exec = Jvm.exec) (hb : c.code = cc) (hK : va_K D cl tys s) (hP : va_P D cl ws H) (q0 t0 : Nat) {cA : ClassId} {n : Nat} {g : Nat → Int} (ha : ws[q0]? = some (a, .inl (cA, n, .inl (cd_c g)))) (ht : tys[t0]? = some (cA, .int)) {k : Nat} (hk : k < n) (hn : n < 2 ^ 31) (hdg : decode cc pc = .ok (.iaload, 1))
    (kk : W p l e R s m args below meth c H locs cells slots Q (F0 m (pc + 1) ls (.int (cd_I (g k)) :: rest))) : W p l e R s m args below meth c H locs cells slots Q (F0 m pc ls (.int (cd_I (k : Int)) :: .ref a :: rest)) := va_iald hexec hb hK hP q0 t0 ha ht (cd_in hk hn) hdg (by rw [cd_cl (by omega)]; exact kk)
theorem cd_ialdn (hexec : p.tables.exec = Jvm.exec) (hb : c.code = cc) (hK : va_K D cl tys s) (hP : va_P D cl ws H) (q0 t0 : Nat) {cA : ClassId} {n : Nat} {g : Nat → Nat} (ha : ws[q0]? = some (a, .inl (cA, n, .inl (cd_n g)))) (ht : tys[t0]? = some (cA, .int)) {k : Nat} (hk : k < n) (hn : n < 2 ^ 31) (hdg : decode cc pc = .ok (.iaload, 1))
    (kk : W p l e R s m args below meth c H locs cells slots Q (F0 m (pc + 1) ls (.int (cd_I ((g k : Nat) : Int)) :: rest))) : W p l e R s m args below meth c H locs cells slots Q (F0 m pc ls (.int (cd_I (k : Int)) :: .ref a :: rest)) := va_iald hexec hb hK hP q0 t0 ha ht (cd_in hk hn) hdg (by rw [cd_cl (by omega)]; exact kk)
theorem cd_iast (hexec : p.tables.exec = Jvm.exec) (hb : c.code = cc) (hK : va_K D cl tys s) (hP : va_P D cl ws H) (hD : va_D A ws) (hS : va_S A H0 H locs) (q0 t0 : Nat) {cA : ClassId} {n : Nat} {g : Nat → Int} (ha : ws[q0]? = some (a, .inl (cA, n, .inl (cd_c g)))) (ht : tys[t0]? = some (cA, .int)) {k : Nat} {v : Int} (hk : k < n) (hn : n < 2 ^ 31) (hdg : decode cc pc = .ok (.iastore, 1))
    (kk : ∀ (H1 : Heap) (locs1 : List Loc), va_P D cl (ws.set q0 (a, .inl (cA, n, .inl (cd_c (cd_u g k v))))) H1 → va_D A (ws.set q0 (a, .inl (cA, n, .inl (cd_c (cd_u g k v))))) → va_S A H0 H1 locs1 → W p l e R s m args below meth c H1 locs1 cells slots Q (F0 m (pc + 1) ls rest)) : W p l e R s m args below meth c H locs cells slots Q (F0 m pc ls (.int (cd_I v) :: .int (cd_I (k : Int)) :: .ref a :: rest)) :=
  va_iast hexec hb hK hP hD hS q0 t0 ha ht (cd_in hk hn) hdg (fun H1 locs1 h1 h2 h3 => by
    rw [cd_cl (by omega), cd_upd] at h1 h2
    exact kk H1 locs1 h1 h2 h3)
theorem cd_iastn (hexec : p.tables.exec = Jvm.exec) (hb : c.code = cc) (hK : va_K D cl tys s) (hP : va_P D cl ws H) (hD : va_D A ws) (hS : va_S A H0 H locs) (q0 t0 : Nat) {cA : ClassId} {n : Nat} {g : Nat → Nat} (ha : ws[q0]? = some (a, .inl (cA, n, .inl (cd_n g)))) (ht : tys[t0]? = some (cA, .int)) {k v : Nat} (hk : k < n) (hn : n < 2 ^ 31) (hdg : decode cc pc = .ok (.iastore, 1))
    (kk : ∀ (H1 : Heap) (locs1 : List Loc), va_P D cl (ws.set q0 (a, .inl (cA, n, .inl (cd_n (cd_un g k v))))) H1 → va_D A (ws.set q0 (a, .inl (cA, n, .inl (cd_n (cd_un g k v))))) → va_S A H0 H1 locs1 → W p l e R s m args below meth c H1 locs1 cells slots Q (F0 m (pc + 1) ls rest)) : W p l e R s m args below meth c H locs cells slots Q (F0 m pc ls (.int (cd_I (v : Int)) :: .int (cd_I (k : Int)) :: .ref a :: rest)) :=
  va_iast hexec hb hK hP hD hS q0 t0 ha ht (cd_in hk hn) hdg (fun H1 locs1 h1 h2 h3 => by
    rw [cd_cl (by omega), cd_updn] at h1 h2
    exact kk H1 locs1 h1 h2 h3)
theorem cd_get0 (hexec : p.tables.exec = Jvm.exec) (hb : c.code = cc) (hts : ∀ w ∈ lw_all, w.before args s = true) (hown : s.vm.findClass RX0 = some m.cls) (hK : va_K D vwCl tys s) (hP : va_P D vwCl ws H) (q0 : Nat) {fs : List Value} (he : ws[q0]? = some (a, .inr (0, fs))) (k : Nat) (hk : k < 23) {index : Nat} (hlink : (Cond.fieldLink RX0 index RX0 (TX0 k).2.1 (TX0 k).2.2.1) ∈ lw_all) (hsame : (TX0 k).1 = RX0) {v : Value} (hv : fs[k]? = some v) (hdg : decode cc pc = .ok (.getfield index, 3))
    (kk : W p l e R s m args below meth c H locs cells slots Q (F0 m (pc + 3) ls (v :: rest))) : W p l e R s m args below meth c H locs cells slots Q (F0 m pc ls (.ref a :: rest)) := va_get (C := RX0) (T := TX0) (N := 23) hexec hb hts in_X0 hown hK hP q0 he rfl k hk (hts _ hlink) (by rw [hsame]; exact fun _ h => h) hv hdg kk
theorem cd_put0 (hexec : p.tables.exec = Jvm.exec) (hb : c.code = cc) (hts : ∀ w ∈ lw_all, w.before args s = true) (hown : s.vm.findClass RX0 = some m.cls) (hK : va_K D vwCl tys s) (hP : va_P D vwCl ws H) (hD : va_D A ws) (hS0 : va_S A H0 H locs) (q0 : Nat) {fs : List Value} (he : ws[q0]? = some (a, .inr (0, fs))) (k : Nat) (hk : k < 23) {index : Nat} (hlink : (Cond.fieldLink RX0 index RX0 (TX0 k).2.1 (TX0 k).2.2.1) ∈ lw_all) (hsame : (TX0 k).1 = RX0) (hfin : (TX0 k).2.2.2 = false) {ty : FieldType} {v : Value} (hd : tyX0 k = ty) (hn : narrow ty v = v) (hfit : fits ty v = true) (hl : k < fs.length) (hdg : decode cc pc = .ok (.putfield index, 3))
    (kk : ∀ (H1 : Heap) (locs1 : List Loc), va_P D vwCl (ws.set q0 (a, .inr (0, fs.set k v))) H1 → va_D A (ws.set q0 (a, .inr (0, fs.set k v))) → va_S A H0 H1 locs1 → W p l e R s m args below meth c H1 locs1 cells slots Q (F0 m (pc + 3) ls rest)) : W p l e R s m args below meth c H locs cells slots Q (F0 m pc ls (v :: .ref a :: rest)) := va_put (C := RX0) (T := TX0) (N := 23) hexec hb hts in_X0 tyX0 tyX0_ok nmX0 hown hK hP hD hS0 q0 he rfl k hk (hts _ hlink) (by rw [hsame]; exact fun _ h => h) hfin (hd ▸ tyX0_ok k hk) hn hfit hl hdg kk
theorem cd_putF0 (hexec : p.tables.exec = Jvm.exec) (hb : c.code = cc) (hts : ∀ w ∈ lw_all, w.before args s = true) (hown : s.vm.findClass RX0 = some m.cls) (hK : va_K D vwCl tys s) (hP : va_P D vwCl ws H) (hD : va_D A ws) (hS0 : va_S A H0 H locs) (q0 : Nat) {fs : List Value} (he : ws[q0]? = some (a, .inr (0, fs))) (k : Nat) (hk : k < 23) {index : Nat} (hlink : (Cond.fieldLink RX0 index RX0 (TX0 k).2.1 (TX0 k).2.2.1) ∈ lw_all) (hsame : (TX0 k).1 = RX0) (hfin : (TX0 k).2.2.2 = true) (hini : meth.name = "<init>") {ty : FieldType} {v : Value} (hd : tyX0 k = ty) (hn : narrow ty v = v) (hfit : fits ty v = true) (hl : k < fs.length) (hdg : decode cc pc = .ok (.putfield index, 3))
    (kk : ∀ (H1 : Heap) (locs1 : List Loc), va_P D vwCl (ws.set q0 (a, .inr (0, fs.set k v))) H1 → va_D A (ws.set q0 (a, .inr (0, fs.set k v))) → va_S A H0 H1 locs1 → W p l e R s m args below meth c H1 locs1 cells slots Q (F0 m (pc + 3) ls rest)) : W p l e R s m args below meth c H locs cells slots Q (F0 m pc ls (v :: .ref a :: rest)) := va_putF (C := RX0) (T := TX0) (N := 23) hexec hb hts in_X0 tyX0 tyX0_ok nmX0 hown hK hP hD hS0 q0 he rfl k hk (hts _ hlink) (by rw [hsame]; exact fun _ h => h) hfin hini hsame (hd ▸ tyX0_ok k hk) hn hfit hl hdg kk
theorem cd_get1 (hexec : p.tables.exec = Jvm.exec) (hb : c.code = cc) (hts : ∀ w ∈ lw_all, w.before args s = true) (hown : s.vm.findClass RX1 = some m.cls) (hK : va_K D vwCl tys s) (hP : va_P D vwCl ws H) (q0 : Nat) {fs : List Value} (he : ws[q0]? = some (a, .inr (1, fs))) (k : Nat) (hk : k < 15) {index : Nat} (hlink : (Cond.fieldLink RX1 index RX1 (TX1 k).2.1 (TX1 k).2.2.1) ∈ lw_all) (hsame : (TX1 k).1 = RX1) {v : Value} (hv : fs[k]? = some v) (hdg : decode cc pc = .ok (.getfield index, 3))
    (kk : W p l e R s m args below meth c H locs cells slots Q (F0 m (pc + 3) ls (v :: rest))) : W p l e R s m args below meth c H locs cells slots Q (F0 m pc ls (.ref a :: rest)) := va_get (C := RX1) (T := TX1) (N := 15) hexec hb hts in_X1 hown hK hP q0 he rfl k hk (hts _ hlink) (by rw [hsame]; exact fun _ h => h) hv hdg kk
theorem cd_put1 (hexec : p.tables.exec = Jvm.exec) (hb : c.code = cc) (hts : ∀ w ∈ lw_all, w.before args s = true) (hown : s.vm.findClass RX1 = some m.cls) (hK : va_K D vwCl tys s) (hP : va_P D vwCl ws H) (hD : va_D A ws) (hS0 : va_S A H0 H locs) (q0 : Nat) {fs : List Value} (he : ws[q0]? = some (a, .inr (1, fs))) (k : Nat) (hk : k < 15) {index : Nat} (hlink : (Cond.fieldLink RX1 index RX1 (TX1 k).2.1 (TX1 k).2.2.1) ∈ lw_all) (hsame : (TX1 k).1 = RX1) (hfin : (TX1 k).2.2.2 = false) {ty : FieldType} {v : Value} (hd : tyX1 k = ty) (hn : narrow ty v = v) (hfit : fits ty v = true) (hl : k < fs.length) (hdg : decode cc pc = .ok (.putfield index, 3))
    (kk : ∀ (H1 : Heap) (locs1 : List Loc), va_P D vwCl (ws.set q0 (a, .inr (1, fs.set k v))) H1 → va_D A (ws.set q0 (a, .inr (1, fs.set k v))) → va_S A H0 H1 locs1 → W p l e R s m args below meth c H1 locs1 cells slots Q (F0 m (pc + 3) ls rest)) : W p l e R s m args below meth c H locs cells slots Q (F0 m pc ls (v :: .ref a :: rest)) := va_put (C := RX1) (T := TX1) (N := 15) hexec hb hts in_X1 tyX1 tyX1_ok nmX1 hown hK hP hD hS0 q0 he rfl k hk (hts _ hlink) (by rw [hsame]; exact fun _ h => h) hfin (hd ▸ tyX1_ok k hk) hn hfit hl hdg kk
theorem cd_putF1 (hexec : p.tables.exec = Jvm.exec) (hb : c.code = cc) (hts : ∀ w ∈ lw_all, w.before args s = true) (hown : s.vm.findClass RX1 = some m.cls) (hK : va_K D vwCl tys s) (hP : va_P D vwCl ws H) (hD : va_D A ws) (hS0 : va_S A H0 H locs) (q0 : Nat) {fs : List Value} (he : ws[q0]? = some (a, .inr (1, fs))) (k : Nat) (hk : k < 15) {index : Nat} (hlink : (Cond.fieldLink RX1 index RX1 (TX1 k).2.1 (TX1 k).2.2.1) ∈ lw_all) (hsame : (TX1 k).1 = RX1) (hfin : (TX1 k).2.2.2 = true) (hini : meth.name = "<init>") {ty : FieldType} {v : Value} (hd : tyX1 k = ty) (hn : narrow ty v = v) (hfit : fits ty v = true) (hl : k < fs.length) (hdg : decode cc pc = .ok (.putfield index, 3))
    (kk : ∀ (H1 : Heap) (locs1 : List Loc), va_P D vwCl (ws.set q0 (a, .inr (1, fs.set k v))) H1 → va_D A (ws.set q0 (a, .inr (1, fs.set k v))) → va_S A H0 H1 locs1 → W p l e R s m args below meth c H1 locs1 cells slots Q (F0 m (pc + 3) ls rest)) : W p l e R s m args below meth c H locs cells slots Q (F0 m pc ls (v :: .ref a :: rest)) := va_putF (C := RX1) (T := TX1) (N := 15) hexec hb hts in_X1 tyX1 tyX1_ok nmX1 hown hK hP hD hS0 q0 he rfl k hk (hts _ hlink) (by rw [hsame]; exact fun _ h => h) hfin hini hsame (hd ▸ tyX1_ok k hk) hn hfit hl hdg kk
/-- what a method of this claim starts from: a world that it reads (cd_W0), a world that it may change (cd_W1) -/
def cd_W0 (D : va_G) (cl : List vw_C) (tys : List (ClassId × FieldType)) (ws : va_W) (U : State) : Prop := va_P D cl ws U.heap ∧ va_K D cl tys U
def cd_W1 (D : va_G) (cl : List vw_C) (tys : List (ClassId × FieldType)) (ws : va_W) (sz : Nat) (U : State) : Prop := U.heap.size = sz ∧ va_P D cl ws U.heap ∧ va_K D cl tys U ∧ va_D (fun _ => True) ws
/-- the world behind it -/
def cd_B {S : Type} (D : va_G) (cl : List vw_C) (A : Nat → Prop) (wf : S → va_W) (u : S) (t : State) : Prop := va_P D cl (wf u) t.heap ∧ va_D A (wf u)
theorem cd_bl0 {D : va_G} {cl : List vw_C} {tys : List (ClassId × FieldType)} {ws : va_W} {av : List Value} : FrameBlind (va_Pc av (cd_W0 D cl tys ws)) := fun a U g mk q => ⟨q.1, q.2.1, va_K.moved (u := U) (U := U.calling g mk a) (Vm.Alike.refl U.vm) q.2.2⟩
theorem cd_bl1 {D : va_G} {cl : List vw_C} {tys : List (ClassId × FieldType)} {ws : va_W} {sz : Nat} {av : List Value} : FrameBlind (va_Pc av (cd_W1 D cl tys ws sz)) := fun a U g mk q => ⟨q.1, q.2.1, q.2.2.1, va_K.moved (u := U) (U := U.calling g mk a) (Vm.Alike.refl U.vm) q.2.2.2.1, q.2.2.2.2⟩
theorem cd_blT {av : List Value} : FrameBlind (va_Pc av (fun _ => True)) := fun a U g mk q => q
theorem cd_pr0 {s : State} {H : Heap} {D : va_G} {cl : List vw_C} {tys : List (ClassId × FieldType)} {ws : va_W} {av : List Value} (hP : va_P D cl ws H) (hK : va_K D cl tys s) : ∀ U : State, U.heap = H → s.WarmedH U.vm → va_Pc av (cd_W0 D cl tys ws) av.toArray U := fun U hU hW => ⟨rfl, by rw [hU]; exact hP, va_K.moved hW.alike hK⟩
theorem cd_pr1 {s : State} {H : Heap} {D : va_G} {cl : List vw_C} {tys : List (ClassId × FieldType)} {ws : va_W} {A : Nat → Prop} {av : List Value} (hP : va_P D cl ws H) (hK : va_K D cl tys s) (hD : va_D A ws) : ∀ U : State, U.heap = H → s.WarmedH U.vm → va_Pc av (cd_W1 D cl tys ws H.size) av.toArray U := fun U hU hW => ⟨rfl, by rw [hU], by rw [hU]; exact hP, va_K.moved hW.alike hK, hD.weaken (fun _ _ _ _ => trivial)⟩
theorem cd_prT {s : State} {H : Heap} {av : List Value} : ∀ U : State, U.heap = H → s.WarmedH U.vm → va_Pc av (fun _ => True) av.toArray U := fun U hU hW => ⟨rfl, trivial⟩
variable {st0 : List Value} {av : Array Value} {A0 : Nat → Prop}
/-- behind a call that only reads -/
theorem cd_call0i {post : Int32 → Unit → Prop} (hr : va_Run p l e R s m args below meth c H locs cells slots 0 0 (F0 m pc ls st0) rest (va_Qi post (fun _ _ => True) (fun _ => False) av) (fun _ => False)) (hP : va_P D cl ws H) (hS : va_S A0 H0 H locs)
    (kk : ∀ (r : Int32) (H1 : Heap) (locs1 : List Loc), post r () → va_P D cl ws H1 → va_S A0 H0 H1 locs1 → W p l e R s m args below meth c H1 locs1 cells slots Q (F0 m (pc + 3) ls (.int r :: rest))) : W p l e R s m args below meth c H locs cells slots Q (F0 m pc ls st0) :=
  va_calli hr hS (fun _ _ h => h.elim) (fun _ h => h.elim) (fun r u t H1 locs1 ht hvm hp hB hz hk hS1 => kk r H1 locs1 hp (hP.kept (fun k q hq => hk q.1 (hP k q hq).lt (fun h => h))) hS1)
/-- behind a call that only reads -/
theorem cd_call0l {post : Int64 → Unit → Prop} (hr : va_Run p l e R s m args below meth c H locs cells slots 0 0 (F0 m pc ls st0) rest (va_Ql post (fun _ _ => True) (fun _ => False) av) (fun _ => False)) (hP : va_P D cl ws H) (hS : va_S A0 H0 H locs)
    (kk : ∀ (r : Int64) (H1 : Heap) (locs1 : List Loc), post r () → va_P D cl ws H1 → va_S A0 H0 H1 locs1 → W p l e R s m args below meth c H1 locs1 cells slots Q (F0 m (pc + 3) ls (.long r :: rest))) : W p l e R s m args below meth c H locs cells slots Q (F0 m pc ls st0) :=
  va_calll hr hS (fun _ _ h => h.elim) (fun _ h => h.elim) (fun r u t H1 locs1 ht hvm hp hB hz hk hS1 => kk r H1 locs1 hp (hP.kept (fun k q hq => hk q.1 (hP k q hq).lt (fun h => h))) hS1)
theorem cd_freeAll {ws : va_W} {A0 : Nat → Prop} {H0 H : Heap} {locs : List Loc} (hD : va_D A0 ws) (hS : va_S A0 H0 H locs) (hA : ∀ q, H0.size ≤ q → A0 q) : ∀ q, va_A ws H.size q → A0 q := by
  intro q h
  rcases h with ⟨k, e, h⟩ | h
  · exact hD.2 k (q, e) h
  · exact hA q (Nat.le_trans hS.1 h)
/-- behind a call that may change the whole world -/
theorem cd_call1i {S : Type} {post : Int32 → S → Prop} {wf : S → va_W} (hr : va_Run p l e R s m args below meth c H locs cells slots 0 0 (F0 m pc ls st0) rest (va_Qi post (cd_B D cl (va_A ws H.size) wf) (va_A ws H.size) av) (va_A ws H.size)) (hD : va_D A0 ws) (hS : va_S A0 H0 H locs) (hA : ∀ q, H0.size ≤ q → A0 q)
    (kk : ∀ (r : Int32) (u : S) (H1 : Heap) (locs1 : List Loc), post r u → va_P D cl (wf u) H1 → va_D A0 (wf u) → va_S A0 H0 H1 locs1 → W p l e R s m args below meth c H1 locs1 cells slots Q (F0 m (pc + 3) ls (.int r :: rest))) : W p l e R s m args below meth c H locs cells slots Q (F0 m pc ls st0) :=
  va_calli hr hS (fun q _ h => cd_freeAll hD hS hA q h) (cd_freeAll hD hS hA) (fun r u t H1 locs1 ht hvm hp hB hz hk hS1 => kk r u H1 locs1 hp (ht ▸ hB.1) (hB.2.weaken (fun _ q _ h => cd_freeAll hD hS hA q.1 h)) hS1)
theorem cd_call1v {S : Type} {post : S → Prop} {wf : S → va_W} (hr : va_Run p l e R s m args below meth c H locs cells slots 0 0 (F0 m pc ls st0) rest (va_Qv post (cd_B D cl (va_A ws H.size) wf) (va_A ws H.size) av) (va_A ws H.size)) (hD : va_D A0 ws) (hS : va_S A0 H0 H locs) (hA : ∀ q, H0.size ≤ q → A0 q)
    (kk : ∀ (u : S) (H1 : Heap) (locs1 : List Loc), post u → va_P D cl (wf u) H1 → va_D A0 (wf u) → va_S A0 H0 H1 locs1 → W p l e R s m args below meth c H1 locs1 cells slots Q (F0 m (pc + 3) ls rest)) : W p l e R s m args below meth c H locs cells slots Q (F0 m pc ls st0) :=
  va_callv hr hS (fun q _ h => cd_freeAll hD hS hA q h) (cd_freeAll hD hS hA) (fun u t H1 locs1 ht hvm hp hB hz hk hS1 => kk u H1 locs1 hp (ht ▸ hB.1) (hB.2.weaken (fun _ q _ h => cd_freeAll hD hS hA q.1 h)) hS1)
end CDR
end
section
/-! plane geometry over whole numbers: a point is (X / W, Y / W), W above 0; conditions a X + b Y ≤ c W -/
def cd_sat (a b c X Y W : Int) : Prop := a * X + b * Y ≤ c * W
def cd_S (n : Nat) (wo : Int) (j : Nat) : Prop := j < n ∧ ¬ (j : Int) = wo
def cd_feas (a b c : Nat → Int) (S : Nat → Prop) (X Y W : Int) : Prop := 0 < W ∧ ∀ j, S j → cd_sat (a j) (b j) (c j) X Y W
/-- (X', Y', W') is better than (X, Y, W): first p x + q y, then the smaller x, then the smaller y -/
def cd_btr (p q X' Y' W' X Y W : Int) : Prop := (p * X + q * Y) * W' < (p * X' + q * Y') * W ∨ ((p * X + q * Y) * W' = (p * X' + q * Y') * W ∧ (X' * W < X * W' ∨ (X' * W = X * W' ∧ Y' * W < Y * W')))
def cd_opt (a b c : Nat → Int) (S : Nat → Prop) (p q X Y W : Int) : Prop := cd_feas a b c S X Y W ∧ ∀ X' Y' W' : Int, cd_feas a b c S X' Y' W' → ¬ cd_btr p q X' Y' W' X Y W
/-- (X, Y, W) is the meeting point of the lines i and j -/
def cd_cr (a b c : Nat → Int) (i j : Nat) (X Y W : Int) : Prop := 0 < W ∧ ((W = a i * b j - a j * b i ∧ X = c i * b j - c j * b i ∧ Y = a i * c j - a j * c i) ∨ (W = -(a i * b j - a j * b i) ∧ X = -(c i * b j - c j * b i) ∧ Y = -(a i * c j - a j * c i)))
def cd_corn (a b c : Nat → Int) (S : Nat → Prop) (X Y W : Int) : Prop := ∃ i j, S i ∧ S j ∧ cd_cr a b c i j X Y W
/-- the conditions of the desk: the four of the frame first -/
def cd_ok (a b c : Nat → Int) (n : Nat) : Prop := (4 ≤ n ∧ n ≤ 14) ∧ (a 0 = 1 ∧ b 0 = 0 ∧ c 0 = 50) ∧ (a 1 = -1 ∧ b 1 = 0 ∧ c 1 = 50) ∧ (a 2 = 0 ∧ b 2 = 1 ∧ c 2 = 50) ∧ (a 3 = 0 ∧ b 3 = -1 ∧ c 3 = 50) ∧ ∀ j, j < n → cd_b 9 (a j) ∧ cd_b 9 (b j) ∧ cd_b 99 (c j) ∧ ¬ (a j = 0 ∧ b j = 0)
theorem cd_np {N z : Int} (hN : 0 < N) (h : N * z ≤ 0) : z ≤ 0 := by
  rcases Int.lt_or_le 0 z with h1 | h1
  · have := Int.mul_pos hN h1
    omega
  · exact h1
theorem cd_nn {N z : Int} (hN : 0 < N) (h : 0 ≤ N * z) : 0 ≤ z := by
  rcases Int.lt_or_le z 0 with h1 | h1
  · have := Int.mul_neg_of_pos_of_neg hN h1
    omega
  · exact h1
theorem cd_pz {N z : Int} (hN : 0 < N) (h : 0 < N * z) : 0 < z := by
  rcases Int.lt_or_le 0 z with h1 | h1
  · exact h1
  · have := Int.mul_nonpos_of_nonneg_of_nonpos (Int.le_of_lt hN) h1
    omega
theorem cd_nz {N z : Int} (hN : 0 < N) (h : N * z < 0) : z < 0 := by
  rcases Int.lt_or_le z 0 with h1 | h1
  · exact h1
  · have := Int.mul_nonneg (Int.le_of_lt hN) h1
    omega
theorem cd_zz {N z : Int} (hN : 0 < N) (h : N * z = 0) : z = 0 := by
  rcases Int.mul_eq_zero.mp h with h1 | h1
  · omega
  · exact h1
theorem cd_sq (a : Int) : 0 ≤ a * a := by
  rcases Int.lt_or_le a 0 with h | h
  · have := Int.mul_nonneg (a := -a) (b := -a) (by omega) (by omega)
    rw [Int.neg_mul_neg] at this
    exact this
  · exact Int.mul_nonneg h h
theorem cd_N {a b : Int} (h : ¬ (a = 0 ∧ b = 0)) : 0 < a * a + b * b := by
  have h1 := cd_sq a
  have h2 := cd_sq b
  rcases Int.lt_or_le 0 (a * a + b * b) with h3 | h3
  · exact h3
  · have e1 : a * a = 0 := by omega
    have e2 : b * b = 0 := by omega
    have f1 : a = 0 := by
      rcases Int.mul_eq_zero.mp e1 with q | q <;> exact q
    have f2 : b = 0 := by
      rcases Int.mul_eq_zero.mp e2 with q | q <;> exact q
    exact absurd ⟨f1, f2⟩ h
/-- fractions: a/u ≤ b/v ≤ c/w -/
theorem cd_ftr {a u b v c w : Int} (hu : 0 < u) (hv : 0 < v) (hw : 0 < w) (h1 : a * v ≤ b * u) (h2 : b * w ≤ c * v) : a * w ≤ c * u := by
  have e1 := Int.mul_le_mul_of_nonneg_left h1 (Int.le_of_lt hw)
  have e2 := Int.mul_le_mul_of_nonneg_left h2 (Int.le_of_lt hu)
  have f1 : w * (a * v) = v * (a * w) := by grind
  have f2 : w * (b * u) = u * (b * w) := by grind
  have f3 : u * (c * v) = v * (c * u) := by grind
  exact Int.le_of_mul_le_mul_left (a := v) (by omega) hv
theorem cd_lex {r D1 D2 D3 : Int} (hr : 0 ≤ r) (h : ¬ (D1 < 0 ∨ (D1 = 0 ∧ (0 < D2 ∨ (D2 = 0 ∧ 0 < D3))))) : ¬ (r * D1 < 0 ∨ (r * D1 = 0 ∧ (0 < r * D2 ∨ (r * D2 = 0 ∧ 0 < r * D3)))) := by
  intro g
  rcases Int.lt_or_le 0 r with h1 | h1
  · apply h
    rcases g with g | ⟨g1, g | ⟨g2, g3⟩⟩
    · exact Or.inl (cd_nz h1 g)
    · exact Or.inr ⟨cd_zz h1 g1, Or.inl (cd_pz h1 g)⟩
    · exact Or.inr ⟨cd_zz h1 g1, Or.inr ⟨cd_zz h1 g2, cd_pz h1 g3⟩⟩
  · have e : r = 0 := by omega
    subst e
    simp at g
theorem cd_lexN {N D1 D2 D3 : Int} (hN : 0 < N) (h : ¬ (N * D1 < 0 ∨ (N * D1 = 0 ∧ (0 < N * D2 ∨ (N * D2 = 0 ∧ 0 < N * D3))))) : ¬ (D1 < 0 ∨ (D1 = 0 ∧ (0 < D2 ∨ (D2 = 0 ∧ 0 < D3)))) := by
  intro g
  apply h
  rcases g with g | ⟨g1, g | ⟨g2, g3⟩⟩
  · exact Or.inl (Int.mul_neg_of_pos_of_neg hN g)
  · exact Or.inr ⟨by rw [g1, Int.mul_zero], Or.inl (Int.mul_pos hN g)⟩
  · exact Or.inr ⟨by rw [g1, Int.mul_zero], Or.inr ⟨by rw [g2, Int.mul_zero], Int.mul_pos hN g3⟩⟩
theorem cd_btr_iff (p q X' Y' W' X Y W : Int) : cd_btr p q X' Y' W' X Y W ↔ ((p * X + q * Y) * W' - (p * X' + q * Y') * W < 0 ∨ ((p * X + q * Y) * W' - (p * X' + q * Y') * W = 0 ∧ (0 < X * W' - X' * W ∨ (X * W' - X' * W = 0 ∧ 0 < Y * W' - Y' * W)))) := by
  unfold cd_btr
  generalize (p * X + q * Y) * W' = u1
  generalize (p * X' + q * Y') * W = u2
  generalize X * W' = u3
  generalize X' * W = u4
  generalize Y * W' = u5
  generalize Y' * W = u6
  constructor
  · intro h
    omega
  · intro h
    omega
/-- not better: two in a row -/
theorem cd_trans {p q X1 Y1 W1 X2 Y2 W2 X3 Y3 W3 : Int} (h1 : 0 < W1) (h2 : 0 < W2) (h3 : 0 < W3) (g1 : ¬ cd_btr p q X1 Y1 W1 X2 Y2 W2) (g2 : ¬ cd_btr p q X2 Y2 W2 X3 Y3 W3) : ¬ cd_btr p q X1 Y1 W1 X3 Y3 W3 := by
  rw [cd_btr_iff] at g1 g2 ⊢
  have k1 := cd_lex (Int.le_of_lt h3) g1
  have k2 := cd_lex (Int.le_of_lt h1) g2
  refine cd_lexN h2 ?_
  have a1 : W2 * ((p * X3 + q * Y3) * W1 - (p * X1 + q * Y1) * W3) = W1 * ((p * X3 + q * Y3) * W2 - (p * X2 + q * Y2) * W3) + W3 * ((p * X2 + q * Y2) * W1 - (p * X1 + q * Y1) * W2) := by grind
  have a2 : W2 * (X3 * W1 - X1 * W3) = W1 * (X3 * W2 - X2 * W3) + W3 * (X2 * W1 - X1 * W2) := by grind
  have a3 : W2 * (Y3 * W1 - Y1 * W3) = W1 * (Y3 * W2 - Y2 * W3) + W3 * (Y2 * W1 - Y1 * W2) := by grind
  rw [a1, a2, a3]
  revert k1 k2
  generalize W1 * ((p * X3 + q * Y3) * W2 - (p * X2 + q * Y2) * W3) = u1
  generalize W3 * ((p * X2 + q * Y2) * W1 - (p * X1 + q * Y1) * W2) = u2
  generalize W1 * (X3 * W2 - X2 * W3) = u3
  generalize W3 * (X2 * W1 - X1 * W2) = u4
  generalize W1 * (Y3 * W2 - Y2 * W3) = u5
  generalize W3 * (Y2 * W1 - Y1 * W2) = u6
  intro k1 k2 k3
  omega
/-- neither is better: the same point -/
theorem cd_same {p q X1 Y1 W1 X2 Y2 W2 : Int} (g1 : ¬ cd_btr p q X1 Y1 W1 X2 Y2 W2) (g2 : ¬ cd_btr p q X2 Y2 W2 X1 Y1 W1) : X1 * W2 = X2 * W1 ∧ Y1 * W2 = Y2 * W1 := by
  rw [cd_btr_iff] at g1 g2
  revert g1 g2
  generalize (p * X2 + q * Y2) * W1 = u1
  generalize (p * X1 + q * Y1) * W2 = u2
  generalize X2 * W1 = u3
  generalize X1 * W2 = u4
  generalize Y2 * W1 = u5
  generalize Y1 * W2 = u6
  intro g1 g2
  omega
theorem cd_irr {p q X Y W : Int} : ¬ cd_btr p q X Y W X Y W := by
  unfold cd_btr
  omega
/-- a condition seen from the line of another -/
theorem cd_idn (a b c aj bj cj X Y W : Int) (h : a * X + b * Y = c * W) : (a * a + b * b) * (aj * X + bj * Y - cj * W) = (a * Y - b * X) * (a * bj - aj * b) - (a * (a * cj - aj * c) - b * (c * bj - cj * b)) * W := by
  have e : (a * a + b * b) * (aj * X + bj * Y - cj * W) - ((a * Y - b * X) * (a * bj - aj * b) - (a * (a * cj - aj * c) - b * (c * bj - cj * b)) * W) = (a * aj + b * bj) * ((a * X + b * Y) - c * W) := by grind
  rw [h, Int.sub_self, Int.mul_zero] at e
  exact Int.sub_eq_zero.mp e
theorem cd_onl {a b c aj bj cj X Y W : Int} (hN : ¬ (a = 0 ∧ b = 0)) (h : a * X + b * Y = c * W) : cd_sat aj bj cj X Y W ↔ (a * Y - b * X) * (a * bj - aj * b) ≤ (a * (a * cj - aj * c) - b * (c * bj - cj * b)) * W := by
  have e := cd_idn a b c aj bj cj X Y W h
  have hp := cd_N hN
  unfold cd_sat
  constructor
  · intro g
    have := Int.mul_nonpos_of_nonneg_of_nonpos (Int.le_of_lt hp) (show aj * X + bj * Y - cj * W ≤ 0 by omega)
    omega
  · intro g
    have := cd_np hp (z := aj * X + bj * Y - cj * W) (by omega)
    omega
/-- what parallelMeets answers -/
def cd_par (ak bk ck aj bj cj : Int) : Prop := (¬ ak = 0 → (0 < ak → aj * ck ≤ cj * ak) ∧ (¬ 0 < ak → cj * ak ≤ aj * ck)) ∧ (ak = 0 → (0 < bk → bj * ck ≤ cj * bk) ∧ (¬ 0 < bk → cj * bk ≤ bj * ck))
theorem cd_tz {t z d W : Int} (ht : ¬ t = 0) (e : t * z = d * W) (hW : 0 < W) : z ≤ 0 ↔ ((0 < t → d ≤ 0) ∧ (¬ 0 < t → 0 ≤ d)) := by
  rw [Int.mul_comm d W] at e
  constructor
  · intro h
    constructor
    · intro h1
      have := Int.mul_nonpos_of_nonneg_of_nonpos (Int.le_of_lt h1) h
      exact cd_np hW (by omega)
    · intro h1
      have := Int.mul_nonneg (a := -t) (b := -z) (by omega) (by omega)
      rw [Int.neg_mul_neg] at this
      exact cd_nn hW (by omega)
  · intro h
    rcases Int.lt_or_le 0 t with h1 | h1
    · have := Int.mul_nonpos_of_nonneg_of_nonpos (Int.le_of_lt hW) (h.1 h1)
      exact cd_np h1 (by omega)
    · have := Int.mul_nonneg (Int.le_of_lt hW) (h.2 (by omega))
      have e2 : -t * z = -(t * z) := Int.neg_mul t z
      exact cd_np (N := -t) (by omega) (by omega)
theorem cd_par_iff {ak bk ck aj bj cj X Y W : Int} (hN : ¬ (ak = 0 ∧ bk = 0)) (ht : ak * bj - aj * bk = 0) (hW : 0 < W) (h : ak * X + bk * Y = ck * W) : cd_par ak bk ck aj bj cj ↔ cd_sat aj bj cj X Y W := by
  unfold cd_par cd_sat
  by_cases h0 : ak = 0
  · subst h0
    have hb : ¬ bk = 0 := fun q => hN ⟨rfl, q⟩
    have haj : aj = 0 := by
      have : aj * bk = 0 := by omega
      rcases Int.mul_eq_zero.mp this with q | q
      · exact q
      · exact absurd q hb
    subst haj
    have e : bk * (0 * X + bj * Y - cj * W) = (bj * ck - cj * bk) * W := by
      have e1 : bk * (0 * X + bj * Y - cj * W) = bj * (0 * X + bk * Y) - cj * bk * W := by grind
      rw [e1, h]
      grind
    have k := cd_tz hb e hW
    constructor
    · intro g
      have g2 := g.2 rfl
      have := k.mpr ⟨fun q => by have := g2.1 q; omega, fun q => by have := g2.2 q; omega⟩
      omega
    · intro g
      have k2 := k.mp (by omega)
      exact ⟨fun q => absurd rfl q, fun _ => ⟨fun q => by have := k2.1 q; omega, fun q => by have := k2.2 q; omega⟩⟩
  · have e : ak * (aj * X + bj * Y - cj * W) = (aj * ck - cj * ak) * W := by
      have e1 : ak * (aj * X + bj * Y - cj * W) = aj * (ak * X + bk * Y) + (ak * bj - aj * bk) * Y - cj * ak * W := by grind
      rw [e1, h, ht]
      grind
    have k := cd_tz h0 e hW
    constructor
    · intro g
      have g2 := g.1 h0
      have := k.mpr ⟨fun q => by have := g2.1 q; omega, fun q => by have := g2.2 q; omega⟩
      omega
    · intro g
      have k2 := k.mp (by omega)
      exact ⟨fun _ => ⟨fun q => by have := k2.1 q; omega, fun q => by have := k2.2 q; omega⟩, fun q => absurd q h0⟩
/-- the stretch of the line k that the conditions of S leave -/
def cd_str (a b c : Nat → Int) (k : Nat) (S : Nat → Prop) (hL lx ly lw hH gx gy gw : Int) : Prop :=
  (hH = 0 ∨ hH = 1 ∧ ∃ j, S j ∧ cd_cr a b c k j gx gy gw) ∧ (hL = 0 ∨ hL = 1 ∧ ∃ j, S j ∧ cd_cr a b c k j lx ly lw) ∧
  (∀ j, S j → 0 < a k * b j - a j * b k → hH = 1) ∧ (∀ j, S j → a k * b j - a j * b k < 0 → hL = 1) ∧
  ∀ X Y W : Int, 0 < W → a k * X + b k * Y = c k * W → ((∀ j, S j → cd_sat (a j) (b j) (c j) X Y W) ↔ ((hH = 1 → (a k * Y - b k * X) * gw ≤ (a k * gy - b k * gx) * W) ∧ (hL = 1 → (a k * ly - b k * lx) * W ≤ (a k * Y - b k * X) * lw)))
theorem cd_str_0 {a b c : Nat → Int} {k : Nat} {S : Nat → Prop} {lx ly lw gx gy gw : Int} (hS : ∀ j, ¬ S j) : cd_str a b c k S 0 lx ly lw 0 gx gy gw :=
  ⟨Or.inl rfl, Or.inl rfl, fun j h => absurd h (hS j), fun j h => absurd h (hS j), fun X Y W _ _ => ⟨fun _ => ⟨fun h => absurd h (by decide), fun h => absurd h (by decide)⟩, fun _ j h => absurd h (hS j)⟩⟩
theorem cd_str_iff {a b c : Nat → Int} {k : Nat} {S S' : Nat → Prop} {hL lx ly lw hH gx gy gw : Int} (e : ∀ i, S' i ↔ S i) (h : cd_str a b c k S hL lx ly lw hH gx gy gw) : cd_str a b c k S' hL lx ly lw hH gx gy gw := by
  have e2 : S' = S := by
    funext i
    exact propext (e i)
  rw [e2]
  exact h
theorem cd_all {S S' : Nat → Prop} {j : Nat} (e : ∀ i, S' i ↔ (S i ∨ i = j)) (P : Nat → Prop) : (∀ i, S' i → P i) ↔ ((∀ i, S i → P i) ∧ P j) := by
  constructor
  · intro h
    exact ⟨fun i hi => h i ((e i).mpr (Or.inl hi)), h j ((e j).mpr (Or.inr rfl))⟩
  · intro h i hi
    rcases (e i).mp hi with q | q
    · exact h.1 i q
    · rw [q]
      exact h.2
theorem cd_str_par {a b c : Nat → Int} {k j : Nat} {S S' : Nat → Prop} {hL lx ly lw hH gx gy gw : Int} (hN : ¬ (a k = 0 ∧ b k = 0)) (e : ∀ i, S' i ↔ (S i ∨ i = j)) (ht : a k * b j - a j * b k = 0) (hp : cd_par (a k) (b k) (c k) (a j) (b j) (c j)) (h : cd_str a b c k S hL lx ly lw hH gx gy gw) : cd_str a b c k S' hL lx ly lw hH gx gy gw := by
  obtain ⟨h1, h2, h3, h4, h5⟩ := h
  refine ⟨?_, ?_, ?_, ?_, ?_⟩
  · rcases h1 with q | ⟨q, i, hi, hc⟩
    · exact Or.inl q
    · exact Or.inr ⟨q, i, (e i).mpr (Or.inl hi), hc⟩
  · rcases h2 with q | ⟨q, i, hi, hc⟩
    · exact Or.inl q
    · exact Or.inr ⟨q, i, (e i).mpr (Or.inl hi), hc⟩
  · intro i hi hd
    rcases (e i).mp hi with q | q
    · exact h3 i q hd
    · subst q
      omega
  · intro i hi hd
    rcases (e i).mp hi with q | q
    · exact h4 i q hd
    · subst q
      omega
  · intro X Y W hW hl
    rw [cd_all e (fun i => cd_sat (a i) (b i) (c i) X Y W), h5 X Y W hW hl]
    exact ⟨fun q => q.1, fun q => ⟨q, (cd_par_iff hN ht hW hl).mp hp⟩⟩
theorem cd_cr_on {a b c : Nat → Int} {i j : Nat} {X Y W : Int} (h : cd_cr a b c i j X Y W) : a i * X + b i * Y = c i * W := by
  obtain ⟨h0, ⟨h1, h2, h3⟩ | ⟨h1, h2, h3⟩⟩ := h
  · rw [h1, h2, h3]
    grind
  · rw [h1, h2, h3]
    grind
theorem cd_cr_swap {a b c : Nat → Int} {i j : Nat} {X Y W : Int} (h : cd_cr a b c i j X Y W) : cd_cr a b c j i X Y W := by
  obtain ⟨h0, ⟨h1, h2, h3⟩ | ⟨h1, h2, h3⟩⟩ := h
  · refine ⟨h0, Or.inr ⟨?_, ?_, ?_⟩⟩ <;> omega
  · refine ⟨h0, Or.inl ⟨?_, ?_, ?_⟩⟩ <;> omega
theorem cd_cr_b {a b c : Nat → Int} {i j : Nat} {X Y W : Int} (h : cd_cr a b c i j X Y W) (hai : cd_b 9 (a i)) (hbi : cd_b 9 (b i)) (hci : cd_b 99 (c i)) (haj : cd_b 9 (a j)) (hbj : cd_b 9 (b j)) (hcj : cd_b 99 (c j)) : cd_b 1782 X ∧ cd_b 1782 Y ∧ cd_b 162 W ∧ 0 < W := by
  have e1 : cd_b 162 (a i * b j - a j * b i) := cd_bS (cd_bM hai hbj) (cd_bM haj hbi)
  have e2 : cd_b 1782 (c i * b j - c j * b i) := cd_bS (cd_bM hci hbj) (cd_bM hcj hbi)
  have e3 : cd_b 1782 (a i * c j - a j * c i) := cd_bS (cd_bM hai hcj) (cd_bM haj hci)
  obtain ⟨h0, ⟨h1, h2, h3⟩ | ⟨h1, h2, h3⟩⟩ := h
  · rw [h1, h2, h3]
    exact ⟨e2, e3, e1, by omega⟩
  · rw [h1, h2, h3]
    exact ⟨cd_bN e2, cd_bN e3, cd_bN e1, by omega⟩
end
section
/-! the stretch of a line, its ends, and the best point -/
def cd_cutH (ak bk px py pw hH gx gy gw hH' gx' gy' gw' : Int) : Prop := (hH' = 1 ∧ gx' = px ∧ gy' = py ∧ gw' = pw ∧ (hH = 0 ∨ ¬ (ak * gy - bk * gx) * pw ≤ (ak * py - bk * px) * gw)) ∨ (hH' = hH ∧ gx' = gx ∧ gy' = gy ∧ gw' = gw ∧ hH = 1 ∧ (ak * gy - bk * gx) * pw ≤ (ak * py - bk * px) * gw)
def cd_cutL (ak bk px py pw hL lx ly lw hL' lx' ly' lw' : Int) : Prop := (hL' = 1 ∧ lx' = px ∧ ly' = py ∧ lw' = pw ∧ (hL = 0 ∨ ¬ (ak * py - bk * px) * lw ≤ (ak * ly - bk * lx) * pw)) ∨ (hL' = hL ∧ lx' = lx ∧ ly' = ly ∧ lw' = lw ∧ hL = 1 ∧ (ak * py - bk * px) * lw ≤ (ak * ly - bk * lx) * pw)
theorem cd_str_high {a b c : Nat → Int} {k j : Nat} {S S' : Nat → Prop} {hL lx ly lw hH gx gy gw hH' gx' gy' gw' : Int} (hN : ¬ (a k = 0 ∧ b k = 0)) (e : ∀ i, S' i ↔ (S i ∨ i = j)) (ht : 0 < a k * b j - a j * b k) (hc : cd_cutH (a k) (b k) (c k * b j - c j * b k) (a k * c j - a j * c k) (a k * b j - a j * b k) hH gx gy gw hH' gx' gy' gw') (h : cd_str a b c k S hL lx ly lw hH gx gy gw) : cd_str a b c k S' hL lx ly lw hH' gx' gy' gw' := by
  obtain ⟨h1, h2, h3, h4, h5⟩ := h
  have h2' : hL = 0 ∨ hL = 1 ∧ ∃ j, S' j ∧ cd_cr a b c k j lx ly lw := by
    rcases h2 with q | ⟨q, i, hi, hc⟩
    · exact Or.inl q
    · exact Or.inr ⟨q, i, (e i).mpr (Or.inl hi), hc⟩
  have h4' : ∀ i, S' i → a k * b i - a i * b k < 0 → hL = 1 := by
    intro i hi hd
    rcases (e i).mp hi with q | q
    · exact h4 i q hd
    · subst q
      omega
  rcases hc with ⟨e1, e2, e3, e4, hn⟩ | ⟨e1, e2, e3, e4, ho, hn⟩
  · subst e1 e2 e3 e4
    refine ⟨Or.inr ⟨rfl, j, (e j).mpr (Or.inr rfl), ht, Or.inl ⟨rfl, rfl, rfl⟩⟩, h2', fun _ _ _ => rfl, h4', ?_⟩
    intro X Y W hW hl
    rw [cd_all e (fun i => cd_sat (a i) (b i) (c i) X Y W), h5 X Y W hW hl, cd_onl hN hl]
    constructor
    · intro q
      exact ⟨fun _ => q.2, q.1.2⟩
    · intro q
      refine ⟨⟨fun hh => ?_, q.2⟩, q.1 rfl⟩
      rcases h1 with z | ⟨-, i, -, hcr⟩
      · rw [z] at hh
        exact absurd hh (by decide)
      · rcases hn with z | z
        · rw [z] at hh
          exact absurd hh (by decide)
        · exact cd_ftr hW ht hcr.1 (q.1 rfl) (by omega)
  · subst e1 e2 e3 e4
    have h1' : hH' = 0 ∨ hH' = 1 ∧ ∃ j, S' j ∧ cd_cr a b c k j gx' gy' gw' := by
      rcases h1 with q | ⟨q, i, hi, hc⟩
      · exact Or.inl q
      · exact Or.inr ⟨q, i, (e i).mpr (Or.inl hi), hc⟩
    refine ⟨h1', h2', fun _ _ _ => ho, h4', ?_⟩
    intro X Y W hW hl
    rw [cd_all e (fun i => cd_sat (a i) (b i) (c i) X Y W), h5 X Y W hW hl, cd_onl hN hl]
    constructor
    · intro q
      exact q.1
    · intro q
      refine ⟨q, ?_⟩
      rcases h1 with z | ⟨-, i, -, hcr⟩
      · rw [z] at ho
        exact absurd ho (by decide)
      · exact cd_ftr hW hcr.1 ht (q.1 ho) hn
theorem cd_str_low {a b c : Nat → Int} {k j : Nat} {S S' : Nat → Prop} {hL lx ly lw hH gx gy gw hL' lx' ly' lw' : Int} (hN : ¬ (a k = 0 ∧ b k = 0)) (e : ∀ i, S' i ↔ (S i ∨ i = j)) (ht : a k * b j - a j * b k < 0) (hc : cd_cutL (a k) (b k) (-(c k * b j - c j * b k)) (-(a k * c j - a j * c k)) (-(a k * b j - a j * b k)) hL lx ly lw hL' lx' ly' lw') (h : cd_str a b c k S hL lx ly lw hH gx gy gw) : cd_str a b c k S' hL' lx' ly' lw' hH gx gy gw := by
  obtain ⟨h1, h2, h3, h4, h5⟩ := h
  have h1' : hH = 0 ∨ hH = 1 ∧ ∃ j, S' j ∧ cd_cr a b c k j gx gy gw := by
    rcases h1 with q | ⟨q, i, hi, hc⟩
    · exact Or.inl q
    · exact Or.inr ⟨q, i, (e i).mpr (Or.inl hi), hc⟩
  have h3' : ∀ i, S' i → 0 < a k * b i - a i * b k → hH = 1 := by
    intro i hi hd
    rcases (e i).mp hi with q | q
    · exact h3 i q hd
    · subst q
      omega
  have hon : ∀ X Y W : Int, a k * X + b k * Y = c k * W → (cd_sat (a j) (b j) (c j) X Y W ↔ (a k * (-(a k * c j - a j * c k)) - b k * (-(c k * b j - c j * b k))) * W ≤ (a k * Y - b k * X) * (-(a k * b j - a j * b k))) := by
    intro X Y W hl
    rw [cd_onl hN hl]
    have q1 : (a k * (-(a k * c j - a j * c k)) - b k * (-(c k * b j - c j * b k))) * W = -((a k * (a k * c j - a j * c k) - b k * (c k * b j - c j * b k)) * W) := by grind
    have q2 : (a k * Y - b k * X) * (-(a k * b j - a j * b k)) = -((a k * Y - b k * X) * (a k * b j - a j * b k)) := by grind
    rw [q1, q2]
    constructor
    · intro z
      exact Int.neg_le_neg z
    · intro z
      exact Int.le_of_neg_le_neg z
  have ht' : 0 < -(a k * b j - a j * b k) := by omega
  rcases hc with ⟨e1, e2, e3, e4, hn⟩ | ⟨e1, e2, e3, e4, ho, hn⟩
  · subst e1 e2 e3 e4
    refine ⟨h1', Or.inr ⟨rfl, j, (e j).mpr (Or.inr rfl), ht', Or.inr ⟨rfl, rfl, rfl⟩⟩, h3', fun _ _ _ => rfl, ?_⟩
    intro X Y W hW hl
    rw [cd_all e (fun i => cd_sat (a i) (b i) (c i) X Y W), h5 X Y W hW hl, hon X Y W hl]
    constructor
    · intro q
      exact ⟨q.1.1, fun _ => q.2⟩
    · intro q
      refine ⟨⟨q.1, fun hh => ?_⟩, q.2 rfl⟩
      rcases h2 with z | ⟨-, i, -, hcr⟩
      · rw [z] at hh
        exact absurd hh (by decide)
      · rcases hn with z | z
        · rw [z] at hh
          exact absurd hh (by decide)
        · exact cd_ftr hcr.1 ht' hW (by omega) (q.2 rfl)
  · subst e1 e2 e3 e4
    have h2' : hL' = 0 ∨ hL' = 1 ∧ ∃ j, S' j ∧ cd_cr a b c k j lx' ly' lw' := by
      rcases h2 with q | ⟨q, i, hi, hc⟩
      · exact Or.inl q
      · exact Or.inr ⟨q, i, (e i).mpr (Or.inl hi), hc⟩
    refine ⟨h1', h2', h3', fun _ _ _ => ho, ?_⟩
    intro X Y W hW hl
    rw [cd_all e (fun i => cd_sat (a i) (b i) (c i) X Y W), h5 X Y W hW hl, hon X Y W hl]
    constructor
    · intro q
      exact q.1
    · intro q
      refine ⟨q, ?_⟩
      rcases h2 with z | ⟨-, i, -, hcr⟩
      · rw [z] at ho
        exact absurd ho (by decide)
      · exact cd_ftr ht' hcr.1 hW hn (q.2 ho)
/-- no point of the line k meets the conditions of S -/
def cd_none (a b c : Nat → Int) (k : Nat) (S : Nat → Prop) : Prop := ∀ X Y W : Int, 0 < W → a k * X + b k * Y = c k * W → ¬ ∀ j, S j → cd_sat (a j) (b j) (c j) X Y W
/-- (x, y, w) is the best point of the line k that meets the conditions of S -/
def cd_moved (a b c : Nat → Int) (k : Nat) (S : Nat → Prop) (p q x y w : Int) : Prop := (∃ j, S j ∧ cd_cr a b c k j x y w) ∧ (∀ j, S j → cd_sat (a j) (b j) (c j) x y w) ∧ ∀ X Y W : Int, 0 < W → a k * X + b k * Y = c k * W → (∀ j, S j → cd_sat (a j) (b j) (c j) X Y W) → ¬ cd_btr p q X Y W x y w
theorem cd_str_no {a b c : Nat → Int} {k : Nat} {S : Nat → Prop} {lx ly lw gx gy gw : Int} (h : cd_str a b c k S 1 lx ly lw 1 gx gy gw) (hn : ¬ (a k * ly - b k * lx) * gw ≤ (a k * gy - b k * gx) * lw) : cd_none a b c k S := by
  intro X Y W hW hl hs
  obtain ⟨h1, h2, h3, h4, h5⟩ := h
  obtain ⟨g1, g2⟩ := (h5 X Y W hW hl).mp hs
  rcases h1 with z | ⟨-, i, -, hcr⟩
  · exact absurd z (by decide)
  · rcases h2 with z | ⟨-, i', -, hcr'⟩
    · exact absurd z (by decide)
    · exact hn (cd_ftr hcr'.1 hW hcr.1 (g2 rfl) (g1 rfl))
theorem cd_str_one {a b c : Nat → Int} {k j : Nat} {S S' : Nat → Prop} (hN : ¬ (a k = 0 ∧ b k = 0)) (ht : a k * b j - a j * b k = 0) (hj : S j) (hp : ¬ cd_par (a k) (b k) (c k) (a j) (b j) (c j)) : cd_none a b c k S := fun X Y W hW hl hs => hp ((cd_par_iff hN ht hW hl).mpr (hs j hj))
theorem cd_lineU {a b c p q X Y W gx gy gw : Int} (hN : ¬ (a = 0 ∧ b = 0)) (hU : a * X + b * Y = c * W) (hG : a * gx + b * gy = c * gw) (hd : (a * Y - b * X) * gw ≤ (a * gy - b * gx) * W) (up : 0 < q * a - p * b ∨ (q * a - p * b = 0 ∧ (0 < b ∨ (b = 0 ∧ a < 0)))) : ¬ cd_btr p q X Y W gx gy gw := by
  rw [cd_btr_iff]
  refine cd_lexN (cd_N hN) ?_
  obtain ⟨d, hd2⟩ : ∃ d, d = (a * gy - b * gx) * W - (a * Y - b * X) * gw := ⟨_, rfl⟩
  have hd3 : 0 ≤ d := by omega
  have e2 : (a * a + b * b) * (gx * W - X * gw) = -(b * d) := by
    have e : (a * a + b * b) * (gx * W - X * gw) + b * d = a * W * (a * gx + b * gy) - a * gw * (a * X + b * Y) := by rw [hd2]; grind
    rw [hU, hG] at e
    have e3 : a * W * (c * gw) - a * gw * (c * W) = 0 := by grind
    omega
  have e3 : (a * a + b * b) * (gy * W - Y * gw) = a * d := by
    have e : (a * a + b * b) * (gy * W - Y * gw) - a * d = b * W * (a * gx + b * gy) - b * gw * (a * X + b * Y) := by rw [hd2]; grind
    rw [hU, hG] at e
    have e3 : b * W * (c * gw) - b * gw * (c * W) = 0 := by grind
    omega
  have e1 : (a * a + b * b) * ((p * gx + q * gy) * W - (p * X + q * Y) * gw) = (q * a - p * b) * d := by
    have e : (a * a + b * b) * ((p * gx + q * gy) * W - (p * X + q * Y) * gw) = p * ((a * a + b * b) * (gx * W - X * gw)) + q * ((a * a + b * b) * (gy * W - Y * gw)) := by grind
    rw [e, e2, e3]
    grind
  rw [e1, e2, e3]
  rcases up with u | ⟨u, v | ⟨v1, v2⟩⟩
  · intro g
    have q1 := Int.mul_nonneg (Int.le_of_lt u) hd3
    rcases g with g | ⟨g, g2⟩
    · omega
    · have dz := cd_zz u g
      rw [dz] at g2
      simp at g2
  · intro g
    rw [u] at g
    have q1 := Int.mul_nonneg (Int.le_of_lt v) hd3
    rcases g with g | ⟨g, g2 | ⟨g2, g3⟩⟩
    · omega
    · omega
    · have dz := cd_zz v (z := d) (by omega)
      rw [dz] at g3
      simp at g3
  · intro g
    rw [u, v1] at g
    have q1 := Int.mul_nonneg (a := -a) (by omega) hd3
    rw [Int.neg_mul] at q1
    rcases g with g | ⟨g, g2 | ⟨g2, g3⟩⟩
    · omega
    · omega
    · omega
theorem cd_lineL {a b c p q X Y W gx gy gw : Int} (hN : ¬ (a = 0 ∧ b = 0)) (hU : a * X + b * Y = c * W) (hG : a * gx + b * gy = c * gw) (hd : (a * gy - b * gx) * W ≤ (a * Y - b * X) * gw) (up : ¬ (0 < q * a - p * b ∨ (q * a - p * b = 0 ∧ (0 < b ∨ (b = 0 ∧ a < 0))))) : ¬ cd_btr p q X Y W gx gy gw := by
  refine cd_lineU (a := -a) (b := -b) (c := -c) ?_ ?_ ?_ ?_ ?_
  · intro z
    exact hN ⟨by omega, by omega⟩
  · have : -a * X + -b * Y = -(a * X + b * Y) := by grind
    rw [this, hU]
    grind
  · have : -a * gx + -b * gy = -(a * gx + b * gy) := by grind
    rw [this, hG]
    grind
  · have e1 : (-a * Y - -b * X) * gw = -((a * Y - b * X) * gw) := by grind
    have e2 : (-a * gy - -b * gx) * W = -((a * gy - b * gx) * W) := by grind
    rw [e1, e2]
    exact Int.neg_le_neg hd
  · have e1 : q * -a - p * -b = -(q * a - p * b) := by grind
    rw [e1]
    have hN2 : ¬ (a = 0 ∧ b = 0) := hN
    generalize q * a - p * b = g at up
    omega
theorem cd_moved_hi {a b c : Nat → Int} {k : Nat} {S : Nat → Prop} {p q lx ly lw gx gy gw : Int} (hN : ¬ (a k = 0 ∧ b k = 0)) (h : cd_str a b c k S 1 lx ly lw 1 gx gy gw) (hn : (a k * ly - b k * lx) * gw ≤ (a k * gy - b k * gx) * lw) (up : 0 < q * a k - p * b k ∨ (q * a k - p * b k = 0 ∧ (0 < b k ∨ (b k = 0 ∧ a k < 0)))) : cd_moved a b c k S p q gx gy gw := by
  obtain ⟨h1, h2, h3, h4, h5⟩ := h
  rcases h1 with z | ⟨-, i, hi, hcr⟩
  · exact absurd z (by decide)
  · refine ⟨⟨i, hi, hcr⟩, (h5 gx gy gw hcr.1 (cd_cr_on hcr)).mpr ⟨fun _ => Int.le_refl _, fun _ => hn⟩, ?_⟩
    intro X Y W hW hl hs
    exact cd_lineU hN hl (cd_cr_on hcr) (((h5 X Y W hW hl).mp hs).1 rfl) up
theorem cd_moved_lo {a b c : Nat → Int} {k : Nat} {S : Nat → Prop} {p q lx ly lw gx gy gw : Int} (hN : ¬ (a k = 0 ∧ b k = 0)) (h : cd_str a b c k S 1 lx ly lw 1 gx gy gw) (hn : (a k * ly - b k * lx) * gw ≤ (a k * gy - b k * gx) * lw) (up : ¬ (0 < q * a k - p * b k ∨ (q * a k - p * b k = 0 ∧ (0 < b k ∨ (b k = 0 ∧ a k < 0))))) : cd_moved a b c k S p q lx ly lw := by
  obtain ⟨h1, h2, h3, h4, h5⟩ := h
  rcases h2 with z | ⟨-, i, hi, hcr⟩
  · exact absurd z (by decide)
  · refine ⟨⟨i, hi, hcr⟩, (h5 lx ly lw hcr.1 (cd_cr_on hcr)).mpr ⟨fun _ => hn, fun _ => Int.le_refl _⟩, ?_⟩
    intro X Y W hW hl hs
    exact cd_lineL hN hl (cd_cr_on hcr) (((h5 X Y W hW hl).mp hs).2 rfl) up
theorem cd_sat_mix {a b c g r X Y W x y w : Int} (hg : 0 ≤ g) (hr : 0 ≤ r) (h1 : cd_sat a b c X Y W) (h2 : cd_sat a b c x y w) : cd_sat a b c (g * X + r * x) (g * Y + r * y) (g * W + r * w) := by
  unfold cd_sat at h1 h2 ⊢
  have e1 := Int.mul_le_mul_of_nonneg_left h1 hg
  have e2 := Int.mul_le_mul_of_nonneg_left h2 hr
  have f1 : a * (g * X + r * x) + b * (g * Y + r * y) = g * (a * X + b * Y) + r * (a * x + b * y) := by grind
  have f2 : c * (g * W + r * w) = g * (c * W) + r * (c * w) := by grind
  omega
theorem cd_cross {a b c : Nat → Int} {S : Nat → Prop} {k : Nat} {p q x y w X Y W : Int} (hw : 0 < w) (hs : ∀ j, S j → cd_sat (a j) (b j) (c j) x y w) (hk : ¬ cd_sat (a k) (b k) (c k) x y w) (hW : 0 < W) (hS : ∀ j, S j → cd_sat (a j) (b j) (c j) X Y W) (hkR : cd_sat (a k) (b k) (c k) X Y W) (hb : ¬ cd_btr p q X Y W x y w) : ∃ U V Z : Int, 0 < Z ∧ a k * U + b k * V = c k * Z ∧ (∀ j, S j → cd_sat (a j) (b j) (c j) U V Z) ∧ ¬ cd_btr p q X Y W U V Z := by
  unfold cd_sat at hk hkR
  obtain ⟨g, hg⟩ : ∃ g, g = a k * x + b k * y - c k * w := ⟨_, rfl⟩
  obtain ⟨r, hr⟩ : ∃ r, r = c k * W - (a k * X + b k * Y) := ⟨_, rfl⟩
  have hg0 : 0 < g := by omega
  have hr0 : 0 ≤ r := by omega
  refine ⟨g * X + r * x, g * Y + r * y, g * W + r * w, ?_, ?_, ?_, ?_⟩
  · have e1 := Int.mul_pos hg0 hW
    have e2 := Int.mul_nonneg hr0 (Int.le_of_lt hw)
    omega
  · have e : a k * (g * X + r * x) + b k * (g * Y + r * y) - c k * (g * W + r * w) = g * (a k * X + b k * Y - c k * W) + r * (a k * x + b k * y - c k * w) := by grind
    have e1 : a k * X + b k * Y - c k * W = -r := by omega
    rw [e1, ← hg] at e
    have e2 : g * -r + r * g = 0 := by grind
    omega
  · intro j hj
    exact cd_sat_mix (Int.le_of_lt hg0) hr0 (hS j hj) (hs j hj)
  · rw [cd_btr_iff] at hb ⊢
    have e1 : (p * (g * X + r * x) + q * (g * Y + r * y)) * W - (p * X + q * Y) * (g * W + r * w) = r * ((p * x + q * y) * W - (p * X + q * Y) * w) := by grind
    have e2 : (g * X + r * x) * W - X * (g * W + r * w) = r * (x * W - X * w) := by grind
    have e3 : (g * Y + r * y) * W - Y * (g * W + r * w) = r * (y * W - Y * w) := by grind
    rw [e1, e2, e3]
    exact cd_lex hr0 hb
theorem cd_step_yes {a b c : Nat → Int} {S S' : Nat → Prop} {k : Nat} {p q x y w x' y' w' : Int} (e : ∀ i, S' i ↔ (S i ∨ i = k)) (ho : cd_opt a b c S p q x y w) (hk : ¬ cd_sat (a k) (b k) (c k) x y w) (hm : cd_moved a b c k S p q x' y' w') : cd_opt a b c S' p q x' y' w' ∧ cd_corn a b c S' x' y' w' := by
  obtain ⟨⟨j, hj, hcr⟩, hf, hbest⟩ := hm
  obtain ⟨⟨hw, hs⟩, hopt⟩ := ho
  refine ⟨⟨⟨hcr.1, ?_⟩, ?_⟩, k, j, (e k).mpr (Or.inr rfl), (e j).mpr (Or.inl hj), hcr⟩
  · intro i hi
    rcases (e i).mp hi with z | z
    · exact hf i z
    · rw [z]
      exact Int.le_of_eq (cd_cr_on hcr)
  · intro X Y W hR
    have hRS : ∀ i, S i → cd_sat (a i) (b i) (c i) X Y W := fun i hi => hR.2 i ((e i).mpr (Or.inl hi))
    obtain ⟨U, V, Z, hZ, hl, hUs, hUb⟩ := cd_cross hw hs hk hR.1 hRS (hR.2 k ((e k).mpr (Or.inr rfl))) (hopt X Y W ⟨hR.1, hRS⟩)
    exact cd_trans hR.1 hZ hcr.1 hUb (hbest U V Z hZ hl hUs)
theorem cd_step_no {a b c : Nat → Int} {S S' : Nat → Prop} {k : Nat} {p q x y w : Int} (e : ∀ i, S' i ↔ (S i ∨ i = k)) (ho : cd_opt a b c S p q x y w) (hk : ¬ cd_sat (a k) (b k) (c k) x y w) (hm : cd_none a b c k S) : ∀ X Y W : Int, ¬ cd_feas a b c S' X Y W := by
  obtain ⟨⟨hw, hs⟩, hopt⟩ := ho
  intro X Y W hR
  have hRS : ∀ i, S i → cd_sat (a i) (b i) (c i) X Y W := fun i hi => hR.2 i ((e i).mpr (Or.inl hi))
  obtain ⟨U, V, Z, hZ, hl, hUs, hUb⟩ := cd_cross hw hs hk hR.1 hRS (hR.2 k ((e k).mpr (Or.inr rfl))) (hopt X Y W ⟨hR.1, hRS⟩)
  exact hm U V Z hZ hl hUs
theorem cd_step_in {a b c : Nat → Int} {S S' : Nat → Prop} {k : Nat} {p q x y w : Int} (e : ∀ i, S' i ↔ (S i ∨ i = k)) (ho : cd_opt a b c S p q x y w) (hk : cd_sat (a k) (b k) (c k) x y w) : cd_opt a b c S' p q x y w := by
  obtain ⟨⟨hw, hs⟩, hopt⟩ := ho
  refine ⟨⟨hw, ?_⟩, ?_⟩
  · intro i hi
    rcases (e i).mp hi with z | z
    · exact hs i z
    · rw [z]
      exact hk
  · intro X Y W hR
    exact hopt X Y W ⟨hR.1, fun i hi => hR.2 i ((e i).mpr (Or.inl hi))⟩
theorem cd_corn_mono {a b c : Nat → Int} {S S' : Nat → Prop} {x y w : Int} (e : ∀ i, S i → S' i) (h : cd_corn a b c S x y w) : cd_corn a b c S' x y w := by
  obtain ⟨i, j, hi, hj, hc⟩ := h
  exact ⟨i, j, e i hi, e j hj, hc⟩
theorem cd_S_skip {n : Nat} {wo : Int} (h : (n : Int) = wo) (i : Nat) : cd_S (n + 1) wo i ↔ cd_S n wo i := by
  unfold cd_S
  omega
theorem cd_S_add {n : Nat} {wo : Int} (h : ¬ (n : Int) = wo) (i : Nat) : cd_S (n + 1) wo i ↔ (cd_S n wo i ∨ i = n) := by
  unfold cd_S
  omega
theorem cd_init {a b c : Nat → Int} {n : Nat} {wo p q x y : Int} (hok : cd_ok a b c n) (hwo : wo = -1 ∨ 4 ≤ wo) (hx : (0 < p ∧ x = 50) ∨ (¬ 0 < p ∧ x = -50)) (hy : (0 < q ∧ y = 50) ∨ (¬ 0 < q ∧ y = -50)) : cd_opt a b c (cd_S 4 wo) p q x y 1 ∧ cd_corn a b c (cd_S 4 wo) x y 1 := by
  obtain ⟨-, ⟨a0, b0, c0⟩, ⟨a1, b1, c1⟩, ⟨a2, b2, c2⟩, ⟨a3, b3, c3⟩, -⟩ := hok
  have hS : ∀ i, i < 4 → cd_S 4 wo i := fun i hi => ⟨hi, by omega⟩
  refine ⟨⟨⟨by decide, ?_⟩, ?_⟩, ?_⟩
  · intro j hj
    obtain ⟨hj, -⟩ := hj
    unfold cd_sat
    match j, hj with
    | 0, _ => rw [a0, b0, c0]; omega
    | 1, _ => rw [a1, b1, c1]; omega
    | 2, _ => rw [a2, b2, c2]; omega
    | 3, _ => rw [a3, b3, c3]; omega
  · intro X Y W hR
    obtain ⟨hW, hR⟩ := hR
    have r0 := hR 0 (hS 0 (by decide))
    have r1 := hR 1 (hS 1 (by decide))
    have r2 := hR 2 (hS 2 (by decide))
    have r3 := hR 3 (hS 3 (by decide))
    unfold cd_sat at r0 r1 r2 r3
    rw [a0, b0, c0] at r0
    rw [a1, b1, c1] at r1
    rw [a2, b2, c2] at r2
    rw [a3, b3, c3] at r3
    rw [cd_btr_iff]
    obtain ⟨E, hE⟩ : ∃ E, E = x * W - X * 1 := ⟨_, rfl⟩
    obtain ⟨F, hF⟩ : ∃ F, F = y * W - Y * 1 := ⟨_, rfl⟩
    have e1 : (p * x + q * y) * W - (p * X + q * Y) * 1 = p * E + q * F := by rw [hE, hF]; grind
    rw [e1, ← hE, ← hF]
    have kE : 0 ≤ p * E ∧ (p * E = 0 → ¬ 0 < E) := by
      rcases hx with ⟨h1, h2⟩ | ⟨h1, h2⟩
      · subst h2
        refine ⟨Int.mul_nonneg (Int.le_of_lt h1) (by omega), fun z => ?_⟩
        have := cd_zz h1 z
        omega
      · subst h2
        have : 0 ≤ -p * -E := Int.mul_nonneg (by omega) (by omega)
        rw [Int.neg_mul_neg] at this
        exact ⟨this, fun _ => by omega⟩
    have kF : 0 ≤ q * F ∧ (q * F = 0 → ¬ 0 < F) := by
      rcases hy with ⟨h1, h2⟩ | ⟨h1, h2⟩
      · subst h2
        refine ⟨Int.mul_nonneg (Int.le_of_lt h1) (by omega), fun z => ?_⟩
        have := cd_zz h1 z
        omega
      · subst h2
        have : 0 ≤ -q * -F := Int.mul_nonneg (by omega) (by omega)
        rw [Int.neg_mul_neg] at this
        exact ⟨this, fun _ => by omega⟩
    obtain ⟨k1, k2⟩ := kE
    obtain ⟨k3, k4⟩ := kF
    rintro (g | ⟨g, g2 | ⟨g2, g3⟩⟩)
    · omega
    · exact k2 (by omega) g2
    · exact k4 (by omega) g3
  · rcases hx with ⟨-, h2⟩ | ⟨-, h2⟩
    · rcases hy with ⟨-, h3⟩ | ⟨-, h3⟩
      · exact ⟨0, 2, hS 0 (by decide), hS 2 (by decide), by decide, Or.inl (by rw [a0, b0, c0, a2, b2, c2, h2, h3]; decide)⟩
      · exact ⟨0, 3, hS 0 (by decide), hS 3 (by decide), by decide, Or.inr (by rw [a0, b0, c0, a3, b3, c3, h2, h3]; decide)⟩
    · rcases hy with ⟨-, h3⟩ | ⟨-, h3⟩
      · exact ⟨1, 2, hS 1 (by decide), hS 2 (by decide), by decide, Or.inr (by rw [a1, b1, c1, a2, b2, c2, h2, h3]; decide)⟩
      · exact ⟨1, 3, hS 1 (by decide), hS 3 (by decide), by decide, Or.inl (by rw [a1, b1, c1, a3, b3, c3, h2, h3]; decide)⟩
/-- behind the frame's four conditions both ends are there -/
theorem cd_str_both {a b c : Nat → Int} {n k : Nat} {wo hL lx ly lw hH gx gy gw : Int} (hok : cd_ok a b c n) (hwo : wo = -1 ∨ 4 ≤ wo) (hk : 4 ≤ k) (hN : ¬ (a k = 0 ∧ b k = 0)) (h : cd_str a b c k (cd_S k wo) hL lx ly lw hH gx gy gw) : hL = 1 ∧ hH = 1 := by
  obtain ⟨-, ⟨a0, b0, c0⟩, ⟨a1, b1, c1⟩, ⟨a2, b2, c2⟩, ⟨a3, b3, c3⟩, -⟩ := hok
  obtain ⟨-, -, h3, h4, -⟩ := h
  have hS : ∀ i, i < 4 → cd_S k wo i := fun i hi => ⟨by omega, by omega⟩
  have t0 : a k * b 0 - a 0 * b k = -b k := by rw [a0, b0]; omega
  have t1 : a k * b 1 - a 1 * b k = b k := by rw [a1, b1]; omega
  have t2 : a k * b 2 - a 2 * b k = a k := by rw [a2, b2]; omega
  have t3 : a k * b 3 - a 3 * b k = -a k := by rw [a3, b3]; omega
  by_cases hb : b k = 0
  · by_cases ha : 0 < a k
    · exact ⟨h4 3 (hS 3 (by decide)) (by omega), h3 2 (hS 2 (by decide)) (by omega)⟩
    · exact ⟨h4 2 (hS 2 (by decide)) (by omega), h3 3 (hS 3 (by decide)) (by omega)⟩
  · by_cases ha : 0 < b k
    · exact ⟨h4 0 (hS 0 (by decide)) (by omega), h3 1 (hS 1 (by decide)) (by omega)⟩
    · exact ⟨h4 1 (hS 1 (by decide)) (by omega), h3 0 (hS 0 (by decide)) (by omega)⟩
end
section
/-! CornerDesk: its cells, and the methods that call little -/
abbrev cd_D (dA : ClassId) (o0 o1 o2 o3 o4 n lv : Nat) (fa fb fc : Nat → Int) (fl : Nat → Nat) (x y w hL hH lx ly lw gx gy gw rm bx by_ bw ap aq : Int) : va_W := [(o0, .inr (0, [.int (cd_I ((n : Nat) : Int)), .ref o1, .ref o2, .ref o3, .int (cd_I ((lv : Nat) : Int)), .ref o4, .long (cd_L x), .long (cd_L y), .long (cd_L w), .int (cd_I hL), .int (cd_I hH), .long (cd_L lx), .long (cd_L ly), .long (cd_L lw), .long (cd_L gx), .long (cd_L gy), .long (cd_L gw), .int (cd_I rm), .long (cd_L bx), .long (cd_L by_), .long (cd_L bw), .int (cd_I ap), .int (cd_I aq)])), (o1, .inl (dA, 14, .inl (cd_c fa))), (o2, .inl (dA, 14, .inl (cd_c fb))), (o3, .inl (dA, 14, .inl (cd_c fc))), (o4, .inl (dA, 8, .inl (cd_n fl)))]
def cd_cond (a b c : Int) : Prop := (-9 ≤ a ∧ a ≤ 9 ∧ -9 ≤ b ∧ b ≤ 9 ∧ -99 ≤ c ∧ c ≤ 99) ∧ ¬ (a = 0 ∧ b = 0)
section CDR2
variable {p : Program} {l : Launch} {e : Env} {R : Room} {s : State} {m : MethodId} {args : Array Value} {below : List Frame} {meth : Method} {c : Code} {H : Heap} {locs : List Loc} {cells slots : Nat} {Q : State → Prop}
variable {pc : Nat} {ls : Array Slot} {rest : List Value}
theorem cd_isL {v : Int64} {x : Int} (h : v = cd_L x) (k : W p l e R s m args below meth c H locs cells slots Q (F0 m pc ls (.long (cd_L x) :: rest))) : W p l e R s m args below meth c H locs cells slots Q (F0 m pc ls (.long v :: rest)) := by
  rw [h]
  exact k
end CDR2
/-! the greatest common divisor's loop -/
def cd_gi (s u v : Nat) : Prop := u ≤ 40000 ∧ v ≤ 40000 ∧ (s = 0 ∨ (u < v ∧ u * v * 2 ^ s < 2 ^ 40))
theorem cd_gi_step {s u v : Nat} (h : cd_gi s u v) (hu : 0 < u) : cd_gi (s + 1) (v % u) u := by
  obtain ⟨h2, h3, h4⟩ := h
  have hm : v % u < u := Nat.mod_lt v hu
  refine ⟨by omega, h2, Or.inr ⟨hm, ?_⟩⟩
  rcases h4 with h4 | ⟨h4, h5⟩
  · subst h4
    have e1 : v % u * u ≤ 40000 * 40000 := Nat.mul_le_mul (by omega) h2
    have e2 : v % u * u * 2 ^ (0 + 1) ≤ 40000 * 40000 * 2 ^ (0 + 1) := Nat.mul_le_mul_right _ e1
    have e3 : 40000 * 40000 * 2 ^ (0 + 1) < 2 ^ 40 := by decide
    omega
  · have e1 : 2 * (v % u) ≤ v := by
      have q1 := Nat.div_add_mod v u
      have q2 : 1 ≤ v / u := (Nat.le_div_iff_mul_le hu).mpr (by omega)
      have q3 : u * 1 ≤ u * (v / u) := Nat.mul_le_mul_left u q2
      omega
    have e2 : v % u * u * 2 ^ (s + 1) = 2 * (v % u) * (u * 2 ^ s) := by
      rw [Nat.pow_succ]
      grind
    have e3 : 2 * (v % u) * (u * 2 ^ s) ≤ v * (u * 2 ^ s) := Nat.mul_le_mul_right _ e1
    have e4 : v * (u * 2 ^ s) = u * v * 2 ^ s := by grind
    omega
theorem cd_gi_end {s u v : Nat} (h : cd_gi s u v) (hu : 0 < u) : s < 40 := by
  obtain ⟨h2, h3, h4⟩ := h
  rcases h4 with h4 | ⟨h4, h5⟩
  · omega
  · rcases Nat.lt_or_ge s 40 with q | q
    · exact q
    · have e1 : 2 ^ 40 ≤ 2 ^ s := Nat.pow_le_pow_right (by decide) q
      have e2 : 1 * 2 ^ s ≤ u * v * 2 ^ s := Nat.mul_le_mul_right _ (Nat.mul_pos hu (by omega))
      omega
theorem cd_gcd_step (u v : Nat) : Nat.gcd u (v % u) = Nat.gcd v u := by
  rw [Nat.gcd_comm u (v % u), ← Nat.gcd_rec, Nat.gcd_comm]
set_option maxHeartbeats 4000000 in
set_option maxRecDepth 100000 in
/-- isCondition: whether the three numbers are a condition -/
theorem xd_isCondition (l : Launch) (a b d : Int) (ha : cd_R32 a) (hb1 : cd_R32 b) (hd : cd_R32 d) : Met l yX0_isCondition (ws_ yX0_isCondition cX0_isCondition 4 (some .boolean)) ({ frames := 0, cells := 0, slots := 0, locals := 0 }) (va_Pc [.int (cd_I a), .int (cd_I b), .int (cd_I d)] (fun _ => True)) (va_Qi (fun (r : Int32) (_ : Unit) => (r = cd_I 1 ∧ cd_cond a b d) ∨ (r = cd_I 0 ∧ ¬ cd_cond a b d)) (fun _ _ => True) (fun _ => False)) 0 0 (fun _ => False) := by
  refine Met.ofW (cc := cX0_isCondition) (maxL := 4) (ret := (some .boolean)) (by decide) rfl ?_
  intro p e s m args below meth c s₁ B hml hv
  obtain ⟨rfl, -⟩ := hv
  have hx := B.exec
  have hb := B.bytes
  have hr := B.returns
  have hts := atoms_spec (ws := (ws_ yX0_isCondition cX0_isCondition 4 (some .boolean))) B.pre
  have hts : ∀ w ∈ lw_all, w.before _ s = true := fun w h => hts w (List.mem_cons_of_mem _ h)
  have hown : s.vm.findClass RX0 = some m.cls := findClass_of_methodNamed B.named
  have hlocks := B.notSynchronized
  have hS : va_S (fun _ => False) s.heap s.heap [] := va_S.rf
  have hl := lv_entry ([.int (cd_I a), .int (cd_I b), .int (cd_I d)]) (n := 4) (Nat.le_of_ble_eq_true rfl)
  rw [lg_entry_eq]
  generalize (lg_sl ([.int (cd_I a), .int (cd_I b), .int (cd_I d)]) ++ List.replicate (4 - (lg_sl ([.int (cd_I a), .int (cd_I b), .int (cd_I d)])).length) Slot.unset).toArray = ls at hl ⊢
  have hl : lv_has ls 4 [(0, .int (cd_I a)), (1, .int (cd_I b)), (2, .int (cd_I d))] := hl
  refine lv_iload_n hx hb dX0_isCondition_0 rfl (lv_at hl 0 rfl) ?_
  refine lv_bipush (v := cd_I (-9)) hx hb dX0_isCondition_1 (by decide) ?_
  refine cd_icmp_lt (tgt := 40) hx hb ha ⟨by decide, by decide⟩ dX0_isCondition_3 (by decide) (fun c_1 => ?_) (fun c_1 => ?_)
  · refine lv_iconst (v := cd_I 0) hx hb dX0_isCondition_40 rfl ?_
    refine lv_istore_n (lv' := [(3, .int (cd_I 0)), (0, .int (cd_I a)), (1, .int (cd_I b)), (2, .int (cd_I d))]) hx hb dX0_isCondition_41 rfl hl (by decide) rfl (fun ls hl => ?_)
    refine lv_iload_n hx hb dX0_isCondition_42 rfl (lv_at hl 0 rfl) ?_
    refine cd_if_eq (tgt := 58) hx hb ⟨by decide, by decide⟩ dX0_isCondition_43 (by decide) (fun c_2 => ?_) (fun c_2 => absurd c_2 (by decide))
    refine lv_iconst (v := cd_I 0) hx hb dX0_isCondition_58 rfl ?_
    exact W.zret (v := cd_I 0) hx hb hr rfl (fun t ht hW => ⟨⟨cd_I 0, (), rfl, Or.inr ⟨rfl, by unfold cd_cond; omega⟩, trivial⟩, hS.F ht⟩) hS.2.2 dX0_isCondition_59
  · refine lv_iload_n hx hb dX0_isCondition_6 rfl (lv_at hl 0 rfl) ?_
    refine lv_bipush (v := cd_I 9) hx hb dX0_isCondition_7 (by decide) ?_
    refine cd_icmp_gt (tgt := 40) hx hb ha ⟨by decide, by decide⟩ dX0_isCondition_9 (by decide) (fun c_3 => ?_) (fun c_3 => ?_)
    · refine lv_iconst (v := cd_I 0) hx hb dX0_isCondition_40 rfl ?_
      refine lv_istore_n (lv' := [(3, .int (cd_I 0)), (0, .int (cd_I a)), (1, .int (cd_I b)), (2, .int (cd_I d))]) hx hb dX0_isCondition_41 rfl hl (by decide) rfl (fun ls hl => ?_)
      refine lv_iload_n hx hb dX0_isCondition_42 rfl (lv_at hl 0 rfl) ?_
      refine cd_if_eq (tgt := 58) hx hb ⟨by decide, by decide⟩ dX0_isCondition_43 (by decide) (fun c_4 => ?_) (fun c_4 => absurd c_4 (by decide))
      refine lv_iconst (v := cd_I 0) hx hb dX0_isCondition_58 rfl ?_
      exact W.zret (v := cd_I 0) hx hb hr rfl (fun t ht hW => ⟨⟨cd_I 0, (), rfl, Or.inr ⟨rfl, by unfold cd_cond; omega⟩, trivial⟩, hS.F ht⟩) hS.2.2 dX0_isCondition_59
    · refine lv_iload_n hx hb dX0_isCondition_12 rfl (lv_at hl 1 rfl) ?_
      refine lv_bipush (v := cd_I (-9)) hx hb dX0_isCondition_13 (by decide) ?_
      refine cd_icmp_lt (tgt := 40) hx hb hb1 ⟨by decide, by decide⟩ dX0_isCondition_15 (by decide) (fun c_5 => ?_) (fun c_5 => ?_)
      · refine lv_iconst (v := cd_I 0) hx hb dX0_isCondition_40 rfl ?_
        refine lv_istore_n (lv' := [(3, .int (cd_I 0)), (0, .int (cd_I a)), (1, .int (cd_I b)), (2, .int (cd_I d))]) hx hb dX0_isCondition_41 rfl hl (by decide) rfl (fun ls hl => ?_)
        refine lv_iload_n hx hb dX0_isCondition_42 rfl (lv_at hl 0 rfl) ?_
        refine cd_if_eq (tgt := 58) hx hb ⟨by decide, by decide⟩ dX0_isCondition_43 (by decide) (fun c_6 => ?_) (fun c_6 => absurd c_6 (by decide))
        refine lv_iconst (v := cd_I 0) hx hb dX0_isCondition_58 rfl ?_
        exact W.zret (v := cd_I 0) hx hb hr rfl (fun t ht hW => ⟨⟨cd_I 0, (), rfl, Or.inr ⟨rfl, by unfold cd_cond; omega⟩, trivial⟩, hS.F ht⟩) hS.2.2 dX0_isCondition_59
      · refine lv_iload_n hx hb dX0_isCondition_18 rfl (lv_at hl 1 rfl) ?_
        refine lv_bipush (v := cd_I 9) hx hb dX0_isCondition_19 (by decide) ?_
        refine cd_icmp_gt (tgt := 40) hx hb hb1 ⟨by decide, by decide⟩ dX0_isCondition_21 (by decide) (fun c_7 => ?_) (fun c_7 => ?_)
        · refine lv_iconst (v := cd_I 0) hx hb dX0_isCondition_40 rfl ?_
          refine lv_istore_n (lv' := [(3, .int (cd_I 0)), (0, .int (cd_I a)), (1, .int (cd_I b)), (2, .int (cd_I d))]) hx hb dX0_isCondition_41 rfl hl (by decide) rfl (fun ls hl => ?_)
          refine lv_iload_n hx hb dX0_isCondition_42 rfl (lv_at hl 0 rfl) ?_
          refine cd_if_eq (tgt := 58) hx hb ⟨by decide, by decide⟩ dX0_isCondition_43 (by decide) (fun c_8 => ?_) (fun c_8 => absurd c_8 (by decide))
          refine lv_iconst (v := cd_I 0) hx hb dX0_isCondition_58 rfl ?_
          exact W.zret (v := cd_I 0) hx hb hr rfl (fun t ht hW => ⟨⟨cd_I 0, (), rfl, Or.inr ⟨rfl, by unfold cd_cond; omega⟩, trivial⟩, hS.F ht⟩) hS.2.2 dX0_isCondition_59
        · refine lv_iload_n hx hb dX0_isCondition_24 rfl (lv_at hl 2 rfl) ?_
          refine lv_bipush (v := cd_I (-99)) hx hb dX0_isCondition_25 (by decide) ?_
          refine cd_icmp_lt (tgt := 40) hx hb hd ⟨by decide, by decide⟩ dX0_isCondition_27 (by decide) (fun c_9 => ?_) (fun c_9 => ?_)
          · refine lv_iconst (v := cd_I 0) hx hb dX0_isCondition_40 rfl ?_
            refine lv_istore_n (lv' := [(3, .int (cd_I 0)), (0, .int (cd_I a)), (1, .int (cd_I b)), (2, .int (cd_I d))]) hx hb dX0_isCondition_41 rfl hl (by decide) rfl (fun ls hl => ?_)
            refine lv_iload_n hx hb dX0_isCondition_42 rfl (lv_at hl 0 rfl) ?_
            refine cd_if_eq (tgt := 58) hx hb ⟨by decide, by decide⟩ dX0_isCondition_43 (by decide) (fun c_10 => ?_) (fun c_10 => absurd c_10 (by decide))
            refine lv_iconst (v := cd_I 0) hx hb dX0_isCondition_58 rfl ?_
            exact W.zret (v := cd_I 0) hx hb hr rfl (fun t ht hW => ⟨⟨cd_I 0, (), rfl, Or.inr ⟨rfl, by unfold cd_cond; omega⟩, trivial⟩, hS.F ht⟩) hS.2.2 dX0_isCondition_59
          · refine lv_iload_n hx hb dX0_isCondition_30 rfl (lv_at hl 2 rfl) ?_
            refine lv_bipush (v := cd_I 99) hx hb dX0_isCondition_31 (by decide) ?_
            refine cd_icmp_gt (tgt := 40) hx hb hd ⟨by decide, by decide⟩ dX0_isCondition_33 (by decide) (fun c_11 => ?_) (fun c_11 => ?_)
            · refine lv_iconst (v := cd_I 0) hx hb dX0_isCondition_40 rfl ?_
              refine lv_istore_n (lv' := [(3, .int (cd_I 0)), (0, .int (cd_I a)), (1, .int (cd_I b)), (2, .int (cd_I d))]) hx hb dX0_isCondition_41 rfl hl (by decide) rfl (fun ls hl => ?_)
              refine lv_iload_n hx hb dX0_isCondition_42 rfl (lv_at hl 0 rfl) ?_
              refine cd_if_eq (tgt := 58) hx hb ⟨by decide, by decide⟩ dX0_isCondition_43 (by decide) (fun c_12 => ?_) (fun c_12 => absurd c_12 (by decide))
              refine lv_iconst (v := cd_I 0) hx hb dX0_isCondition_58 rfl ?_
              exact W.zret (v := cd_I 0) hx hb hr rfl (fun t ht hW => ⟨⟨cd_I 0, (), rfl, Or.inr ⟨rfl, by unfold cd_cond; omega⟩, trivial⟩, hS.F ht⟩) hS.2.2 dX0_isCondition_59
            · refine lv_iconst (v := cd_I 1) hx hb dX0_isCondition_36 rfl ?_
              refine lv_goto (tgt := 41) hx hb dX0_isCondition_37 (by decide) ?_
              refine lv_istore_n (lv' := [(3, .int (cd_I 1)), (0, .int (cd_I a)), (1, .int (cd_I b)), (2, .int (cd_I d))]) hx hb dX0_isCondition_41 rfl hl (by decide) rfl (fun ls hl => ?_)
              refine lv_iload_n hx hb dX0_isCondition_42 rfl (lv_at hl 0 rfl) ?_
              refine cd_if_eq (tgt := 58) hx hb ⟨by decide, by decide⟩ dX0_isCondition_43 (by decide) (fun c_13 => absurd c_13 (by decide)) (fun c_13 => ?_)
              refine lv_iload_n hx hb dX0_isCondition_46 rfl (lv_at hl 1 rfl) ?_
              refine cd_if_ne (tgt := 54) hx hb ha dX0_isCondition_47 (by decide) (fun c_14 => ?_) (fun c_14 => ?_)
              · refine lv_iconst (v := cd_I 1) hx hb dX0_isCondition_54 rfl ?_
                refine lv_goto (tgt := 59) hx hb dX0_isCondition_55 (by decide) ?_
                exact W.zret (v := cd_I 1) hx hb hr rfl (fun t ht hW => ⟨⟨cd_I 1, (), rfl, Or.inl ⟨rfl, by unfold cd_cond; omega⟩, trivial⟩, hS.F ht⟩) hS.2.2 dX0_isCondition_59
              · refine lv_iload_n hx hb dX0_isCondition_50 rfl (lv_at hl 2 rfl) ?_
                refine cd_if_eq (tgt := 58) hx hb hb1 dX0_isCondition_51 (by decide) (fun c_15 => ?_) (fun c_15 => ?_)
                · refine lv_iconst (v := cd_I 0) hx hb dX0_isCondition_58 rfl ?_
                  exact W.zret (v := cd_I 0) hx hb hr rfl (fun t ht hW => ⟨⟨cd_I 0, (), rfl, Or.inr ⟨rfl, by unfold cd_cond; omega⟩, trivial⟩, hS.F ht⟩) hS.2.2 dX0_isCondition_59
                · refine lv_iconst (v := cd_I 1) hx hb dX0_isCondition_54 rfl ?_
                  refine lv_goto (tgt := 59) hx hb dX0_isCondition_55 (by decide) ?_
                  exact W.zret (v := cd_I 1) hx hb hr rfl (fun t ht hW => ⟨⟨cd_I 1, (), rfl, Or.inl ⟨rfl, by unfold cd_cond; omega⟩, trivial⟩, hS.F ht⟩) hS.2.2 dX0_isCondition_59

set_option maxHeartbeats 4000000 in
set_option maxRecDepth 100000 in
/-- upper: the numerator that is asked for -/
theorem xd_upper (l : Launch) (dC : Nat → ClassId) (dI : Nat → Nat → Nat) (dA : ClassId) (o0 o1 o2 o3 o4 n lv : Nat) (fa fb fc : Nat → Int) (fl : Nat → Nat) (x y w hL hH lx ly lw gx gy gw rm bx by_ bw ap aq : Int) (z : Int) (hz : cd_R32 z) (hap : cd_b 9 ap) (haq : cd_b 9 aq) : Met l yX0_upper (ws_ yX0_upper cX0_upper 2 (some .long)) ({ frames := 0, cells := 0, slots := 0, locals := 0 }) (va_Pc [.ref o0, .int (cd_I z)] (cd_W0 (dC, dI) vwCl [(dA, .int)] (cd_D dA o0 o1 o2 o3 o4 n lv fa fb fc fl x y w hL hH lx ly lw gx gy gw rm bx by_ bw ap aq))) (va_Ql (fun (r : Int64) (_ : Unit) => r = cd_L (if z = 1 then bx else if z = 2 then by_ else ap * bx + aq * by_)) (fun _ _ => True) (fun _ => False)) 0 0 (fun _ => False) := by
  refine Met.ofW (cc := cX0_upper) (maxL := 2) (ret := (some .long)) (by decide) rfl ?_
  intro p e s m args below meth c s₁ B hml hv
  obtain ⟨rfl, hP, hK⟩ := hv
  have hx := B.exec
  have hb := B.bytes
  have hr := B.returns
  have hts := atoms_spec (ws := (ws_ yX0_upper cX0_upper 2 (some .long))) B.pre
  have hts : ∀ w ∈ lw_all, w.before _ s = true := fun w h => hts w (List.mem_cons_of_mem _ h)
  have hown : s.vm.findClass RX0 = some m.cls := findClass_of_methodNamed B.named
  have hlocks := B.notSynchronized
  have hS : va_S (fun _ => False) s.heap s.heap [] := va_S.rf
  have hl := lv_entry ([.ref o0, .int (cd_I z)]) (n := 2) (Nat.le_of_ble_eq_true rfl)
  rw [lg_entry_eq]
  generalize (lg_sl ([.ref o0, .int (cd_I z)]) ++ List.replicate (2 - (lg_sl ([.ref o0, .int (cd_I z)])).length) Slot.unset).toArray = ls at hl ⊢
  have hl : lv_has ls 2 [(0, .ref o0), (1, .int (cd_I z))] := hl
  have hP : va_P (dC, dI) vwCl [(o0, .inr (0, [.int (cd_I ((n : Nat) : Int)), .ref o1, .ref o2, .ref o3, .int (cd_I ((lv : Nat) : Int)), .ref o4, .long (cd_L x), .long (cd_L y), .long (cd_L w), .int (cd_I hL), .int (cd_I hH), .long (cd_L lx), .long (cd_L ly), .long (cd_L lw), .long (cd_L gx), .long (cd_L gy), .long (cd_L gw), .int (cd_I rm), .long (cd_L bx), .long (cd_L by_), .long (cd_L bw), .int (cd_I ap), .int (cd_I aq)])), (o1, .inl (dA, 14, .inl (cd_c fa))), (o2, .inl (dA, 14, .inl (cd_c fb))), (o3, .inl (dA, 14, .inl (cd_c fc))), (o4, .inl (dA, 8, .inl (cd_n fl)))] s.heap := hP
  refine lv_iload_n hx hb dX0_upper_0 rfl (lv_at hl 1 rfl) ?_
  refine lv_iconst (v := cd_I 1) hx hb dX0_upper_1 rfl ?_
  refine cd_icmp_ne (tgt := 12) hx hb hz ⟨by decide, by decide⟩ dX0_upper_2 (by decide) (fun c_1 => ?_) (fun c_1 => ?_)
  · refine lv_iload_n hx hb dX0_upper_12 rfl (lv_at hl 1 rfl) ?_
    refine lv_iconst (v := cd_I 2) hx hb dX0_upper_13 rfl ?_
    refine cd_icmp_ne (tgt := 24) hx hb hz ⟨by decide, by decide⟩ dX0_upper_14 (by decide) (fun c_2 => ?_) (fun c_2 => ?_)
    · refine lv_aload_n hx hb dX0_upper_24 rfl (lv_at hl 0 rfl) ?_
      refine cd_get0 (v := .int (cd_I ap)) hx hb hts hown hK hP 0 rfl 21 (by decide) q50 rfl rfl dX0_upper_25 ?_
      refine cd_i2l hx hb (cd_bR32 hap (by decide)) dX0_upper_28 ?_
      refine lv_aload_n hx hb dX0_upper_29 rfl (lv_at hl 0 rfl) ?_
      refine cd_get0 (v := .long (cd_L bx)) hx hb hts hown hK hP 0 rfl 18 (by decide) q47 rfl rfl dX0_upper_30 ?_
      refine cd_lmul hx hb dX0_upper_33 ?_
      refine lv_aload_n hx hb dX0_upper_34 rfl (lv_at hl 0 rfl) ?_
      refine cd_get0 (v := .int (cd_I aq)) hx hb hts hown hK hP 0 rfl 22 (by decide) q51 rfl rfl dX0_upper_35 ?_
      refine cd_i2l hx hb (cd_bR32 haq (by decide)) dX0_upper_38 ?_
      refine lv_aload_n hx hb dX0_upper_39 rfl (lv_at hl 0 rfl) ?_
      refine cd_get0 (v := .long (cd_L by_)) hx hb hts hown hK hP 0 rfl 19 (by decide) q48 rfl rfl dX0_upper_40 ?_
      refine cd_lmul hx hb dX0_upper_43 ?_
      refine cd_ladd hx hb dX0_upper_44 ?_
      exact W.lret (v := cd_L ((ap * bx) + (aq * by_))) hx hb hr (fun t ht hW => ⟨⟨cd_L ((ap * bx) + (aq * by_)), (), rfl, by simp [*], trivial⟩, hS.F ht⟩) hS.2.2 dX0_upper_45
    · refine lv_aload_n hx hb dX0_upper_17 rfl (lv_at hl 0 rfl) ?_
      refine cd_get0 (v := .long (cd_L by_)) hx hb hts hown hK hP 0 rfl 19 (by decide) q48 rfl rfl dX0_upper_18 ?_
      refine lv_goto (tgt := 45) hx hb dX0_upper_21 (by decide) ?_
      exact W.lret (v := cd_L by_) hx hb hr (fun t ht hW => ⟨⟨cd_L by_, (), rfl, by simp [*], trivial⟩, hS.F ht⟩) hS.2.2 dX0_upper_45
  · refine lv_aload_n hx hb dX0_upper_5 rfl (lv_at hl 0 rfl) ?_
    refine cd_get0 (v := .long (cd_L bx)) hx hb hts hown hK hP 0 rfl 18 (by decide) q47 rfl rfl dX0_upper_6 ?_
    refine lv_goto (tgt := 45) hx hb dX0_upper_9 (by decide) ?_
    exact W.lret (v := cd_L bx) hx hb hr (fun t ht hW => ⟨⟨cd_L bx, (), rfl, by simp [*], trivial⟩, hS.F ht⟩) hS.2.2 dX0_upper_45

set_option maxHeartbeats 4000000 in
set_option maxRecDepth 100000 in
/-- divisor: the greatest common divisor -/
theorem xd_divisor (l : Launch) (z d : Int) (hz : cd_b 40000 z) (hd : cd_b 40000 d) (hd0 : 0 < d) : Met l yX0_divisor (ws_ yX0_divisor cX0_divisor 11 (some .long)) ({ frames := 0, cells := 0, slots := 0, locals := 0 }) (va_Pc [.long (cd_L z), .long (cd_L d)] (fun _ => True)) (va_Ql (fun (r : Int64) (_ : Unit) => r = cd_L ((Nat.gcd z.natAbs d.natAbs : Nat) : Int)) (fun _ _ => True) (fun _ => False)) 0 0 (fun _ => False) := by
  refine Met.ofW (cc := cX0_divisor) (maxL := 11) (ret := (some .long)) (by decide) rfl ?_
  intro p e s m args below meth c s₁ B hml hv
  obtain ⟨rfl, -⟩ := hv
  have hx := B.exec
  have hb := B.bytes
  have hr := B.returns
  have hts := atoms_spec (ws := (ws_ yX0_divisor cX0_divisor 11 (some .long))) B.pre
  have hts : ∀ w ∈ lw_all, w.before _ s = true := fun w h => hts w (List.mem_cons_of_mem _ h)
  have hown : s.vm.findClass RX0 = some m.cls := findClass_of_methodNamed B.named
  have hlocks := B.notSynchronized
  have hS : va_S (fun _ => False) s.heap s.heap [] := va_S.rf
  have hl := lv_entry ([.long (cd_L z), .long (cd_L d)]) (n := 11) (Nat.le_of_ble_eq_true rfl)
  rw [lg_entry_eq]
  generalize (lg_sl ([.long (cd_L z), .long (cd_L d)]) ++ List.replicate (11 - (lg_sl ([.long (cd_L z), .long (cd_L d)])).length) Slot.unset).toArray = ls at hl ⊢
  have hl : lv_has ls 11 [(0, .long (cd_L z)), (2, .long (cd_L d))] := hl
  have loop : ∀ (f i u v : Nat), i ≤ 64 → 64 + 1 ≤ i + f → cd_gi i u v → Nat.gcd v u = Nat.gcd z.natAbs d.natAbs → ∀ ls : Array Slot, lv_has ls 11 [(8, .int (cd_I ((i : Nat) : Int))), (4, .long (cd_L ((u : Nat) : Int))), (6, .long (cd_L ((v : Nat) : Int))), (0, .long (cd_L z)), (2, .long (cd_L d))] → W p l e (headSpec (ws_ yX0_divisor cX0_divisor 11 (some .long)) ({ frames := 0, cells := 0, slots := 0, locals := 0 })).room s m ([.long (cd_L z), .long (cd_L d)] : List Value).toArray below meth c s.heap [] 0 0 (MQ below (va_Ql (fun (r : Int64) (_ : Unit) => r = cd_L ((Nat.gcd z.natAbs d.natAbs : Nat) : Int)) (fun _ _ => True) (fun _ => False)) ([.long (cd_L z), .long (cd_L d)] : List Value).toArray s 0 0 (fun _ => False)) (F0 m 20 ls []) := by
    intro f
    induction f with
    | zero =>
      intro i u v h1 h2
      exact absurd h2 (by omega)
    | succ f ih =>
      intro i u v hi hf hg hG ls hl
      have hg1 := hg
      obtain ⟨g2, g3, g4⟩ := hg1
      refine lv_iload hx hb dX0_divisor_20 (lv_at hl 0 rfl) ?_
      refine lv_bipush (v := cd_I 64) hx hb dX0_divisor_22 (by decide) ?_
      refine cd_icmp_ge (tgt := 55) hx hb ⟨by omega, by omega⟩ ⟨by decide, by decide⟩ dX0_divisor_24 (by decide) (fun c_1 => ?_) (fun c_1 => ?_)
      · refine lv_lload hx hb dX0_divisor_55 (lv_at hl 2 rfl) ?_
        have hu0 : u = 0 := Nat.eq_zero_of_not_pos (fun q => by have := cd_gi_end hg q; omega)
        exact W.lret (v := cd_L ((v : Nat) : Int)) hx hb hr (fun t ht hW => ⟨⟨cd_L ((v : Nat) : Int), (), rfl, by rw [← hG, hu0, Nat.gcd_zero_right], trivial⟩, hS.F ht⟩) hS.2.2 dX0_divisor_57
      · refine lv_lload hx hb dX0_divisor_27 (lv_at hl 1 rfl) ?_
        refine lv_lconst (v := cd_L 0) hx hb dX0_divisor_29 (by decide) ?_
        refine cd_lcmp_le (tgt := 55) hx hb ⟨by omega, by omega⟩ ⟨by decide, by decide⟩ dX0_divisor_30 dX0_divisor_31 (by decide) (fun c_2 => ?_) (fun c_2 => ?_)
        · refine lv_lload hx hb dX0_divisor_55 (lv_at hl 2 rfl) ?_
          have hu0 : u = 0 := by omega
          exact W.lret (v := cd_L ((v : Nat) : Int)) hx hb hr (fun t ht hW => ⟨⟨cd_L ((v : Nat) : Int), (), rfl, by rw [← hG, hu0, Nat.gcd_zero_right], trivial⟩, hS.F ht⟩) hS.2.2 dX0_divisor_57
        · refine lv_lload hx hb dX0_divisor_34 (lv_at hl 2 rfl) ?_
          refine lv_lload hx hb dX0_divisor_36 (lv_at hl 1 rfl) ?_
          refine cd_lrem hx hb ⟨by omega, by omega⟩ ⟨by omega, by omega⟩ (by omega) (by omega) dX0_divisor_38 ?_
          refine cd_toL (y := ((v % u : Nat) : Int)) (by omega) ?_
          refine lv_lstore (lv' := [(9, .long (cd_L ((v % u : Nat) : Int))), (8, .int (cd_I ((i : Nat) : Int))), (4, .long (cd_L ((u : Nat) : Int))), (6, .long (cd_L ((v : Nat) : Int))), (0, .long (cd_L z)), (2, .long (cd_L d))]) hx hb dX0_divisor_39 hl (by decide) rfl (fun ls hl => ?_)
          refine lv_lload hx hb dX0_divisor_41 (lv_at hl 2 rfl) ?_
          refine lv_lstore (lv' := [(6, .long (cd_L ((u : Nat) : Int))), (9, .long (cd_L ((v % u : Nat) : Int))), (8, .int (cd_I ((i : Nat) : Int))), (4, .long (cd_L ((u : Nat) : Int))), (0, .long (cd_L z)), (2, .long (cd_L d))]) hx hb dX0_divisor_43 hl (by decide) rfl (fun ls hl => ?_)
          refine lv_lload hx hb dX0_divisor_45 (lv_at hl 1 rfl) ?_
          refine lv_lstore (lv' := [(4, .long (cd_L ((v % u : Nat) : Int))), (6, .long (cd_L ((u : Nat) : Int))), (9, .long (cd_L ((v % u : Nat) : Int))), (8, .int (cd_I ((i : Nat) : Int))), (0, .long (cd_L z)), (2, .long (cd_L d))]) hx hb dX0_divisor_47 hl (by decide) rfl (fun ls hl => ?_)
          refine cd_iinc (x := ((i : Nat) : Int)) (lv' := [(8, .int (cd_I (((i : Nat) : Int) + 1))), (4, .long (cd_L ((v % u : Nat) : Int))), (6, .long (cd_L ((u : Nat) : Int))), (9, .long (cd_L ((v % u : Nat) : Int))), (0, .long (cd_L z)), (2, .long (cd_L d))]) hx hb dX0_divisor_49 hl (k := 3) rfl (by decide) rfl (fun ls hl => ?_)
          refine lv_goto (tgt := 20) hx hb dX0_divisor_52 (by decide) ?_
          exact ih (i + 1) (v % u) u (by omega) (by omega) (cd_gi_step hg (by omega)) ((cd_gcd_step u v).trans hG) ls (lv_sub hl [0, 1, 2, 4, 5] rfl)
  have hz1 := hz.1
  have hz2 := hz.2
  have hd1 := hd.1
  have hd2 := hd.2
  refine lv_lload_n hx hb dX0_divisor_0 rfl (lv_at hl 0 rfl) ?_
  refine lv_lconst (v := cd_L 0) hx hb dX0_divisor_1 (by decide) ?_
  refine cd_lcmp_ge (tgt := 11) hx hb (cd_bR64 hz (by decide)) ⟨by decide, by decide⟩ dX0_divisor_2 dX0_divisor_3 (by decide) (fun c_3 => ?_) (fun c_3 => ?_)
  · refine lv_lload_n hx hb dX0_divisor_11 rfl (lv_at hl 0 rfl) ?_
    refine cd_toL (y := ((z.natAbs : Nat) : Int)) (by omega) ?_
    refine lv_lstore (lv' := [(4, .long (cd_L ((z.natAbs : Nat) : Int))), (0, .long (cd_L z)), (2, .long (cd_L d))]) hx hb dX0_divisor_12 hl (by decide) rfl (fun ls hl => ?_)
    refine lv_lload_n hx hb dX0_divisor_14 rfl (lv_at hl 2 rfl) ?_
    refine cd_toL (y := ((d.natAbs : Nat) : Int)) (by omega) ?_
    refine lv_lstore (lv' := [(6, .long (cd_L ((d.natAbs : Nat) : Int))), (4, .long (cd_L ((z.natAbs : Nat) : Int))), (0, .long (cd_L z)), (2, .long (cd_L d))]) hx hb dX0_divisor_15 hl (by decide) rfl (fun ls hl => ?_)
    refine lv_iconst (v := cd_I 0) hx hb dX0_divisor_17 rfl ?_
    refine lv_istore (lv' := [(8, .int (cd_I 0)), (6, .long (cd_L ((d.natAbs : Nat) : Int))), (4, .long (cd_L ((z.natAbs : Nat) : Int))), (0, .long (cd_L z)), (2, .long (cd_L d))]) hx hb dX0_divisor_18 hl (by decide) rfl (fun ls hl => ?_)
    exact loop 65 0 z.natAbs d.natAbs (by decide) (by decide) ⟨by omega, by omega, Or.inl rfl⟩ (Nat.gcd_comm _ _) ls (lv_sub hl [0, 2, 1, 3, 4] rfl)
  · refine lv_lload_n hx hb dX0_divisor_6 rfl (lv_at hl 0 rfl) ?_
    refine cd_lneg hx hb dX0_divisor_7 ?_
    refine lv_goto (tgt := 12) hx hb dX0_divisor_8 (by decide) ?_
    refine cd_toL (y := ((z.natAbs : Nat) : Int)) (by omega) ?_
    refine lv_lstore (lv' := [(4, .long (cd_L ((z.natAbs : Nat) : Int))), (0, .long (cd_L z)), (2, .long (cd_L d))]) hx hb dX0_divisor_12 hl (by decide) rfl (fun ls hl => ?_)
    refine lv_lload_n hx hb dX0_divisor_14 rfl (lv_at hl 2 rfl) ?_
    refine cd_toL (y := ((d.natAbs : Nat) : Int)) (by omega) ?_
    refine lv_lstore (lv' := [(6, .long (cd_L ((d.natAbs : Nat) : Int))), (4, .long (cd_L ((z.natAbs : Nat) : Int))), (0, .long (cd_L z)), (2, .long (cd_L d))]) hx hb dX0_divisor_15 hl (by decide) rfl (fun ls hl => ?_)
    refine lv_iconst (v := cd_I 0) hx hb dX0_divisor_17 rfl ?_
    refine lv_istore (lv' := [(8, .int (cd_I 0)), (6, .long (cd_L ((d.natAbs : Nat) : Int))), (4, .long (cd_L ((z.natAbs : Nat) : Int))), (0, .long (cd_L z)), (2, .long (cd_L d))]) hx hb dX0_divisor_18 hl (by decide) rfl (fun ls hl => ?_)
    exact loop 65 0 z.natAbs d.natAbs (by decide) (by decide) ⟨by omega, by omega, Or.inl rfl⟩ (Nat.gcd_comm _ _) ls (lv_sub hl [0, 2, 1, 3, 4] rfl)

set_option maxHeartbeats 4000000 in
set_option maxRecDepth 100000 in
/-- meets: whether the present corner meets the condition k -/
theorem xd_meets (l : Launch) (dC : Nat → ClassId) (dI : Nat → Nat → Nat) (dA : ClassId) (o0 o1 o2 o3 o4 n lv : Nat) (fa fb fc : Nat → Int) (fl : Nat → Nat) (x y w hL hH lx ly lw gx gy gw rm bx by_ bw ap aq : Int) (k : Nat) (hk : k < 14) (ha : cd_b 9 (fa k)) (hb1 : cd_b 9 (fb k)) (hc1 : cd_b 99 (fc k)) (hx1 : cd_b 1782 x) (hy1 : cd_b 1782 y) (hw1 : cd_b 162 w) : Met l yX0_meets (ws_ yX0_meets cX0_meets 2 (some .boolean)) ({ frames := 0, cells := 0, slots := 0, locals := 0 }) (va_Pc [.ref o0, .int (cd_I ((k : Nat) : Int))] (cd_W0 (dC, dI) vwCl [(dA, .int)] (cd_D dA o0 o1 o2 o3 o4 n lv fa fb fc fl x y w hL hH lx ly lw gx gy gw rm bx by_ bw ap aq))) (va_Qi (fun (r : Int32) (_ : Unit) => (r = cd_I 1 ∧ cd_sat (fa k) (fb k) (fc k) x y w) ∨ (r = cd_I 0 ∧ ¬ cd_sat (fa k) (fb k) (fc k) x y w)) (fun _ _ => True) (fun _ => False)) 0 0 (fun _ => False) := by
  refine Met.ofW (cc := cX0_meets) (maxL := 2) (ret := (some .boolean)) (by decide) rfl ?_
  intro p e s m args below meth c s₁ B hml hv
  obtain ⟨rfl, hP, hK⟩ := hv
  have hx := B.exec
  have hb := B.bytes
  have hr := B.returns
  have hts := atoms_spec (ws := (ws_ yX0_meets cX0_meets 2 (some .boolean))) B.pre
  have hts : ∀ w ∈ lw_all, w.before _ s = true := fun w h => hts w (List.mem_cons_of_mem _ h)
  have hown : s.vm.findClass RX0 = some m.cls := findClass_of_methodNamed B.named
  have hlocks := B.notSynchronized
  have hS : va_S (fun _ => False) s.heap s.heap [] := va_S.rf
  have hl := lv_entry ([.ref o0, .int (cd_I ((k : Nat) : Int))]) (n := 2) (Nat.le_of_ble_eq_true rfl)
  rw [lg_entry_eq]
  generalize (lg_sl ([.ref o0, .int (cd_I ((k : Nat) : Int))]) ++ List.replicate (2 - (lg_sl ([.ref o0, .int (cd_I ((k : Nat) : Int))])).length) Slot.unset).toArray = ls at hl ⊢
  have hl : lv_has ls 2 [(0, .ref o0), (1, .int (cd_I ((k : Nat) : Int)))] := hl
  have hP : va_P (dC, dI) vwCl [(o0, .inr (0, [.int (cd_I ((n : Nat) : Int)), .ref o1, .ref o2, .ref o3, .int (cd_I ((lv : Nat) : Int)), .ref o4, .long (cd_L x), .long (cd_L y), .long (cd_L w), .int (cd_I hL), .int (cd_I hH), .long (cd_L lx), .long (cd_L ly), .long (cd_L lw), .long (cd_L gx), .long (cd_L gy), .long (cd_L gw), .int (cd_I rm), .long (cd_L bx), .long (cd_L by_), .long (cd_L bw), .int (cd_I ap), .int (cd_I aq)])), (o1, .inl (dA, 14, .inl (cd_c fa))), (o2, .inl (dA, 14, .inl (cd_c fb))), (o3, .inl (dA, 14, .inl (cd_c fc))), (o4, .inl (dA, 8, .inl (cd_n fl)))] s.heap := hP
  refine lv_aload_n hx hb dX0_meets_0 rfl (lv_at hl 0 rfl) ?_
  refine cd_get0 (v := .ref o1) hx hb hts hown hK hP 0 rfl 1 (by decide) q30 rfl rfl dX0_meets_1 ?_
  refine lv_iload_n hx hb dX0_meets_4 rfl (lv_at hl 1 rfl) ?_
  refine cd_iald (k := k) hx hb hK hP 1 0 rfl rfl hk (by decide) dX0_meets_5 ?_
  refine cd_i2l hx hb (cd_bR32 ha (by decide)) dX0_meets_6 ?_
  refine lv_aload_n hx hb dX0_meets_7 rfl (lv_at hl 0 rfl) ?_
  refine cd_get0 (v := .long (cd_L x)) hx hb hts hown hK hP 0 rfl 6 (by decide) q35 rfl rfl dX0_meets_8 ?_
  refine cd_lmul hx hb dX0_meets_11 ?_
  refine lv_aload_n hx hb dX0_meets_12 rfl (lv_at hl 0 rfl) ?_
  refine cd_get0 (v := .ref o2) hx hb hts hown hK hP 0 rfl 2 (by decide) q31 rfl rfl dX0_meets_13 ?_
  refine lv_iload_n hx hb dX0_meets_16 rfl (lv_at hl 1 rfl) ?_
  refine cd_iald (k := k) hx hb hK hP 2 0 rfl rfl hk (by decide) dX0_meets_17 ?_
  refine cd_i2l hx hb (cd_bR32 hb1 (by decide)) dX0_meets_18 ?_
  refine lv_aload_n hx hb dX0_meets_19 rfl (lv_at hl 0 rfl) ?_
  refine cd_get0 (v := .long (cd_L y)) hx hb hts hown hK hP 0 rfl 7 (by decide) q36 rfl rfl dX0_meets_20 ?_
  refine cd_lmul hx hb dX0_meets_23 ?_
  refine cd_ladd hx hb dX0_meets_24 ?_
  refine lv_aload_n hx hb dX0_meets_25 rfl (lv_at hl 0 rfl) ?_
  refine cd_get0 (v := .ref o3) hx hb hts hown hK hP 0 rfl 3 (by decide) q32 rfl rfl dX0_meets_26 ?_
  refine lv_iload_n hx hb dX0_meets_29 rfl (lv_at hl 1 rfl) ?_
  refine cd_iald (k := k) hx hb hK hP 3 0 rfl rfl hk (by decide) dX0_meets_30 ?_
  refine cd_i2l hx hb (cd_bR32 hc1 (by decide)) dX0_meets_31 ?_
  refine lv_aload_n hx hb dX0_meets_32 rfl (lv_at hl 0 rfl) ?_
  refine cd_get0 (v := .long (cd_L w)) hx hb hts hown hK hP 0 rfl 8 (by decide) q37 rfl rfl dX0_meets_33 ?_
  refine cd_lmul hx hb dX0_meets_36 ?_
  refine cd_lcmp_gt (tgt := 45) hx hb (cd_bR64 (cd_bA (cd_bM ha hx1) (cd_bM hb1 hy1)) (by decide)) (cd_bR64 (cd_bM hc1 hw1) (by decide)) dX0_meets_37 dX0_meets_38 (by decide) (fun c_1 => ?_) (fun c_1 => ?_)
  · refine lv_iconst (v := cd_I 0) hx hb dX0_meets_45 rfl ?_
    exact W.zret (v := cd_I 0) hx hb hr rfl (fun t ht hW => ⟨⟨cd_I 0, (), rfl, Or.inr ⟨rfl, by unfold cd_sat; omega⟩, trivial⟩, hS.F ht⟩) hS.2.2 dX0_meets_46
  · refine lv_iconst (v := cd_I 1) hx hb dX0_meets_41 rfl ?_
    refine lv_goto (tgt := 46) hx hb dX0_meets_42 (by decide) ?_
    exact W.zret (v := cd_I 1) hx hb hr rfl (fun t ht hW => ⟨⟨cd_I 1, (), rfl, Or.inl ⟨rfl, by unfold cd_sat; omega⟩, trivial⟩, hS.F ht⟩) hS.2.2 dX0_meets_46

set_option maxHeartbeats 4000000 in
set_option maxRecDepth 100000 in
/-- along: how far along the line -/
theorem xd_along (l : Launch) (dC : Nat → ClassId) (dI : Nat → Nat → Nat) (dA : ClassId) (o0 o1 o2 o3 o4 n lv : Nat) (fa fb fc : Nat → Int) (fl : Nat → Nat) (x y w hL hH lx ly lw gx gy gw rm bx by_ bw ap aq : Int) (k : Nat) (px py : Int) (hk : k < 14) (ha : cd_b 9 (fa k)) (hb1 : cd_b 9 (fb k)) : Met l yX0_along (ws_ yX0_along cX0_along 6 (some .long)) ({ frames := 0, cells := 0, slots := 0, locals := 0 }) (va_Pc [.ref o0, .int (cd_I ((k : Nat) : Int)), .long (cd_L px), .long (cd_L py)] (cd_W0 (dC, dI) vwCl [(dA, .int)] (cd_D dA o0 o1 o2 o3 o4 n lv fa fb fc fl x y w hL hH lx ly lw gx gy gw rm bx by_ bw ap aq))) (va_Ql (fun (r : Int64) (_ : Unit) => r = cd_L (fa k * py - fb k * px)) (fun _ _ => True) (fun _ => False)) 0 0 (fun _ => False) := by
  refine Met.ofW (cc := cX0_along) (maxL := 6) (ret := (some .long)) (by decide) rfl ?_
  intro p e s m args below meth c s₁ B hml hv
  obtain ⟨rfl, hP, hK⟩ := hv
  have hx := B.exec
  have hb := B.bytes
  have hr := B.returns
  have hts := atoms_spec (ws := (ws_ yX0_along cX0_along 6 (some .long))) B.pre
  have hts : ∀ w ∈ lw_all, w.before _ s = true := fun w h => hts w (List.mem_cons_of_mem _ h)
  have hown : s.vm.findClass RX0 = some m.cls := findClass_of_methodNamed B.named
  have hlocks := B.notSynchronized
  have hS : va_S (fun _ => False) s.heap s.heap [] := va_S.rf
  have hl := lv_entry ([.ref o0, .int (cd_I ((k : Nat) : Int)), .long (cd_L px), .long (cd_L py)]) (n := 6) (Nat.le_of_ble_eq_true rfl)
  rw [lg_entry_eq]
  generalize (lg_sl ([.ref o0, .int (cd_I ((k : Nat) : Int)), .long (cd_L px), .long (cd_L py)]) ++ List.replicate (6 - (lg_sl ([.ref o0, .int (cd_I ((k : Nat) : Int)), .long (cd_L px), .long (cd_L py)])).length) Slot.unset).toArray = ls at hl ⊢
  have hl : lv_has ls 6 [(0, .ref o0), (1, .int (cd_I ((k : Nat) : Int))), (2, .long (cd_L px)), (4, .long (cd_L py))] := hl
  have hP : va_P (dC, dI) vwCl [(o0, .inr (0, [.int (cd_I ((n : Nat) : Int)), .ref o1, .ref o2, .ref o3, .int (cd_I ((lv : Nat) : Int)), .ref o4, .long (cd_L x), .long (cd_L y), .long (cd_L w), .int (cd_I hL), .int (cd_I hH), .long (cd_L lx), .long (cd_L ly), .long (cd_L lw), .long (cd_L gx), .long (cd_L gy), .long (cd_L gw), .int (cd_I rm), .long (cd_L bx), .long (cd_L by_), .long (cd_L bw), .int (cd_I ap), .int (cd_I aq)])), (o1, .inl (dA, 14, .inl (cd_c fa))), (o2, .inl (dA, 14, .inl (cd_c fb))), (o3, .inl (dA, 14, .inl (cd_c fc))), (o4, .inl (dA, 8, .inl (cd_n fl)))] s.heap := hP
  refine lv_aload_n hx hb dX0_along_0 rfl (lv_at hl 0 rfl) ?_
  refine cd_get0 (v := .ref o1) hx hb hts hown hK hP 0 rfl 1 (by decide) q30 rfl rfl dX0_along_1 ?_
  refine lv_iload_n hx hb dX0_along_4 rfl (lv_at hl 1 rfl) ?_
  refine cd_iald (k := k) hx hb hK hP 1 0 rfl rfl hk (by decide) dX0_along_5 ?_
  refine cd_i2l hx hb (cd_bR32 ha (by decide)) dX0_along_6 ?_
  refine lv_lload hx hb dX0_along_7 (lv_at hl 3 rfl) ?_
  refine cd_lmul hx hb dX0_along_9 ?_
  refine lv_aload_n hx hb dX0_along_10 rfl (lv_at hl 0 rfl) ?_
  refine cd_get0 (v := .ref o2) hx hb hts hown hK hP 0 rfl 2 (by decide) q31 rfl rfl dX0_along_11 ?_
  refine lv_iload_n hx hb dX0_along_14 rfl (lv_at hl 1 rfl) ?_
  refine cd_iald (k := k) hx hb hK hP 2 0 rfl rfl hk (by decide) dX0_along_15 ?_
  refine cd_i2l hx hb (cd_bR32 hb1 (by decide)) dX0_along_16 ?_
  refine lv_lload_n hx hb dX0_along_17 rfl (lv_at hl 2 rfl) ?_
  refine cd_lmul hx hb dX0_along_18 ?_
  refine cd_lsub hx hb dX0_along_19 ?_
  exact W.lret (v := cd_L (((fa k) * py) - ((fb k) * px))) hx hb hr (fun t ht hW => ⟨⟨cd_L (((fa k) * py) - ((fb k) * px)), (), rfl, rfl, trivial⟩, hS.F ht⟩) hS.2.2 dX0_along_20

set_option maxHeartbeats 4000000 in
set_option maxRecDepth 100000 in
/-- parallelMeets -/
theorem xd_parallelMeets (l : Launch) (dC : Nat → ClassId) (dI : Nat → Nat → Nat) (dA : ClassId) (o0 o1 o2 o3 o4 n lv : Nat) (fa fb fc : Nat → Int) (fl : Nat → Nat) (x y w hL hH lx ly lw gx gy gw rm bx by_ bw ap aq : Int) (k j : Nat) (hk : k < 14) (hj : j < 14) (ha : cd_b 9 (fa k)) (hb1 : cd_b 9 (fb k)) (hc1 : cd_b 99 (fc k)) (ha2 : cd_b 9 (fa j)) (hb2 : cd_b 9 (fb j)) (hc2 : cd_b 99 (fc j)) : Met l yX0_parallelMeets (ws_ yX0_parallelMeets cX0_parallelMeets 5 (some .boolean)) ({ frames := 0, cells := 0, slots := 0, locals := 0 }) (va_Pc [.ref o0, .int (cd_I ((k : Nat) : Int)), .int (cd_I ((j : Nat) : Int))] (cd_W0 (dC, dI) vwCl [(dA, .int)] (cd_D dA o0 o1 o2 o3 o4 n lv fa fb fc fl x y w hL hH lx ly lw gx gy gw rm bx by_ bw ap aq))) (va_Qi (fun (r : Int32) (_ : Unit) => (r = cd_I 1 ∧ cd_par (fa k) (fb k) (fc k) (fa j) (fb j) (fc j)) ∨ (r = cd_I 0 ∧ ¬ cd_par (fa k) (fb k) (fc k) (fa j) (fb j) (fc j))) (fun _ _ => True) (fun _ => False)) 0 0 (fun _ => False) := by
  refine Met.ofW (cc := cX0_parallelMeets) (maxL := 5) (ret := (some .boolean)) (by decide) rfl ?_
  intro p e s m args below meth c s₁ B hml hv
  obtain ⟨rfl, hP, hK⟩ := hv
  have hx := B.exec
  have hb := B.bytes
  have hr := B.returns
  have hts := atoms_spec (ws := (ws_ yX0_parallelMeets cX0_parallelMeets 5 (some .boolean))) B.pre
  have hts : ∀ w ∈ lw_all, w.before _ s = true := fun w h => hts w (List.mem_cons_of_mem _ h)
  have hown : s.vm.findClass RX0 = some m.cls := findClass_of_methodNamed B.named
  have hlocks := B.notSynchronized
  have hS : va_S (fun _ => False) s.heap s.heap [] := va_S.rf
  have hl := lv_entry ([.ref o0, .int (cd_I ((k : Nat) : Int)), .int (cd_I ((j : Nat) : Int))]) (n := 5) (Nat.le_of_ble_eq_true rfl)
  rw [lg_entry_eq]
  generalize (lg_sl ([.ref o0, .int (cd_I ((k : Nat) : Int)), .int (cd_I ((j : Nat) : Int))]) ++ List.replicate (5 - (lg_sl ([.ref o0, .int (cd_I ((k : Nat) : Int)), .int (cd_I ((j : Nat) : Int))])).length) Slot.unset).toArray = ls at hl ⊢
  have hl : lv_has ls 5 [(0, .ref o0), (1, .int (cd_I ((k : Nat) : Int))), (2, .int (cd_I ((j : Nat) : Int)))] := hl
  have hP : va_P (dC, dI) vwCl [(o0, .inr (0, [.int (cd_I ((n : Nat) : Int)), .ref o1, .ref o2, .ref o3, .int (cd_I ((lv : Nat) : Int)), .ref o4, .long (cd_L x), .long (cd_L y), .long (cd_L w), .int (cd_I hL), .int (cd_I hH), .long (cd_L lx), .long (cd_L ly), .long (cd_L lw), .long (cd_L gx), .long (cd_L gy), .long (cd_L gw), .int (cd_I rm), .long (cd_L bx), .long (cd_L by_), .long (cd_L bw), .int (cd_I ap), .int (cd_I aq)])), (o1, .inl (dA, 14, .inl (cd_c fa))), (o2, .inl (dA, 14, .inl (cd_c fb))), (o3, .inl (dA, 14, .inl (cd_c fc))), (o4, .inl (dA, 8, .inl (cd_n fl)))] s.heap := hP
  refine lv_aload_n hx hb dX0_parallelMeets_0 rfl (lv_at hl 0 rfl) ?_
  refine cd_get0 (v := .ref o1) hx hb hts hown hK hP 0 rfl 1 (by decide) q30 rfl rfl dX0_parallelMeets_1 ?_
  refine lv_iload_n hx hb dX0_parallelMeets_4 rfl (lv_at hl 1 rfl) ?_
  refine cd_iald (k := k) hx hb hK hP 1 0 rfl rfl hk (by decide) dX0_parallelMeets_5 ?_
  refine cd_if_eq (tgt := 18) hx hb (cd_bR32 ha (by decide)) dX0_parallelMeets_6 (by decide) (fun c_1 => ?_) (fun c_1 => ?_)
  · refine lv_aload_n hx hb dX0_parallelMeets_18 rfl (lv_at hl 0 rfl) ?_
    refine cd_get0 (v := .ref o2) hx hb hts hown hK hP 0 rfl 2 (by decide) q31 rfl rfl dX0_parallelMeets_19 ?_
    refine lv_iload_n hx hb dX0_parallelMeets_22 rfl (lv_at hl 1 rfl) ?_
    refine cd_iald (k := k) hx hb hK hP 2 0 rfl rfl hk (by decide) dX0_parallelMeets_23 ?_
    refine lv_istore_n (lv' := [(3, .int (cd_I (fb k))), (0, .ref o0), (1, .int (cd_I ((k : Nat) : Int))), (2, .int (cd_I ((j : Nat) : Int)))]) hx hb dX0_parallelMeets_24 rfl hl (by decide) rfl (fun ls hl => ?_)
    refine lv_aload_n hx hb dX0_parallelMeets_25 rfl (lv_at hl 1 rfl) ?_
    refine cd_get0 (v := .ref o1) hx hb hts hown hK hP 0 rfl 1 (by decide) q30 rfl rfl dX0_parallelMeets_26 ?_
    refine lv_iload_n hx hb dX0_parallelMeets_29 rfl (lv_at hl 2 rfl) ?_
    refine cd_iald (k := k) hx hb hK hP 1 0 rfl rfl hk (by decide) dX0_parallelMeets_30 ?_
    refine cd_if_eq (tgt := 43) hx hb (cd_bR32 ha (by decide)) dX0_parallelMeets_31 (by decide) (fun c_2 => ?_) (fun c_2 => absurd c_2 (by omega))
    refine lv_aload_n hx hb dX0_parallelMeets_43 rfl (lv_at hl 1 rfl) ?_
    refine cd_get0 (v := .ref o2) hx hb hts hown hK hP 0 rfl 2 (by decide) q31 rfl rfl dX0_parallelMeets_44 ?_
    refine lv_iload_n hx hb dX0_parallelMeets_47 rfl (lv_at hl 3 rfl) ?_
    refine cd_iald (k := j) hx hb hK hP 2 0 rfl rfl hj (by decide) dX0_parallelMeets_48 ?_
    refine lv_istore (lv' := [(4, .int (cd_I (fb j))), (3, .int (cd_I (fb k))), (0, .ref o0), (1, .int (cd_I ((k : Nat) : Int))), (2, .int (cd_I ((j : Nat) : Int)))]) hx hb dX0_parallelMeets_49 hl (by decide) rfl (fun ls hl => ?_)
    refine lv_iload_n hx hb dX0_parallelMeets_51 rfl (lv_at hl 1 rfl) ?_
    refine cd_if_le (tgt := 83) hx hb (cd_bR32 hb1 (by decide)) dX0_parallelMeets_52 (by decide) (fun c_3 => ?_) (fun c_3 => ?_)
    · refine lv_iload hx hb dX0_parallelMeets_83 (lv_at hl 0 rfl) ?_
      refine lv_aload_n hx hb dX0_parallelMeets_85 rfl (lv_at hl 2 rfl) ?_
      refine cd_get0 (v := .ref o3) hx hb hts hown hK hP 0 rfl 3 (by decide) q32 rfl rfl dX0_parallelMeets_86 ?_
      refine lv_iload_n hx hb dX0_parallelMeets_89 rfl (lv_at hl 3 rfl) ?_
      refine cd_iald (k := k) hx hb hK hP 3 0 rfl rfl hk (by decide) dX0_parallelMeets_90 ?_
      refine cd_imul hx hb dX0_parallelMeets_91 ?_
      refine lv_aload_n hx hb dX0_parallelMeets_92 rfl (lv_at hl 2 rfl) ?_
      refine cd_get0 (v := .ref o3) hx hb hts hown hK hP 0 rfl 3 (by decide) q32 rfl rfl dX0_parallelMeets_93 ?_
      refine lv_iload_n hx hb dX0_parallelMeets_96 rfl (lv_at hl 4 rfl) ?_
      refine cd_iald (k := j) hx hb hK hP 3 0 rfl rfl hj (by decide) dX0_parallelMeets_97 ?_
      refine lv_iload_n hx hb dX0_parallelMeets_98 rfl (lv_at hl 1 rfl) ?_
      refine cd_imul hx hb dX0_parallelMeets_99 ?_
      refine cd_icmp_lt (tgt := 107) hx hb (cd_bR32 (cd_bM hb2 hc1) (by decide)) (cd_bR32 (cd_bM hc2 hb1) (by decide)) dX0_parallelMeets_100 (by decide) (fun c_4 => ?_) (fun c_4 => ?_)
      · refine lv_iconst (v := cd_I 0) hx hb dX0_parallelMeets_107 rfl ?_
        exact W.zret (v := cd_I 0) hx hb hr rfl (fun t ht hW => ⟨⟨cd_I 0, (), rfl, Or.inr ⟨rfl, by unfold cd_par; omega⟩, trivial⟩, hS.F ht⟩) hS.2.2 dX0_parallelMeets_108
      · refine lv_iconst (v := cd_I 1) hx hb dX0_parallelMeets_103 rfl ?_
        refine lv_goto (tgt := 108) hx hb dX0_parallelMeets_104 (by decide) ?_
        exact W.zret (v := cd_I 1) hx hb hr rfl (fun t ht hW => ⟨⟨cd_I 1, (), rfl, Or.inl ⟨rfl, by unfold cd_par; omega⟩, trivial⟩, hS.F ht⟩) hS.2.2 dX0_parallelMeets_108
    · refine lv_iload hx hb dX0_parallelMeets_55 (lv_at hl 0 rfl) ?_
      refine lv_aload_n hx hb dX0_parallelMeets_57 rfl (lv_at hl 2 rfl) ?_
      refine cd_get0 (v := .ref o3) hx hb hts hown hK hP 0 rfl 3 (by decide) q32 rfl rfl dX0_parallelMeets_58 ?_
      refine lv_iload_n hx hb dX0_parallelMeets_61 rfl (lv_at hl 3 rfl) ?_
      refine cd_iald (k := k) hx hb hK hP 3 0 rfl rfl hk (by decide) dX0_parallelMeets_62 ?_
      refine cd_imul hx hb dX0_parallelMeets_63 ?_
      refine lv_aload_n hx hb dX0_parallelMeets_64 rfl (lv_at hl 2 rfl) ?_
      refine cd_get0 (v := .ref o3) hx hb hts hown hK hP 0 rfl 3 (by decide) q32 rfl rfl dX0_parallelMeets_65 ?_
      refine lv_iload_n hx hb dX0_parallelMeets_68 rfl (lv_at hl 4 rfl) ?_
      refine cd_iald (k := j) hx hb hK hP 3 0 rfl rfl hj (by decide) dX0_parallelMeets_69 ?_
      refine lv_iload_n hx hb dX0_parallelMeets_70 rfl (lv_at hl 1 rfl) ?_
      refine cd_imul hx hb dX0_parallelMeets_71 ?_
      refine cd_icmp_gt (tgt := 79) hx hb (cd_bR32 (cd_bM hb2 hc1) (by decide)) (cd_bR32 (cd_bM hc2 hb1) (by decide)) dX0_parallelMeets_72 (by decide) (fun c_5 => ?_) (fun c_5 => ?_)
      · refine lv_iconst (v := cd_I 0) hx hb dX0_parallelMeets_79 rfl ?_
        refine lv_goto (tgt := 108) hx hb dX0_parallelMeets_80 (by decide) ?_
        exact W.zret (v := cd_I 0) hx hb hr rfl (fun t ht hW => ⟨⟨cd_I 0, (), rfl, Or.inr ⟨rfl, by unfold cd_par; omega⟩, trivial⟩, hS.F ht⟩) hS.2.2 dX0_parallelMeets_108
      · refine lv_iconst (v := cd_I 1) hx hb dX0_parallelMeets_75 rfl ?_
        refine lv_goto (tgt := 108) hx hb dX0_parallelMeets_76 (by decide) ?_
        exact W.zret (v := cd_I 1) hx hb hr rfl (fun t ht hW => ⟨⟨cd_I 1, (), rfl, Or.inl ⟨rfl, by unfold cd_par; omega⟩, trivial⟩, hS.F ht⟩) hS.2.2 dX0_parallelMeets_108
  · refine lv_aload_n hx hb dX0_parallelMeets_9 rfl (lv_at hl 0 rfl) ?_
    refine cd_get0 (v := .ref o1) hx hb hts hown hK hP 0 rfl 1 (by decide) q30 rfl rfl dX0_parallelMeets_10 ?_
    refine lv_iload_n hx hb dX0_parallelMeets_13 rfl (lv_at hl 1 rfl) ?_
    refine cd_iald (k := k) hx hb hK hP 1 0 rfl rfl hk (by decide) dX0_parallelMeets_14 ?_
    refine lv_goto (tgt := 24) hx hb dX0_parallelMeets_15 (by decide) ?_
    refine lv_istore_n (lv' := [(3, .int (cd_I (fa k))), (0, .ref o0), (1, .int (cd_I ((k : Nat) : Int))), (2, .int (cd_I ((j : Nat) : Int)))]) hx hb dX0_parallelMeets_24 rfl hl (by decide) rfl (fun ls hl => ?_)
    refine lv_aload_n hx hb dX0_parallelMeets_25 rfl (lv_at hl 1 rfl) ?_
    refine cd_get0 (v := .ref o1) hx hb hts hown hK hP 0 rfl 1 (by decide) q30 rfl rfl dX0_parallelMeets_26 ?_
    refine lv_iload_n hx hb dX0_parallelMeets_29 rfl (lv_at hl 2 rfl) ?_
    refine cd_iald (k := k) hx hb hK hP 1 0 rfl rfl hk (by decide) dX0_parallelMeets_30 ?_
    refine cd_if_eq (tgt := 43) hx hb (cd_bR32 ha (by decide)) dX0_parallelMeets_31 (by decide) (fun c_6 => absurd c_6 (by omega)) (fun c_6 => ?_)
    refine lv_aload_n hx hb dX0_parallelMeets_34 rfl (lv_at hl 1 rfl) ?_
    refine cd_get0 (v := .ref o1) hx hb hts hown hK hP 0 rfl 1 (by decide) q30 rfl rfl dX0_parallelMeets_35 ?_
    refine lv_iload_n hx hb dX0_parallelMeets_38 rfl (lv_at hl 3 rfl) ?_
    refine cd_iald (k := j) hx hb hK hP 1 0 rfl rfl hj (by decide) dX0_parallelMeets_39 ?_
    refine lv_goto (tgt := 49) hx hb dX0_parallelMeets_40 (by decide) ?_
    refine lv_istore (lv' := [(4, .int (cd_I (fa j))), (3, .int (cd_I (fa k))), (0, .ref o0), (1, .int (cd_I ((k : Nat) : Int))), (2, .int (cd_I ((j : Nat) : Int)))]) hx hb dX0_parallelMeets_49 hl (by decide) rfl (fun ls hl => ?_)
    refine lv_iload_n hx hb dX0_parallelMeets_51 rfl (lv_at hl 1 rfl) ?_
    refine cd_if_le (tgt := 83) hx hb (cd_bR32 ha (by decide)) dX0_parallelMeets_52 (by decide) (fun c_7 => ?_) (fun c_7 => ?_)
    · refine lv_iload hx hb dX0_parallelMeets_83 (lv_at hl 0 rfl) ?_
      refine lv_aload_n hx hb dX0_parallelMeets_85 rfl (lv_at hl 2 rfl) ?_
      refine cd_get0 (v := .ref o3) hx hb hts hown hK hP 0 rfl 3 (by decide) q32 rfl rfl dX0_parallelMeets_86 ?_
      refine lv_iload_n hx hb dX0_parallelMeets_89 rfl (lv_at hl 3 rfl) ?_
      refine cd_iald (k := k) hx hb hK hP 3 0 rfl rfl hk (by decide) dX0_parallelMeets_90 ?_
      refine cd_imul hx hb dX0_parallelMeets_91 ?_
      refine lv_aload_n hx hb dX0_parallelMeets_92 rfl (lv_at hl 2 rfl) ?_
      refine cd_get0 (v := .ref o3) hx hb hts hown hK hP 0 rfl 3 (by decide) q32 rfl rfl dX0_parallelMeets_93 ?_
      refine lv_iload_n hx hb dX0_parallelMeets_96 rfl (lv_at hl 4 rfl) ?_
      refine cd_iald (k := j) hx hb hK hP 3 0 rfl rfl hj (by decide) dX0_parallelMeets_97 ?_
      refine lv_iload_n hx hb dX0_parallelMeets_98 rfl (lv_at hl 1 rfl) ?_
      refine cd_imul hx hb dX0_parallelMeets_99 ?_
      refine cd_icmp_lt (tgt := 107) hx hb (cd_bR32 (cd_bM ha2 hc1) (by decide)) (cd_bR32 (cd_bM hc2 ha) (by decide)) dX0_parallelMeets_100 (by decide) (fun c_8 => ?_) (fun c_8 => ?_)
      · refine lv_iconst (v := cd_I 0) hx hb dX0_parallelMeets_107 rfl ?_
        exact W.zret (v := cd_I 0) hx hb hr rfl (fun t ht hW => ⟨⟨cd_I 0, (), rfl, Or.inr ⟨rfl, by unfold cd_par; omega⟩, trivial⟩, hS.F ht⟩) hS.2.2 dX0_parallelMeets_108
      · refine lv_iconst (v := cd_I 1) hx hb dX0_parallelMeets_103 rfl ?_
        refine lv_goto (tgt := 108) hx hb dX0_parallelMeets_104 (by decide) ?_
        exact W.zret (v := cd_I 1) hx hb hr rfl (fun t ht hW => ⟨⟨cd_I 1, (), rfl, Or.inl ⟨rfl, by unfold cd_par; omega⟩, trivial⟩, hS.F ht⟩) hS.2.2 dX0_parallelMeets_108
    · refine lv_iload hx hb dX0_parallelMeets_55 (lv_at hl 0 rfl) ?_
      refine lv_aload_n hx hb dX0_parallelMeets_57 rfl (lv_at hl 2 rfl) ?_
      refine cd_get0 (v := .ref o3) hx hb hts hown hK hP 0 rfl 3 (by decide) q32 rfl rfl dX0_parallelMeets_58 ?_
      refine lv_iload_n hx hb dX0_parallelMeets_61 rfl (lv_at hl 3 rfl) ?_
      refine cd_iald (k := k) hx hb hK hP 3 0 rfl rfl hk (by decide) dX0_parallelMeets_62 ?_
      refine cd_imul hx hb dX0_parallelMeets_63 ?_
      refine lv_aload_n hx hb dX0_parallelMeets_64 rfl (lv_at hl 2 rfl) ?_
      refine cd_get0 (v := .ref o3) hx hb hts hown hK hP 0 rfl 3 (by decide) q32 rfl rfl dX0_parallelMeets_65 ?_
      refine lv_iload_n hx hb dX0_parallelMeets_68 rfl (lv_at hl 4 rfl) ?_
      refine cd_iald (k := j) hx hb hK hP 3 0 rfl rfl hj (by decide) dX0_parallelMeets_69 ?_
      refine lv_iload_n hx hb dX0_parallelMeets_70 rfl (lv_at hl 1 rfl) ?_
      refine cd_imul hx hb dX0_parallelMeets_71 ?_
      refine cd_icmp_gt (tgt := 79) hx hb (cd_bR32 (cd_bM ha2 hc1) (by decide)) (cd_bR32 (cd_bM hc2 ha) (by decide)) dX0_parallelMeets_72 (by decide) (fun c_9 => ?_) (fun c_9 => ?_)
      · refine lv_iconst (v := cd_I 0) hx hb dX0_parallelMeets_79 rfl ?_
        refine lv_goto (tgt := 108) hx hb dX0_parallelMeets_80 (by decide) ?_
        exact W.zret (v := cd_I 0) hx hb hr rfl (fun t ht hW => ⟨⟨cd_I 0, (), rfl, Or.inr ⟨rfl, by unfold cd_par; omega⟩, trivial⟩, hS.F ht⟩) hS.2.2 dX0_parallelMeets_108
      · refine lv_iconst (v := cd_I 1) hx hb dX0_parallelMeets_75 rfl ?_
        refine lv_goto (tgt := 108) hx hb dX0_parallelMeets_76 (by decide) ?_
        exact W.zret (v := cd_I 1) hx hb hr rfl (fun t ht hW => ⟨⟨cd_I 1, (), rfl, Or.inl ⟨rfl, by unfold cd_par; omega⟩, trivial⟩, hS.F ht⟩) hS.2.2 dX0_parallelMeets_108

set_option maxHeartbeats 4000000 in
set_option maxRecDepth 100000 in
/-- cutHigh -/
theorem xd_cutHigh (l : Launch) (dC : Nat → ClassId) (dI : Nat → Nat → Nat) (dA : ClassId) (o0 o1 o2 o3 o4 n lv : Nat) (fa fb fc : Nat → Int) (fl : Nat → Nat) (x y w hL hH lx ly lw gx gy gw rm bx by_ bw ap aq : Int) (sz k : Nat) (px py pw : Int) (hk : k < 14) (ha : cd_b 9 (fa k)) (hb1 : cd_b 9 (fb k)) (hpx : cd_b 1782 px) (hpy : cd_b 1782 py) (hpw : cd_b 162 pw) (hf : hH = 0 ∨ (hH = 1 ∧ cd_b 1782 gx ∧ cd_b 1782 gy ∧ cd_b 162 gw)) : Met l yX0_cutHigh (ws_ yX0_cutHigh cX0_cutHigh 8 none) ({ frames := 1, cells := 0, slots := 0, locals := 25 }) (va_Pc [.ref o0, .int (cd_I ((k : Nat) : Int)), .long (cd_L px), .long (cd_L py), .long (cd_L pw)] (cd_W1 (dC, dI) vwCl [(dA, .int)] (cd_D dA o0 o1 o2 o3 o4 n lv fa fb fc fl x y w hL hH lx ly lw gx gy gw rm bx by_ bw ap aq) sz)) (va_Qv (fun (u : Int × Int × Int × Int) => cd_cutH (fa k) (fb k) px py pw hH gx gy gw u.1 u.2.1 u.2.2.1 u.2.2.2) (cd_B (dC, dI) vwCl (va_A (cd_D dA o0 o1 o2 o3 o4 n lv fa fb fc fl x y w hL hH lx ly lw gx gy gw rm bx by_ bw ap aq) sz) (fun u : Int × Int × Int × Int => (cd_D dA o0 o1 o2 o3 o4 n lv fa fb fc fl x y w hL u.1 lx ly lw u.2.1 u.2.2.1 u.2.2.2 rm bx by_ bw ap aq))) (va_A (cd_D dA o0 o1 o2 o3 o4 n lv fa fb fc fl x y w hL hH lx ly lw gx gy gw rm bx by_ bw ap aq) sz)) 0 0 (va_A (cd_D dA o0 o1 o2 o3 o4 n lv fa fb fc fl x y w hL hH lx ly lw gx gy gw rm bx by_ bw ap aq) sz) := by
  refine Met.ofW (cc := cX0_cutHigh) (maxL := 8) (ret := none) (by decide) rfl ?_
  intro p e s m args below meth c s₁ B hml hv
  obtain ⟨rfl, hsz, hP, hK, hD0⟩ := hv
  have hx := B.exec
  have hb := B.bytes
  have hr := B.returns
  have hts := atoms_spec (ws := (ws_ yX0_cutHigh cX0_cutHigh 8 none)) B.pre
  have hts : ∀ w ∈ lw_all, w.before _ s = true := fun w h => hts w (List.mem_cons_of_mem _ h)
  have hown : s.vm.findClass RX0 = some m.cls := findClass_of_methodNamed B.named
  have hlocks := B.notSynchronized
  subst hsz
  have hD := hD0.self (sz := s.heap.size)
  generalize hAe : va_A (cd_D dA o0 o1 o2 o3 o4 n lv fa fb fc fl x y w hL hH lx ly lw gx gy gw rm bx by_ bw ap aq) s.heap.size = A at hD ⊢
  have hA : ∀ q : Nat, s.heap.size ≤ q → A q := fun q h => by rw [← hAe]; exact Or.inr h
  have hS : va_S A s.heap s.heap [] := va_S.rf
  have hl := lv_entry ([.ref o0, .int (cd_I ((k : Nat) : Int)), .long (cd_L px), .long (cd_L py), .long (cd_L pw)]) (n := 8) (Nat.le_of_ble_eq_true rfl)
  rw [lg_entry_eq]
  generalize (lg_sl ([.ref o0, .int (cd_I ((k : Nat) : Int)), .long (cd_L px), .long (cd_L py), .long (cd_L pw)]) ++ List.replicate (8 - (lg_sl ([.ref o0, .int (cd_I ((k : Nat) : Int)), .long (cd_L px), .long (cd_L py), .long (cd_L pw)])).length) Slot.unset).toArray = ls at hl ⊢
  have hl : lv_has ls 8 [(0, .ref o0), (1, .int (cd_I ((k : Nat) : Int))), (2, .long (cd_L px)), (4, .long (cd_L py)), (6, .long (cd_L pw))] := hl
  have hP : va_P (dC, dI) vwCl [(o0, .inr (0, [.int (cd_I ((n : Nat) : Int)), .ref o1, .ref o2, .ref o3, .int (cd_I ((lv : Nat) : Int)), .ref o4, .long (cd_L x), .long (cd_L y), .long (cd_L w), .int (cd_I hL), .int (cd_I hH), .long (cd_L lx), .long (cd_L ly), .long (cd_L lw), .long (cd_L gx), .long (cd_L gy), .long (cd_L gw), .int (cd_I rm), .long (cd_L bx), .long (cd_L by_), .long (cd_L bw), .int (cd_I ap), .int (cd_I aq)])), (o1, .inl (dA, 14, .inl (cd_c fa))), (o2, .inl (dA, 14, .inl (cd_c fb))), (o3, .inl (dA, 14, .inl (cd_c fc))), (o4, .inl (dA, 8, .inl (cd_n fl)))] s.heap := hP
  have hD : va_D A [(o0, .inr (0, [.int (cd_I ((n : Nat) : Int)), .ref o1, .ref o2, .ref o3, .int (cd_I ((lv : Nat) : Int)), .ref o4, .long (cd_L x), .long (cd_L y), .long (cd_L w), .int (cd_I hL), .int (cd_I hH), .long (cd_L lx), .long (cd_L ly), .long (cd_L lw), .long (cd_L gx), .long (cd_L gy), .long (cd_L gw), .int (cd_I rm), .long (cd_L bx), .long (cd_L by_), .long (cd_L bw), .int (cd_I ap), .int (cd_I aq)])), (o1, .inl (dA, 14, .inl (cd_c fa))), (o2, .inl (dA, 14, .inl (cd_c fb))), (o3, .inl (dA, 14, .inl (cd_c fc))), (o4, .inl (dA, 8, .inl (cd_n fl)))] := hD
  rcases hf with hf | ⟨hf, he1, he2, he3⟩
  · subst hf
    refine lv_aload_n hx hb dX0_cutHigh_0 rfl (lv_at hl 0 rfl) ?_
    refine cd_get0 (v := .int (cd_I 0)) hx hb hts hown hK hP 0 rfl 10 (by decide) q39 rfl rfl dX0_cutHigh_1 ?_
    refine cd_if_eq (tgt := 40) hx hb ⟨by decide, by decide⟩ dX0_cutHigh_4 (by decide) (fun c_1 => ?_) (fun c_1 => absurd c_1 (by decide))
    refine lv_aload_n hx hb dX0_cutHigh_40 rfl (lv_at hl 0 rfl) ?_
    refine lv_lload_n hx hb dX0_cutHigh_41 rfl (lv_at hl 2 rfl) ?_
    refine cd_put0 (v := .long (cd_L px)) (ty := .long) hx hb hts hown hK hP hD hS 0 rfl 14 (by decide) q43 rfl rfl rfl rfl rfl (Nat.le_of_ble_eq_true rfl) dX0_cutHigh_42 (fun H locs hP hD hS => ?_)
    have hP : va_P (dC, dI) vwCl [(o0, .inr (0, [.int (cd_I ((n : Nat) : Int)), .ref o1, .ref o2, .ref o3, .int (cd_I ((lv : Nat) : Int)), .ref o4, .long (cd_L x), .long (cd_L y), .long (cd_L w), .int (cd_I hL), .int (cd_I 0), .long (cd_L lx), .long (cd_L ly), .long (cd_L lw), .long (cd_L px), .long (cd_L gy), .long (cd_L gw), .int (cd_I rm), .long (cd_L bx), .long (cd_L by_), .long (cd_L bw), .int (cd_I ap), .int (cd_I aq)])), (o1, .inl (dA, 14, .inl (cd_c fa))), (o2, .inl (dA, 14, .inl (cd_c fb))), (o3, .inl (dA, 14, .inl (cd_c fc))), (o4, .inl (dA, 8, .inl (cd_n fl)))] H := hP
    have hD : va_D A [(o0, .inr (0, [.int (cd_I ((n : Nat) : Int)), .ref o1, .ref o2, .ref o3, .int (cd_I ((lv : Nat) : Int)), .ref o4, .long (cd_L x), .long (cd_L y), .long (cd_L w), .int (cd_I hL), .int (cd_I 0), .long (cd_L lx), .long (cd_L ly), .long (cd_L lw), .long (cd_L px), .long (cd_L gy), .long (cd_L gw), .int (cd_I rm), .long (cd_L bx), .long (cd_L by_), .long (cd_L bw), .int (cd_I ap), .int (cd_I aq)])), (o1, .inl (dA, 14, .inl (cd_c fa))), (o2, .inl (dA, 14, .inl (cd_c fb))), (o3, .inl (dA, 14, .inl (cd_c fc))), (o4, .inl (dA, 8, .inl (cd_n fl)))] := hD
    refine lv_aload_n hx hb dX0_cutHigh_45 rfl (lv_at hl 0 rfl) ?_
    refine lv_lload hx hb dX0_cutHigh_46 (lv_at hl 3 rfl) ?_
    refine cd_put0 (v := .long (cd_L py)) (ty := .long) hx hb hts hown hK hP hD hS 0 rfl 15 (by decide) q44 rfl rfl rfl rfl rfl (Nat.le_of_ble_eq_true rfl) dX0_cutHigh_48 (fun H locs hP hD hS => ?_)
    have hP : va_P (dC, dI) vwCl [(o0, .inr (0, [.int (cd_I ((n : Nat) : Int)), .ref o1, .ref o2, .ref o3, .int (cd_I ((lv : Nat) : Int)), .ref o4, .long (cd_L x), .long (cd_L y), .long (cd_L w), .int (cd_I hL), .int (cd_I 0), .long (cd_L lx), .long (cd_L ly), .long (cd_L lw), .long (cd_L px), .long (cd_L py), .long (cd_L gw), .int (cd_I rm), .long (cd_L bx), .long (cd_L by_), .long (cd_L bw), .int (cd_I ap), .int (cd_I aq)])), (o1, .inl (dA, 14, .inl (cd_c fa))), (o2, .inl (dA, 14, .inl (cd_c fb))), (o3, .inl (dA, 14, .inl (cd_c fc))), (o4, .inl (dA, 8, .inl (cd_n fl)))] H := hP
    have hD : va_D A [(o0, .inr (0, [.int (cd_I ((n : Nat) : Int)), .ref o1, .ref o2, .ref o3, .int (cd_I ((lv : Nat) : Int)), .ref o4, .long (cd_L x), .long (cd_L y), .long (cd_L w), .int (cd_I hL), .int (cd_I 0), .long (cd_L lx), .long (cd_L ly), .long (cd_L lw), .long (cd_L px), .long (cd_L py), .long (cd_L gw), .int (cd_I rm), .long (cd_L bx), .long (cd_L by_), .long (cd_L bw), .int (cd_I ap), .int (cd_I aq)])), (o1, .inl (dA, 14, .inl (cd_c fa))), (o2, .inl (dA, 14, .inl (cd_c fb))), (o3, .inl (dA, 14, .inl (cd_c fc))), (o4, .inl (dA, 8, .inl (cd_n fl)))] := hD
    refine lv_aload_n hx hb dX0_cutHigh_51 rfl (lv_at hl 0 rfl) ?_
    refine lv_lload hx hb dX0_cutHigh_52 (lv_at hl 4 rfl) ?_
    refine cd_put0 (v := .long (cd_L pw)) (ty := .long) hx hb hts hown hK hP hD hS 0 rfl 16 (by decide) q45 rfl rfl rfl rfl rfl (Nat.le_of_ble_eq_true rfl) dX0_cutHigh_54 (fun H locs hP hD hS => ?_)
    have hP : va_P (dC, dI) vwCl [(o0, .inr (0, [.int (cd_I ((n : Nat) : Int)), .ref o1, .ref o2, .ref o3, .int (cd_I ((lv : Nat) : Int)), .ref o4, .long (cd_L x), .long (cd_L y), .long (cd_L w), .int (cd_I hL), .int (cd_I 0), .long (cd_L lx), .long (cd_L ly), .long (cd_L lw), .long (cd_L px), .long (cd_L py), .long (cd_L pw), .int (cd_I rm), .long (cd_L bx), .long (cd_L by_), .long (cd_L bw), .int (cd_I ap), .int (cd_I aq)])), (o1, .inl (dA, 14, .inl (cd_c fa))), (o2, .inl (dA, 14, .inl (cd_c fb))), (o3, .inl (dA, 14, .inl (cd_c fc))), (o4, .inl (dA, 8, .inl (cd_n fl)))] H := hP
    have hD : va_D A [(o0, .inr (0, [.int (cd_I ((n : Nat) : Int)), .ref o1, .ref o2, .ref o3, .int (cd_I ((lv : Nat) : Int)), .ref o4, .long (cd_L x), .long (cd_L y), .long (cd_L w), .int (cd_I hL), .int (cd_I 0), .long (cd_L lx), .long (cd_L ly), .long (cd_L lw), .long (cd_L px), .long (cd_L py), .long (cd_L pw), .int (cd_I rm), .long (cd_L bx), .long (cd_L by_), .long (cd_L bw), .int (cd_I ap), .int (cd_I aq)])), (o1, .inl (dA, 14, .inl (cd_c fa))), (o2, .inl (dA, 14, .inl (cd_c fb))), (o3, .inl (dA, 14, .inl (cd_c fc))), (o4, .inl (dA, 8, .inl (cd_n fl)))] := hD
    refine lv_aload_n hx hb dX0_cutHigh_57 rfl (lv_at hl 0 rfl) ?_
    refine lv_iconst (v := cd_I 1) hx hb dX0_cutHigh_58 rfl ?_
    refine cd_put0 (v := .int (cd_I 1)) (ty := .boolean) hx hb hts hown hK hP hD hS 0 rfl 10 (by decide) q39 rfl rfl rfl rfl rfl (Nat.le_of_ble_eq_true rfl) dX0_cutHigh_59 (fun H locs hP hD hS => ?_)
    have hP : va_P (dC, dI) vwCl [(o0, .inr (0, [.int (cd_I ((n : Nat) : Int)), .ref o1, .ref o2, .ref o3, .int (cd_I ((lv : Nat) : Int)), .ref o4, .long (cd_L x), .long (cd_L y), .long (cd_L w), .int (cd_I hL), .int (cd_I 1), .long (cd_L lx), .long (cd_L ly), .long (cd_L lw), .long (cd_L px), .long (cd_L py), .long (cd_L pw), .int (cd_I rm), .long (cd_L bx), .long (cd_L by_), .long (cd_L bw), .int (cd_I ap), .int (cd_I aq)])), (o1, .inl (dA, 14, .inl (cd_c fa))), (o2, .inl (dA, 14, .inl (cd_c fb))), (o3, .inl (dA, 14, .inl (cd_c fc))), (o4, .inl (dA, 8, .inl (cd_n fl)))] H := hP
    have hD : va_D A [(o0, .inr (0, [.int (cd_I ((n : Nat) : Int)), .ref o1, .ref o2, .ref o3, .int (cd_I ((lv : Nat) : Int)), .ref o4, .long (cd_L x), .long (cd_L y), .long (cd_L w), .int (cd_I hL), .int (cd_I 1), .long (cd_L lx), .long (cd_L ly), .long (cd_L lw), .long (cd_L px), .long (cd_L py), .long (cd_L pw), .int (cd_I rm), .long (cd_L bx), .long (cd_L by_), .long (cd_L bw), .int (cd_I ap), .int (cd_I aq)])), (o1, .inl (dA, 14, .inl (cd_c fa))), (o2, .inl (dA, 14, .inl (cd_c fb))), (o3, .inl (dA, 14, .inl (cd_c fc))), (o4, .inl (dA, 8, .inl (cd_n fl)))] := hD
    exact W.vret hx hb hr (fun t ht hW => ⟨⟨(1, px, py, pw), rfl, Or.inl ⟨rfl, rfl, rfl, rfl, Or.inl rfl⟩, ⟨by rw [ht]; exact hP, hD⟩⟩, hS.F ht⟩) hS.2.2 dX0_cutHigh_62
  · subst hf
    refine lv_aload_n hx hb dX0_cutHigh_0 rfl (lv_at hl 0 rfl) ?_
    refine cd_get0 (v := .int (cd_I 1)) hx hb hts hown hK hP 0 rfl 10 (by decide) q39 rfl rfl dX0_cutHigh_1 ?_
    refine cd_if_eq (tgt := 40) hx hb ⟨by decide, by decide⟩ dX0_cutHigh_4 (by decide) (fun c_2 => absurd c_2 (by decide)) (fun c_2 => ?_)
    refine lv_aload_n hx hb dX0_cutHigh_7 rfl (lv_at hl 0 rfl) ?_
    refine lv_iload_n hx hb dX0_cutHigh_8 rfl (lv_at hl 1 rfl) ?_
    refine lv_lload_n hx hb dX0_cutHigh_9 rfl (lv_at hl 2 rfl) ?_
    refine lv_lload hx hb dX0_cutHigh_10 (lv_at hl 3 rfl) ?_
    refine cd_call0l (va_runV (As := [.int (cd_I ((k : Nat) : Int)), .long (cd_L px), .long (cd_L py)]) (rest := []) ⟨hx, hb, hml, hown, hts⟩ (xd_along l dC dI dA o0 o1 o2 o3 o4 n lv fa fb fc fl x y w hL 1 lx ly lw gx gy gw rm bx by_ bw ap aq k px py hk ha hb1) (cwV 3 hts (lw_V q145 q147 qs6 q19 q148) rfl rfl rfl (by decide +kernel) ⟨Nat.le_of_ble_eq_true rfl, Nat.le_of_ble_eq_true rfl⟩) ⟨cd_bl0, va_recv hK hP (ci := 0) (q0 := 0) rfl rfl, cd_pr0 hP hK⟩ rfl rfl hl.1 rfl (lv_room (Nat.le_of_ble_eq_true rfl)) dX0_cutHigh_12 ⟨Nat.le_of_ble_eq_true rfl, Nat.le_of_ble_eq_true rfl⟩) hP hS (fun r H locs hq hP hS => ?_)
    subst hq
    refine lv_aload_n hx hb dX0_cutHigh_15 rfl (lv_at hl 0 rfl) ?_
    refine cd_get0 (v := .long (cd_L gw)) hx hb hts hown hK hP 0 rfl 16 (by decide) q45 rfl rfl dX0_cutHigh_16 ?_
    refine cd_lmul hx hb dX0_cutHigh_19 ?_
    refine lv_aload_n hx hb dX0_cutHigh_20 rfl (lv_at hl 0 rfl) ?_
    refine lv_iload_n hx hb dX0_cutHigh_21 rfl (lv_at hl 1 rfl) ?_
    refine lv_aload_n hx hb dX0_cutHigh_22 rfl (lv_at hl 0 rfl) ?_
    refine cd_get0 (v := .long (cd_L gx)) hx hb hts hown hK hP 0 rfl 14 (by decide) q43 rfl rfl dX0_cutHigh_23 ?_
    refine lv_aload_n hx hb dX0_cutHigh_26 rfl (lv_at hl 0 rfl) ?_
    refine cd_get0 (v := .long (cd_L gy)) hx hb hts hown hK hP 0 rfl 15 (by decide) q44 rfl rfl dX0_cutHigh_27 ?_
    refine cd_call0l (va_runV (As := [.int (cd_I ((k : Nat) : Int)), .long (cd_L gx), .long (cd_L gy)]) (rest := [.long (cd_L ((((fa k) * py) - ((fb k) * px)) * gw))]) ⟨hx, hb, hml, hown, hts⟩ (xd_along l dC dI dA o0 o1 o2 o3 o4 n lv fa fb fc fl x y w hL 1 lx ly lw gx gy gw rm bx by_ bw ap aq k gx gy hk ha hb1) (cwV 3 hts (lw_V q145 q147 qs6 q19 q148) rfl rfl rfl (by decide +kernel) ⟨Nat.le_of_ble_eq_true rfl, Nat.le_of_ble_eq_true rfl⟩) ⟨cd_bl0, va_recv hK hP (ci := 0) (q0 := 0) rfl rfl, cd_pr0 hP hK⟩ rfl rfl hl.1 rfl (lv_room (Nat.le_of_ble_eq_true rfl)) dX0_cutHigh_30 ⟨Nat.le_of_ble_eq_true rfl, Nat.le_of_ble_eq_true rfl⟩) hP hS (fun r H locs hq hP hS => ?_)
    subst hq
    refine lv_lload hx hb dX0_cutHigh_33 (lv_at hl 4 rfl) ?_
    refine cd_lmul hx hb dX0_cutHigh_35 ?_
    refine cd_lcmp_ge (tgt := 62) hx hb (cd_bR64 (cd_bM (cd_bS (cd_bM ha hpy) (cd_bM hb1 hpx)) he3) (by decide)) (cd_bR64 (cd_bM (cd_bS (cd_bM ha he2) (cd_bM hb1 he1)) hpw) (by decide)) dX0_cutHigh_36 dX0_cutHigh_37 (by decide) (fun c_3 => ?_) (fun c_3 => ?_)
    · exact W.vret hx hb hr (fun t ht hW => ⟨⟨(1, gx, gy, gw), rfl, Or.inr ⟨rfl, rfl, rfl, rfl, rfl, by omega⟩, ⟨by rw [ht]; exact hP, hD⟩⟩, hS.F ht⟩) hS.2.2 dX0_cutHigh_62
    · refine lv_aload_n hx hb dX0_cutHigh_40 rfl (lv_at hl 0 rfl) ?_
      refine lv_lload_n hx hb dX0_cutHigh_41 rfl (lv_at hl 2 rfl) ?_
      refine cd_put0 (v := .long (cd_L px)) (ty := .long) hx hb hts hown hK hP hD hS 0 rfl 14 (by decide) q43 rfl rfl rfl rfl rfl (Nat.le_of_ble_eq_true rfl) dX0_cutHigh_42 (fun H locs hP hD hS => ?_)
      have hP : va_P (dC, dI) vwCl [(o0, .inr (0, [.int (cd_I ((n : Nat) : Int)), .ref o1, .ref o2, .ref o3, .int (cd_I ((lv : Nat) : Int)), .ref o4, .long (cd_L x), .long (cd_L y), .long (cd_L w), .int (cd_I hL), .int (cd_I 1), .long (cd_L lx), .long (cd_L ly), .long (cd_L lw), .long (cd_L px), .long (cd_L gy), .long (cd_L gw), .int (cd_I rm), .long (cd_L bx), .long (cd_L by_), .long (cd_L bw), .int (cd_I ap), .int (cd_I aq)])), (o1, .inl (dA, 14, .inl (cd_c fa))), (o2, .inl (dA, 14, .inl (cd_c fb))), (o3, .inl (dA, 14, .inl (cd_c fc))), (o4, .inl (dA, 8, .inl (cd_n fl)))] H := hP
      have hD : va_D A [(o0, .inr (0, [.int (cd_I ((n : Nat) : Int)), .ref o1, .ref o2, .ref o3, .int (cd_I ((lv : Nat) : Int)), .ref o4, .long (cd_L x), .long (cd_L y), .long (cd_L w), .int (cd_I hL), .int (cd_I 1), .long (cd_L lx), .long (cd_L ly), .long (cd_L lw), .long (cd_L px), .long (cd_L gy), .long (cd_L gw), .int (cd_I rm), .long (cd_L bx), .long (cd_L by_), .long (cd_L bw), .int (cd_I ap), .int (cd_I aq)])), (o1, .inl (dA, 14, .inl (cd_c fa))), (o2, .inl (dA, 14, .inl (cd_c fb))), (o3, .inl (dA, 14, .inl (cd_c fc))), (o4, .inl (dA, 8, .inl (cd_n fl)))] := hD
      refine lv_aload_n hx hb dX0_cutHigh_45 rfl (lv_at hl 0 rfl) ?_
      refine lv_lload hx hb dX0_cutHigh_46 (lv_at hl 3 rfl) ?_
      refine cd_put0 (v := .long (cd_L py)) (ty := .long) hx hb hts hown hK hP hD hS 0 rfl 15 (by decide) q44 rfl rfl rfl rfl rfl (Nat.le_of_ble_eq_true rfl) dX0_cutHigh_48 (fun H locs hP hD hS => ?_)
      have hP : va_P (dC, dI) vwCl [(o0, .inr (0, [.int (cd_I ((n : Nat) : Int)), .ref o1, .ref o2, .ref o3, .int (cd_I ((lv : Nat) : Int)), .ref o4, .long (cd_L x), .long (cd_L y), .long (cd_L w), .int (cd_I hL), .int (cd_I 1), .long (cd_L lx), .long (cd_L ly), .long (cd_L lw), .long (cd_L px), .long (cd_L py), .long (cd_L gw), .int (cd_I rm), .long (cd_L bx), .long (cd_L by_), .long (cd_L bw), .int (cd_I ap), .int (cd_I aq)])), (o1, .inl (dA, 14, .inl (cd_c fa))), (o2, .inl (dA, 14, .inl (cd_c fb))), (o3, .inl (dA, 14, .inl (cd_c fc))), (o4, .inl (dA, 8, .inl (cd_n fl)))] H := hP
      have hD : va_D A [(o0, .inr (0, [.int (cd_I ((n : Nat) : Int)), .ref o1, .ref o2, .ref o3, .int (cd_I ((lv : Nat) : Int)), .ref o4, .long (cd_L x), .long (cd_L y), .long (cd_L w), .int (cd_I hL), .int (cd_I 1), .long (cd_L lx), .long (cd_L ly), .long (cd_L lw), .long (cd_L px), .long (cd_L py), .long (cd_L gw), .int (cd_I rm), .long (cd_L bx), .long (cd_L by_), .long (cd_L bw), .int (cd_I ap), .int (cd_I aq)])), (o1, .inl (dA, 14, .inl (cd_c fa))), (o2, .inl (dA, 14, .inl (cd_c fb))), (o3, .inl (dA, 14, .inl (cd_c fc))), (o4, .inl (dA, 8, .inl (cd_n fl)))] := hD
      refine lv_aload_n hx hb dX0_cutHigh_51 rfl (lv_at hl 0 rfl) ?_
      refine lv_lload hx hb dX0_cutHigh_52 (lv_at hl 4 rfl) ?_
      refine cd_put0 (v := .long (cd_L pw)) (ty := .long) hx hb hts hown hK hP hD hS 0 rfl 16 (by decide) q45 rfl rfl rfl rfl rfl (Nat.le_of_ble_eq_true rfl) dX0_cutHigh_54 (fun H locs hP hD hS => ?_)
      have hP : va_P (dC, dI) vwCl [(o0, .inr (0, [.int (cd_I ((n : Nat) : Int)), .ref o1, .ref o2, .ref o3, .int (cd_I ((lv : Nat) : Int)), .ref o4, .long (cd_L x), .long (cd_L y), .long (cd_L w), .int (cd_I hL), .int (cd_I 1), .long (cd_L lx), .long (cd_L ly), .long (cd_L lw), .long (cd_L px), .long (cd_L py), .long (cd_L pw), .int (cd_I rm), .long (cd_L bx), .long (cd_L by_), .long (cd_L bw), .int (cd_I ap), .int (cd_I aq)])), (o1, .inl (dA, 14, .inl (cd_c fa))), (o2, .inl (dA, 14, .inl (cd_c fb))), (o3, .inl (dA, 14, .inl (cd_c fc))), (o4, .inl (dA, 8, .inl (cd_n fl)))] H := hP
      have hD : va_D A [(o0, .inr (0, [.int (cd_I ((n : Nat) : Int)), .ref o1, .ref o2, .ref o3, .int (cd_I ((lv : Nat) : Int)), .ref o4, .long (cd_L x), .long (cd_L y), .long (cd_L w), .int (cd_I hL), .int (cd_I 1), .long (cd_L lx), .long (cd_L ly), .long (cd_L lw), .long (cd_L px), .long (cd_L py), .long (cd_L pw), .int (cd_I rm), .long (cd_L bx), .long (cd_L by_), .long (cd_L bw), .int (cd_I ap), .int (cd_I aq)])), (o1, .inl (dA, 14, .inl (cd_c fa))), (o2, .inl (dA, 14, .inl (cd_c fb))), (o3, .inl (dA, 14, .inl (cd_c fc))), (o4, .inl (dA, 8, .inl (cd_n fl)))] := hD
      refine lv_aload_n hx hb dX0_cutHigh_57 rfl (lv_at hl 0 rfl) ?_
      refine lv_iconst (v := cd_I 1) hx hb dX0_cutHigh_58 rfl ?_
      refine cd_put0 (v := .int (cd_I 1)) (ty := .boolean) hx hb hts hown hK hP hD hS 0 rfl 10 (by decide) q39 rfl rfl rfl rfl rfl (Nat.le_of_ble_eq_true rfl) dX0_cutHigh_59 (fun H locs hP hD hS => ?_)
      have hP : va_P (dC, dI) vwCl [(o0, .inr (0, [.int (cd_I ((n : Nat) : Int)), .ref o1, .ref o2, .ref o3, .int (cd_I ((lv : Nat) : Int)), .ref o4, .long (cd_L x), .long (cd_L y), .long (cd_L w), .int (cd_I hL), .int (cd_I 1), .long (cd_L lx), .long (cd_L ly), .long (cd_L lw), .long (cd_L px), .long (cd_L py), .long (cd_L pw), .int (cd_I rm), .long (cd_L bx), .long (cd_L by_), .long (cd_L bw), .int (cd_I ap), .int (cd_I aq)])), (o1, .inl (dA, 14, .inl (cd_c fa))), (o2, .inl (dA, 14, .inl (cd_c fb))), (o3, .inl (dA, 14, .inl (cd_c fc))), (o4, .inl (dA, 8, .inl (cd_n fl)))] H := hP
      have hD : va_D A [(o0, .inr (0, [.int (cd_I ((n : Nat) : Int)), .ref o1, .ref o2, .ref o3, .int (cd_I ((lv : Nat) : Int)), .ref o4, .long (cd_L x), .long (cd_L y), .long (cd_L w), .int (cd_I hL), .int (cd_I 1), .long (cd_L lx), .long (cd_L ly), .long (cd_L lw), .long (cd_L px), .long (cd_L py), .long (cd_L pw), .int (cd_I rm), .long (cd_L bx), .long (cd_L by_), .long (cd_L bw), .int (cd_I ap), .int (cd_I aq)])), (o1, .inl (dA, 14, .inl (cd_c fa))), (o2, .inl (dA, 14, .inl (cd_c fb))), (o3, .inl (dA, 14, .inl (cd_c fc))), (o4, .inl (dA, 8, .inl (cd_n fl)))] := hD
      exact W.vret hx hb hr (fun t ht hW => ⟨⟨(1, px, py, pw), rfl, Or.inl ⟨rfl, rfl, rfl, rfl, Or.inr (by omega)⟩, ⟨by rw [ht]; exact hP, hD⟩⟩, hS.F ht⟩) hS.2.2 dX0_cutHigh_62

set_option maxHeartbeats 4000000 in
set_option maxRecDepth 100000 in
/-- cutLow -/
theorem xd_cutLow (l : Launch) (dC : Nat → ClassId) (dI : Nat → Nat → Nat) (dA : ClassId) (o0 o1 o2 o3 o4 n lv : Nat) (fa fb fc : Nat → Int) (fl : Nat → Nat) (x y w hL hH lx ly lw gx gy gw rm bx by_ bw ap aq : Int) (sz k : Nat) (px py pw : Int) (hk : k < 14) (ha : cd_b 9 (fa k)) (hb1 : cd_b 9 (fb k)) (hpx : cd_b 1782 px) (hpy : cd_b 1782 py) (hpw : cd_b 162 pw) (hf : hL = 0 ∨ (hL = 1 ∧ cd_b 1782 lx ∧ cd_b 1782 ly ∧ cd_b 162 lw)) : Met l yX0_cutLow (ws_ yX0_cutLow cX0_cutLow 8 none) ({ frames := 1, cells := 0, slots := 0, locals := 25 }) (va_Pc [.ref o0, .int (cd_I ((k : Nat) : Int)), .long (cd_L px), .long (cd_L py), .long (cd_L pw)] (cd_W1 (dC, dI) vwCl [(dA, .int)] (cd_D dA o0 o1 o2 o3 o4 n lv fa fb fc fl x y w hL hH lx ly lw gx gy gw rm bx by_ bw ap aq) sz)) (va_Qv (fun (u : Int × Int × Int × Int) => cd_cutL (fa k) (fb k) px py pw hL lx ly lw u.1 u.2.1 u.2.2.1 u.2.2.2) (cd_B (dC, dI) vwCl (va_A (cd_D dA o0 o1 o2 o3 o4 n lv fa fb fc fl x y w hL hH lx ly lw gx gy gw rm bx by_ bw ap aq) sz) (fun u : Int × Int × Int × Int => (cd_D dA o0 o1 o2 o3 o4 n lv fa fb fc fl x y w u.1 hH u.2.1 u.2.2.1 u.2.2.2 gx gy gw rm bx by_ bw ap aq))) (va_A (cd_D dA o0 o1 o2 o3 o4 n lv fa fb fc fl x y w hL hH lx ly lw gx gy gw rm bx by_ bw ap aq) sz)) 0 0 (va_A (cd_D dA o0 o1 o2 o3 o4 n lv fa fb fc fl x y w hL hH lx ly lw gx gy gw rm bx by_ bw ap aq) sz) := by
  refine Met.ofW (cc := cX0_cutLow) (maxL := 8) (ret := none) (by decide) rfl ?_
  intro p e s m args below meth c s₁ B hml hv
  obtain ⟨rfl, hsz, hP, hK, hD0⟩ := hv
  have hx := B.exec
  have hb := B.bytes
  have hr := B.returns
  have hts := atoms_spec (ws := (ws_ yX0_cutLow cX0_cutLow 8 none)) B.pre
  have hts : ∀ w ∈ lw_all, w.before _ s = true := fun w h => hts w (List.mem_cons_of_mem _ h)
  have hown : s.vm.findClass RX0 = some m.cls := findClass_of_methodNamed B.named
  have hlocks := B.notSynchronized
  subst hsz
  have hD := hD0.self (sz := s.heap.size)
  generalize hAe : va_A (cd_D dA o0 o1 o2 o3 o4 n lv fa fb fc fl x y w hL hH lx ly lw gx gy gw rm bx by_ bw ap aq) s.heap.size = A at hD ⊢
  have hA : ∀ q : Nat, s.heap.size ≤ q → A q := fun q h => by rw [← hAe]; exact Or.inr h
  have hS : va_S A s.heap s.heap [] := va_S.rf
  have hl := lv_entry ([.ref o0, .int (cd_I ((k : Nat) : Int)), .long (cd_L px), .long (cd_L py), .long (cd_L pw)]) (n := 8) (Nat.le_of_ble_eq_true rfl)
  rw [lg_entry_eq]
  generalize (lg_sl ([.ref o0, .int (cd_I ((k : Nat) : Int)), .long (cd_L px), .long (cd_L py), .long (cd_L pw)]) ++ List.replicate (8 - (lg_sl ([.ref o0, .int (cd_I ((k : Nat) : Int)), .long (cd_L px), .long (cd_L py), .long (cd_L pw)])).length) Slot.unset).toArray = ls at hl ⊢
  have hl : lv_has ls 8 [(0, .ref o0), (1, .int (cd_I ((k : Nat) : Int))), (2, .long (cd_L px)), (4, .long (cd_L py)), (6, .long (cd_L pw))] := hl
  have hP : va_P (dC, dI) vwCl [(o0, .inr (0, [.int (cd_I ((n : Nat) : Int)), .ref o1, .ref o2, .ref o3, .int (cd_I ((lv : Nat) : Int)), .ref o4, .long (cd_L x), .long (cd_L y), .long (cd_L w), .int (cd_I hL), .int (cd_I hH), .long (cd_L lx), .long (cd_L ly), .long (cd_L lw), .long (cd_L gx), .long (cd_L gy), .long (cd_L gw), .int (cd_I rm), .long (cd_L bx), .long (cd_L by_), .long (cd_L bw), .int (cd_I ap), .int (cd_I aq)])), (o1, .inl (dA, 14, .inl (cd_c fa))), (o2, .inl (dA, 14, .inl (cd_c fb))), (o3, .inl (dA, 14, .inl (cd_c fc))), (o4, .inl (dA, 8, .inl (cd_n fl)))] s.heap := hP
  have hD : va_D A [(o0, .inr (0, [.int (cd_I ((n : Nat) : Int)), .ref o1, .ref o2, .ref o3, .int (cd_I ((lv : Nat) : Int)), .ref o4, .long (cd_L x), .long (cd_L y), .long (cd_L w), .int (cd_I hL), .int (cd_I hH), .long (cd_L lx), .long (cd_L ly), .long (cd_L lw), .long (cd_L gx), .long (cd_L gy), .long (cd_L gw), .int (cd_I rm), .long (cd_L bx), .long (cd_L by_), .long (cd_L bw), .int (cd_I ap), .int (cd_I aq)])), (o1, .inl (dA, 14, .inl (cd_c fa))), (o2, .inl (dA, 14, .inl (cd_c fb))), (o3, .inl (dA, 14, .inl (cd_c fc))), (o4, .inl (dA, 8, .inl (cd_n fl)))] := hD
  rcases hf with hf | ⟨hf, he1, he2, he3⟩
  · subst hf
    refine lv_aload_n hx hb dX0_cutLow_0 rfl (lv_at hl 0 rfl) ?_
    refine cd_get0 (v := .int (cd_I 0)) hx hb hts hown hK hP 0 rfl 9 (by decide) q38 rfl rfl dX0_cutLow_1 ?_
    refine cd_if_eq (tgt := 40) hx hb ⟨by decide, by decide⟩ dX0_cutLow_4 (by decide) (fun c_1 => ?_) (fun c_1 => absurd c_1 (by decide))
    refine lv_aload_n hx hb dX0_cutLow_40 rfl (lv_at hl 0 rfl) ?_
    refine lv_lload_n hx hb dX0_cutLow_41 rfl (lv_at hl 2 rfl) ?_
    refine cd_put0 (v := .long (cd_L px)) (ty := .long) hx hb hts hown hK hP hD hS 0 rfl 11 (by decide) q40 rfl rfl rfl rfl rfl (Nat.le_of_ble_eq_true rfl) dX0_cutLow_42 (fun H locs hP hD hS => ?_)
    have hP : va_P (dC, dI) vwCl [(o0, .inr (0, [.int (cd_I ((n : Nat) : Int)), .ref o1, .ref o2, .ref o3, .int (cd_I ((lv : Nat) : Int)), .ref o4, .long (cd_L x), .long (cd_L y), .long (cd_L w), .int (cd_I 0), .int (cd_I hH), .long (cd_L px), .long (cd_L ly), .long (cd_L lw), .long (cd_L gx), .long (cd_L gy), .long (cd_L gw), .int (cd_I rm), .long (cd_L bx), .long (cd_L by_), .long (cd_L bw), .int (cd_I ap), .int (cd_I aq)])), (o1, .inl (dA, 14, .inl (cd_c fa))), (o2, .inl (dA, 14, .inl (cd_c fb))), (o3, .inl (dA, 14, .inl (cd_c fc))), (o4, .inl (dA, 8, .inl (cd_n fl)))] H := hP
    have hD : va_D A [(o0, .inr (0, [.int (cd_I ((n : Nat) : Int)), .ref o1, .ref o2, .ref o3, .int (cd_I ((lv : Nat) : Int)), .ref o4, .long (cd_L x), .long (cd_L y), .long (cd_L w), .int (cd_I 0), .int (cd_I hH), .long (cd_L px), .long (cd_L ly), .long (cd_L lw), .long (cd_L gx), .long (cd_L gy), .long (cd_L gw), .int (cd_I rm), .long (cd_L bx), .long (cd_L by_), .long (cd_L bw), .int (cd_I ap), .int (cd_I aq)])), (o1, .inl (dA, 14, .inl (cd_c fa))), (o2, .inl (dA, 14, .inl (cd_c fb))), (o3, .inl (dA, 14, .inl (cd_c fc))), (o4, .inl (dA, 8, .inl (cd_n fl)))] := hD
    refine lv_aload_n hx hb dX0_cutLow_45 rfl (lv_at hl 0 rfl) ?_
    refine lv_lload hx hb dX0_cutLow_46 (lv_at hl 3 rfl) ?_
    refine cd_put0 (v := .long (cd_L py)) (ty := .long) hx hb hts hown hK hP hD hS 0 rfl 12 (by decide) q41 rfl rfl rfl rfl rfl (Nat.le_of_ble_eq_true rfl) dX0_cutLow_48 (fun H locs hP hD hS => ?_)
    have hP : va_P (dC, dI) vwCl [(o0, .inr (0, [.int (cd_I ((n : Nat) : Int)), .ref o1, .ref o2, .ref o3, .int (cd_I ((lv : Nat) : Int)), .ref o4, .long (cd_L x), .long (cd_L y), .long (cd_L w), .int (cd_I 0), .int (cd_I hH), .long (cd_L px), .long (cd_L py), .long (cd_L lw), .long (cd_L gx), .long (cd_L gy), .long (cd_L gw), .int (cd_I rm), .long (cd_L bx), .long (cd_L by_), .long (cd_L bw), .int (cd_I ap), .int (cd_I aq)])), (o1, .inl (dA, 14, .inl (cd_c fa))), (o2, .inl (dA, 14, .inl (cd_c fb))), (o3, .inl (dA, 14, .inl (cd_c fc))), (o4, .inl (dA, 8, .inl (cd_n fl)))] H := hP
    have hD : va_D A [(o0, .inr (0, [.int (cd_I ((n : Nat) : Int)), .ref o1, .ref o2, .ref o3, .int (cd_I ((lv : Nat) : Int)), .ref o4, .long (cd_L x), .long (cd_L y), .long (cd_L w), .int (cd_I 0), .int (cd_I hH), .long (cd_L px), .long (cd_L py), .long (cd_L lw), .long (cd_L gx), .long (cd_L gy), .long (cd_L gw), .int (cd_I rm), .long (cd_L bx), .long (cd_L by_), .long (cd_L bw), .int (cd_I ap), .int (cd_I aq)])), (o1, .inl (dA, 14, .inl (cd_c fa))), (o2, .inl (dA, 14, .inl (cd_c fb))), (o3, .inl (dA, 14, .inl (cd_c fc))), (o4, .inl (dA, 8, .inl (cd_n fl)))] := hD
    refine lv_aload_n hx hb dX0_cutLow_51 rfl (lv_at hl 0 rfl) ?_
    refine lv_lload hx hb dX0_cutLow_52 (lv_at hl 4 rfl) ?_
    refine cd_put0 (v := .long (cd_L pw)) (ty := .long) hx hb hts hown hK hP hD hS 0 rfl 13 (by decide) q42 rfl rfl rfl rfl rfl (Nat.le_of_ble_eq_true rfl) dX0_cutLow_54 (fun H locs hP hD hS => ?_)
    have hP : va_P (dC, dI) vwCl [(o0, .inr (0, [.int (cd_I ((n : Nat) : Int)), .ref o1, .ref o2, .ref o3, .int (cd_I ((lv : Nat) : Int)), .ref o4, .long (cd_L x), .long (cd_L y), .long (cd_L w), .int (cd_I 0), .int (cd_I hH), .long (cd_L px), .long (cd_L py), .long (cd_L pw), .long (cd_L gx), .long (cd_L gy), .long (cd_L gw), .int (cd_I rm), .long (cd_L bx), .long (cd_L by_), .long (cd_L bw), .int (cd_I ap), .int (cd_I aq)])), (o1, .inl (dA, 14, .inl (cd_c fa))), (o2, .inl (dA, 14, .inl (cd_c fb))), (o3, .inl (dA, 14, .inl (cd_c fc))), (o4, .inl (dA, 8, .inl (cd_n fl)))] H := hP
    have hD : va_D A [(o0, .inr (0, [.int (cd_I ((n : Nat) : Int)), .ref o1, .ref o2, .ref o3, .int (cd_I ((lv : Nat) : Int)), .ref o4, .long (cd_L x), .long (cd_L y), .long (cd_L w), .int (cd_I 0), .int (cd_I hH), .long (cd_L px), .long (cd_L py), .long (cd_L pw), .long (cd_L gx), .long (cd_L gy), .long (cd_L gw), .int (cd_I rm), .long (cd_L bx), .long (cd_L by_), .long (cd_L bw), .int (cd_I ap), .int (cd_I aq)])), (o1, .inl (dA, 14, .inl (cd_c fa))), (o2, .inl (dA, 14, .inl (cd_c fb))), (o3, .inl (dA, 14, .inl (cd_c fc))), (o4, .inl (dA, 8, .inl (cd_n fl)))] := hD
    refine lv_aload_n hx hb dX0_cutLow_57 rfl (lv_at hl 0 rfl) ?_
    refine lv_iconst (v := cd_I 1) hx hb dX0_cutLow_58 rfl ?_
    refine cd_put0 (v := .int (cd_I 1)) (ty := .boolean) hx hb hts hown hK hP hD hS 0 rfl 9 (by decide) q38 rfl rfl rfl rfl rfl (Nat.le_of_ble_eq_true rfl) dX0_cutLow_59 (fun H locs hP hD hS => ?_)
    have hP : va_P (dC, dI) vwCl [(o0, .inr (0, [.int (cd_I ((n : Nat) : Int)), .ref o1, .ref o2, .ref o3, .int (cd_I ((lv : Nat) : Int)), .ref o4, .long (cd_L x), .long (cd_L y), .long (cd_L w), .int (cd_I 1), .int (cd_I hH), .long (cd_L px), .long (cd_L py), .long (cd_L pw), .long (cd_L gx), .long (cd_L gy), .long (cd_L gw), .int (cd_I rm), .long (cd_L bx), .long (cd_L by_), .long (cd_L bw), .int (cd_I ap), .int (cd_I aq)])), (o1, .inl (dA, 14, .inl (cd_c fa))), (o2, .inl (dA, 14, .inl (cd_c fb))), (o3, .inl (dA, 14, .inl (cd_c fc))), (o4, .inl (dA, 8, .inl (cd_n fl)))] H := hP
    have hD : va_D A [(o0, .inr (0, [.int (cd_I ((n : Nat) : Int)), .ref o1, .ref o2, .ref o3, .int (cd_I ((lv : Nat) : Int)), .ref o4, .long (cd_L x), .long (cd_L y), .long (cd_L w), .int (cd_I 1), .int (cd_I hH), .long (cd_L px), .long (cd_L py), .long (cd_L pw), .long (cd_L gx), .long (cd_L gy), .long (cd_L gw), .int (cd_I rm), .long (cd_L bx), .long (cd_L by_), .long (cd_L bw), .int (cd_I ap), .int (cd_I aq)])), (o1, .inl (dA, 14, .inl (cd_c fa))), (o2, .inl (dA, 14, .inl (cd_c fb))), (o3, .inl (dA, 14, .inl (cd_c fc))), (o4, .inl (dA, 8, .inl (cd_n fl)))] := hD
    exact W.vret hx hb hr (fun t ht hW => ⟨⟨(1, px, py, pw), rfl, Or.inl ⟨rfl, rfl, rfl, rfl, Or.inl rfl⟩, ⟨by rw [ht]; exact hP, hD⟩⟩, hS.F ht⟩) hS.2.2 dX0_cutLow_62
  · subst hf
    refine lv_aload_n hx hb dX0_cutLow_0 rfl (lv_at hl 0 rfl) ?_
    refine cd_get0 (v := .int (cd_I 1)) hx hb hts hown hK hP 0 rfl 9 (by decide) q38 rfl rfl dX0_cutLow_1 ?_
    refine cd_if_eq (tgt := 40) hx hb ⟨by decide, by decide⟩ dX0_cutLow_4 (by decide) (fun c_2 => absurd c_2 (by decide)) (fun c_2 => ?_)
    refine lv_aload_n hx hb dX0_cutLow_7 rfl (lv_at hl 0 rfl) ?_
    refine lv_iload_n hx hb dX0_cutLow_8 rfl (lv_at hl 1 rfl) ?_
    refine lv_lload_n hx hb dX0_cutLow_9 rfl (lv_at hl 2 rfl) ?_
    refine lv_lload hx hb dX0_cutLow_10 (lv_at hl 3 rfl) ?_
    refine cd_call0l (va_runV (As := [.int (cd_I ((k : Nat) : Int)), .long (cd_L px), .long (cd_L py)]) (rest := []) ⟨hx, hb, hml, hown, hts⟩ (xd_along l dC dI dA o0 o1 o2 o3 o4 n lv fa fb fc fl x y w 1 hH lx ly lw gx gy gw rm bx by_ bw ap aq k px py hk ha hb1) (cwV 3 hts (lw_V q145 q147 qs6 q19 q148) rfl rfl rfl (by decide +kernel) ⟨Nat.le_of_ble_eq_true rfl, Nat.le_of_ble_eq_true rfl⟩) ⟨cd_bl0, va_recv hK hP (ci := 0) (q0 := 0) rfl rfl, cd_pr0 hP hK⟩ rfl rfl hl.1 rfl (lv_room (Nat.le_of_ble_eq_true rfl)) dX0_cutLow_12 ⟨Nat.le_of_ble_eq_true rfl, Nat.le_of_ble_eq_true rfl⟩) hP hS (fun r H locs hq hP hS => ?_)
    subst hq
    refine lv_aload_n hx hb dX0_cutLow_15 rfl (lv_at hl 0 rfl) ?_
    refine cd_get0 (v := .long (cd_L lw)) hx hb hts hown hK hP 0 rfl 13 (by decide) q42 rfl rfl dX0_cutLow_16 ?_
    refine cd_lmul hx hb dX0_cutLow_19 ?_
    refine lv_aload_n hx hb dX0_cutLow_20 rfl (lv_at hl 0 rfl) ?_
    refine lv_iload_n hx hb dX0_cutLow_21 rfl (lv_at hl 1 rfl) ?_
    refine lv_aload_n hx hb dX0_cutLow_22 rfl (lv_at hl 0 rfl) ?_
    refine cd_get0 (v := .long (cd_L lx)) hx hb hts hown hK hP 0 rfl 11 (by decide) q40 rfl rfl dX0_cutLow_23 ?_
    refine lv_aload_n hx hb dX0_cutLow_26 rfl (lv_at hl 0 rfl) ?_
    refine cd_get0 (v := .long (cd_L ly)) hx hb hts hown hK hP 0 rfl 12 (by decide) q41 rfl rfl dX0_cutLow_27 ?_
    refine cd_call0l (va_runV (As := [.int (cd_I ((k : Nat) : Int)), .long (cd_L lx), .long (cd_L ly)]) (rest := [.long (cd_L ((((fa k) * py) - ((fb k) * px)) * lw))]) ⟨hx, hb, hml, hown, hts⟩ (xd_along l dC dI dA o0 o1 o2 o3 o4 n lv fa fb fc fl x y w 1 hH lx ly lw gx gy gw rm bx by_ bw ap aq k lx ly hk ha hb1) (cwV 3 hts (lw_V q145 q147 qs6 q19 q148) rfl rfl rfl (by decide +kernel) ⟨Nat.le_of_ble_eq_true rfl, Nat.le_of_ble_eq_true rfl⟩) ⟨cd_bl0, va_recv hK hP (ci := 0) (q0 := 0) rfl rfl, cd_pr0 hP hK⟩ rfl rfl hl.1 rfl (lv_room (Nat.le_of_ble_eq_true rfl)) dX0_cutLow_30 ⟨Nat.le_of_ble_eq_true rfl, Nat.le_of_ble_eq_true rfl⟩) hP hS (fun r H locs hq hP hS => ?_)
    subst hq
    refine lv_lload hx hb dX0_cutLow_33 (lv_at hl 4 rfl) ?_
    refine cd_lmul hx hb dX0_cutLow_35 ?_
    refine cd_lcmp_le (tgt := 62) hx hb (cd_bR64 (cd_bM (cd_bS (cd_bM ha hpy) (cd_bM hb1 hpx)) he3) (by decide)) (cd_bR64 (cd_bM (cd_bS (cd_bM ha he2) (cd_bM hb1 he1)) hpw) (by decide)) dX0_cutLow_36 dX0_cutLow_37 (by decide) (fun c_3 => ?_) (fun c_3 => ?_)
    · exact W.vret hx hb hr (fun t ht hW => ⟨⟨(1, lx, ly, lw), rfl, Or.inr ⟨rfl, rfl, rfl, rfl, rfl, by omega⟩, ⟨by rw [ht]; exact hP, hD⟩⟩, hS.F ht⟩) hS.2.2 dX0_cutLow_62
    · refine lv_aload_n hx hb dX0_cutLow_40 rfl (lv_at hl 0 rfl) ?_
      refine lv_lload_n hx hb dX0_cutLow_41 rfl (lv_at hl 2 rfl) ?_
      refine cd_put0 (v := .long (cd_L px)) (ty := .long) hx hb hts hown hK hP hD hS 0 rfl 11 (by decide) q40 rfl rfl rfl rfl rfl (Nat.le_of_ble_eq_true rfl) dX0_cutLow_42 (fun H locs hP hD hS => ?_)
      have hP : va_P (dC, dI) vwCl [(o0, .inr (0, [.int (cd_I ((n : Nat) : Int)), .ref o1, .ref o2, .ref o3, .int (cd_I ((lv : Nat) : Int)), .ref o4, .long (cd_L x), .long (cd_L y), .long (cd_L w), .int (cd_I 1), .int (cd_I hH), .long (cd_L px), .long (cd_L ly), .long (cd_L lw), .long (cd_L gx), .long (cd_L gy), .long (cd_L gw), .int (cd_I rm), .long (cd_L bx), .long (cd_L by_), .long (cd_L bw), .int (cd_I ap), .int (cd_I aq)])), (o1, .inl (dA, 14, .inl (cd_c fa))), (o2, .inl (dA, 14, .inl (cd_c fb))), (o3, .inl (dA, 14, .inl (cd_c fc))), (o4, .inl (dA, 8, .inl (cd_n fl)))] H := hP
      have hD : va_D A [(o0, .inr (0, [.int (cd_I ((n : Nat) : Int)), .ref o1, .ref o2, .ref o3, .int (cd_I ((lv : Nat) : Int)), .ref o4, .long (cd_L x), .long (cd_L y), .long (cd_L w), .int (cd_I 1), .int (cd_I hH), .long (cd_L px), .long (cd_L ly), .long (cd_L lw), .long (cd_L gx), .long (cd_L gy), .long (cd_L gw), .int (cd_I rm), .long (cd_L bx), .long (cd_L by_), .long (cd_L bw), .int (cd_I ap), .int (cd_I aq)])), (o1, .inl (dA, 14, .inl (cd_c fa))), (o2, .inl (dA, 14, .inl (cd_c fb))), (o3, .inl (dA, 14, .inl (cd_c fc))), (o4, .inl (dA, 8, .inl (cd_n fl)))] := hD
      refine lv_aload_n hx hb dX0_cutLow_45 rfl (lv_at hl 0 rfl) ?_
      refine lv_lload hx hb dX0_cutLow_46 (lv_at hl 3 rfl) ?_
      refine cd_put0 (v := .long (cd_L py)) (ty := .long) hx hb hts hown hK hP hD hS 0 rfl 12 (by decide) q41 rfl rfl rfl rfl rfl (Nat.le_of_ble_eq_true rfl) dX0_cutLow_48 (fun H locs hP hD hS => ?_)
      have hP : va_P (dC, dI) vwCl [(o0, .inr (0, [.int (cd_I ((n : Nat) : Int)), .ref o1, .ref o2, .ref o3, .int (cd_I ((lv : Nat) : Int)), .ref o4, .long (cd_L x), .long (cd_L y), .long (cd_L w), .int (cd_I 1), .int (cd_I hH), .long (cd_L px), .long (cd_L py), .long (cd_L lw), .long (cd_L gx), .long (cd_L gy), .long (cd_L gw), .int (cd_I rm), .long (cd_L bx), .long (cd_L by_), .long (cd_L bw), .int (cd_I ap), .int (cd_I aq)])), (o1, .inl (dA, 14, .inl (cd_c fa))), (o2, .inl (dA, 14, .inl (cd_c fb))), (o3, .inl (dA, 14, .inl (cd_c fc))), (o4, .inl (dA, 8, .inl (cd_n fl)))] H := hP
      have hD : va_D A [(o0, .inr (0, [.int (cd_I ((n : Nat) : Int)), .ref o1, .ref o2, .ref o3, .int (cd_I ((lv : Nat) : Int)), .ref o4, .long (cd_L x), .long (cd_L y), .long (cd_L w), .int (cd_I 1), .int (cd_I hH), .long (cd_L px), .long (cd_L py), .long (cd_L lw), .long (cd_L gx), .long (cd_L gy), .long (cd_L gw), .int (cd_I rm), .long (cd_L bx), .long (cd_L by_), .long (cd_L bw), .int (cd_I ap), .int (cd_I aq)])), (o1, .inl (dA, 14, .inl (cd_c fa))), (o2, .inl (dA, 14, .inl (cd_c fb))), (o3, .inl (dA, 14, .inl (cd_c fc))), (o4, .inl (dA, 8, .inl (cd_n fl)))] := hD
      refine lv_aload_n hx hb dX0_cutLow_51 rfl (lv_at hl 0 rfl) ?_
      refine lv_lload hx hb dX0_cutLow_52 (lv_at hl 4 rfl) ?_
      refine cd_put0 (v := .long (cd_L pw)) (ty := .long) hx hb hts hown hK hP hD hS 0 rfl 13 (by decide) q42 rfl rfl rfl rfl rfl (Nat.le_of_ble_eq_true rfl) dX0_cutLow_54 (fun H locs hP hD hS => ?_)
      have hP : va_P (dC, dI) vwCl [(o0, .inr (0, [.int (cd_I ((n : Nat) : Int)), .ref o1, .ref o2, .ref o3, .int (cd_I ((lv : Nat) : Int)), .ref o4, .long (cd_L x), .long (cd_L y), .long (cd_L w), .int (cd_I 1), .int (cd_I hH), .long (cd_L px), .long (cd_L py), .long (cd_L pw), .long (cd_L gx), .long (cd_L gy), .long (cd_L gw), .int (cd_I rm), .long (cd_L bx), .long (cd_L by_), .long (cd_L bw), .int (cd_I ap), .int (cd_I aq)])), (o1, .inl (dA, 14, .inl (cd_c fa))), (o2, .inl (dA, 14, .inl (cd_c fb))), (o3, .inl (dA, 14, .inl (cd_c fc))), (o4, .inl (dA, 8, .inl (cd_n fl)))] H := hP
      have hD : va_D A [(o0, .inr (0, [.int (cd_I ((n : Nat) : Int)), .ref o1, .ref o2, .ref o3, .int (cd_I ((lv : Nat) : Int)), .ref o4, .long (cd_L x), .long (cd_L y), .long (cd_L w), .int (cd_I 1), .int (cd_I hH), .long (cd_L px), .long (cd_L py), .long (cd_L pw), .long (cd_L gx), .long (cd_L gy), .long (cd_L gw), .int (cd_I rm), .long (cd_L bx), .long (cd_L by_), .long (cd_L bw), .int (cd_I ap), .int (cd_I aq)])), (o1, .inl (dA, 14, .inl (cd_c fa))), (o2, .inl (dA, 14, .inl (cd_c fb))), (o3, .inl (dA, 14, .inl (cd_c fc))), (o4, .inl (dA, 8, .inl (cd_n fl)))] := hD
      refine lv_aload_n hx hb dX0_cutLow_57 rfl (lv_at hl 0 rfl) ?_
      refine lv_iconst (v := cd_I 1) hx hb dX0_cutLow_58 rfl ?_
      refine cd_put0 (v := .int (cd_I 1)) (ty := .boolean) hx hb hts hown hK hP hD hS 0 rfl 9 (by decide) q38 rfl rfl rfl rfl rfl (Nat.le_of_ble_eq_true rfl) dX0_cutLow_59 (fun H locs hP hD hS => ?_)
      have hP : va_P (dC, dI) vwCl [(o0, .inr (0, [.int (cd_I ((n : Nat) : Int)), .ref o1, .ref o2, .ref o3, .int (cd_I ((lv : Nat) : Int)), .ref o4, .long (cd_L x), .long (cd_L y), .long (cd_L w), .int (cd_I 1), .int (cd_I hH), .long (cd_L px), .long (cd_L py), .long (cd_L pw), .long (cd_L gx), .long (cd_L gy), .long (cd_L gw), .int (cd_I rm), .long (cd_L bx), .long (cd_L by_), .long (cd_L bw), .int (cd_I ap), .int (cd_I aq)])), (o1, .inl (dA, 14, .inl (cd_c fa))), (o2, .inl (dA, 14, .inl (cd_c fb))), (o3, .inl (dA, 14, .inl (cd_c fc))), (o4, .inl (dA, 8, .inl (cd_n fl)))] H := hP
      have hD : va_D A [(o0, .inr (0, [.int (cd_I ((n : Nat) : Int)), .ref o1, .ref o2, .ref o3, .int (cd_I ((lv : Nat) : Int)), .ref o4, .long (cd_L x), .long (cd_L y), .long (cd_L w), .int (cd_I 1), .int (cd_I hH), .long (cd_L px), .long (cd_L py), .long (cd_L pw), .long (cd_L gx), .long (cd_L gy), .long (cd_L gw), .int (cd_I rm), .long (cd_L bx), .long (cd_L by_), .long (cd_L bw), .int (cd_I ap), .int (cd_I aq)])), (o1, .inl (dA, 14, .inl (cd_c fa))), (o2, .inl (dA, 14, .inl (cd_c fb))), (o3, .inl (dA, 14, .inl (cd_c fc))), (o4, .inl (dA, 8, .inl (cd_n fl)))] := hD
      exact W.vret hx hb hr (fun t ht hW => ⟨⟨(1, px, py, pw), rfl, Or.inl ⟨rfl, rfl, rfl, rfl, Or.inr (by omega)⟩, ⟨by rw [ht]; exact hP, hD⟩⟩, hS.F ht⟩) hS.2.2 dX0_cutLow_62
end
section
/-! CornerDesk: cutStretch, moveOnto, solve -/
def cd_cut (r : Int32) (ak bk ck aj bj cj hL lx ly lw hH gx gy gw hL' lx' ly' lw' hH' gx' gy' gw' : Int) : Prop :=
  (ak * bj - aj * bk = 0 ∧ (hL' = hL ∧ lx' = lx ∧ ly' = ly ∧ lw' = lw) ∧ (hH' = hH ∧ gx' = gx ∧ gy' = gy ∧ gw' = gw) ∧ ((r = cd_I 1 ∧ cd_par ak bk ck aj bj cj) ∨ (r = cd_I 0 ∧ ¬ cd_par ak bk ck aj bj cj))) ∨
  (0 < ak * bj - aj * bk ∧ r = cd_I 1 ∧ (hL' = hL ∧ lx' = lx ∧ ly' = ly ∧ lw' = lw) ∧ cd_cutH ak bk (ck * bj - cj * bk) (ak * cj - aj * ck) (ak * bj - aj * bk) hH gx gy gw hH' gx' gy' gw') ∨
  (ak * bj - aj * bk < 0 ∧ r = cd_I 1 ∧ (hH' = hH ∧ gx' = gx ∧ gy' = gy ∧ gw' = gw) ∧ cd_cutL ak bk (-(ck * bj - cj * bk)) (-(ak * cj - aj * ck)) (-(ak * bj - aj * bk)) hL lx ly lw hL' lx' ly' lw')
theorem cd_str_b {a b c : Nat → Int} {n k : Nat} {S : Nat → Prop} {hL lx ly lw hH gx gy gw : Int} (hok : cd_ok a b c n) (hk : k < n) (hS : ∀ j, S j → j < n) (h : cd_str a b c k S hL lx ly lw hH gx gy gw) : (hH = 0 ∨ (hH = 1 ∧ cd_b 1782 gx ∧ cd_b 1782 gy ∧ cd_b 162 gw)) ∧ (hL = 0 ∨ (hL = 1 ∧ cd_b 1782 lx ∧ cd_b 1782 ly ∧ cd_b 162 lw)) := by
  obtain ⟨-, -, -, -, -, hB⟩ := hok
  obtain ⟨h1, h2, -⟩ := h
  have hK := hB k hk
  constructor
  · rcases h1 with q | ⟨q, i, hi, hc⟩
    · exact Or.inl q
    · have hI := hB i (hS i hi)
      have z := cd_cr_b hc hK.1 hK.2.1 hK.2.2.1 hI.1 hI.2.1 hI.2.2.1
      exact Or.inr ⟨q, z.1, z.2.1, z.2.2.1⟩
  · rcases h2 with q | ⟨q, i, hi, hc⟩
    · exact Or.inl q
    · have hI := hB i (hS i hi)
      have z := cd_cr_b hc hK.1 hK.2.1 hK.2.2.1 hI.1 hI.2.1 hI.2.2.1
      exact Or.inr ⟨q, z.1, z.2.1, z.2.2.1⟩
theorem cd_corn_b {a b c : Nat → Int} {n : Nat} {S : Nat → Prop} {X Y W : Int} (hok : cd_ok a b c n) (hS : ∀ j, S j → j < n) (h : cd_corn a b c S X Y W) : cd_b 1782 X ∧ cd_b 1782 Y ∧ cd_b 162 W ∧ 0 < W := by
  obtain ⟨-, -, -, -, -, hB⟩ := hok
  obtain ⟨i, j, hi, hj, hc⟩ := h
  have hI := hB i (hS i hi)
  have hJ := hB j (hS j hj)
  exact cd_cr_b hc hI.1 hI.2.1 hI.2.2.1 hJ.1 hJ.2.1 hJ.2.2.1
set_option maxHeartbeats 4000000 in
set_option maxRecDepth 100000 in
/-- cutStretch: the line of k cut by the condition j -/
theorem xd_cutStretch (l : Launch) (dC : Nat → ClassId) (dI : Nat → Nat → Nat) (dA : ClassId) (o0 o1 o2 o3 o4 n lv : Nat) (fa fb fc : Nat → Int) (fl : Nat → Nat) (x y w hL hH lx ly lw gx gy gw rm bx by_ bw ap aq : Int) (sz : Nat) (k j : Nat) (hk : k < 14) (hj : j < 14) (ha : cd_b 9 (fa k)) (hb1 : cd_b 9 (fb k)) (hc1 : cd_b 99 (fc k)) (ha2 : cd_b 9 (fa j)) (hb2 : cd_b 9 (fb j)) (hc2 : cd_b 99 (fc j)) (hfH : hH = 0 ∨ (hH = 1 ∧ cd_b 1782 gx ∧ cd_b 1782 gy ∧ cd_b 162 gw)) (hfL : hL = 0 ∨ (hL = 1 ∧ cd_b 1782 lx ∧ cd_b 1782 ly ∧ cd_b 162 lw)) : Met l yX0_cutStretch (ws_ yX0_cutStretch cX0_cutStretch 8 (some .boolean)) ({ frames := 2, cells := 0, slots := 0, locals := 52 }) (va_Pc [.ref o0, .int (cd_I ((k : Nat) : Int)), .int (cd_I ((j : Nat) : Int))] (cd_W1 (dC, dI) vwCl [(dA, .int)] (cd_D dA o0 o1 o2 o3 o4 n lv fa fb fc fl x y w hL hH lx ly lw gx gy gw rm bx by_ bw ap aq) sz)) (va_Qi (fun (r : Int32) (u : Int × Int × Int × Int × Int × Int × Int × Int) => cd_cut r (fa k) (fb k) (fc k) (fa j) (fb j) (fc j) hL lx ly lw hH gx gy gw u.1 u.2.1 u.2.2.1 u.2.2.2.1 u.2.2.2.2.1 u.2.2.2.2.2.1 u.2.2.2.2.2.2.1 u.2.2.2.2.2.2.2) (cd_B (dC, dI) vwCl (va_A (cd_D dA o0 o1 o2 o3 o4 n lv fa fb fc fl x y w hL hH lx ly lw gx gy gw rm bx by_ bw ap aq) sz) (fun u : Int × Int × Int × Int × Int × Int × Int × Int => (cd_D dA o0 o1 o2 o3 o4 n lv fa fb fc fl x y w u.1 u.2.2.2.2.1 u.2.1 u.2.2.1 u.2.2.2.1 u.2.2.2.2.2.1 u.2.2.2.2.2.2.1 u.2.2.2.2.2.2.2 rm bx by_ bw ap aq))) (va_A (cd_D dA o0 o1 o2 o3 o4 n lv fa fb fc fl x y w hL hH lx ly lw gx gy gw rm bx by_ bw ap aq) sz)) 0 0 (va_A (cd_D dA o0 o1 o2 o3 o4 n lv fa fb fc fl x y w hL hH lx ly lw gx gy gw rm bx by_ bw ap aq) sz) := by
  refine Met.ofW (cc := cX0_cutStretch) (maxL := 8) (ret := (some .boolean)) (by decide) rfl ?_
  intro p e s m args below meth c s₁ B hml hv
  obtain ⟨rfl, hsz, hP, hK, hD0⟩ := hv
  have hx := B.exec
  have hb := B.bytes
  have hr := B.returns
  have hts := atoms_spec (ws := (ws_ yX0_cutStretch cX0_cutStretch 8 (some .boolean))) B.pre
  have hts : ∀ w ∈ lw_all, w.before _ s = true := fun w h => hts w (List.mem_cons_of_mem _ h)
  have hown : s.vm.findClass RX0 = some m.cls := findClass_of_methodNamed B.named
  have hlocks := B.notSynchronized
  subst hsz
  have hD := hD0.self (sz := s.heap.size)
  generalize hAe : va_A (cd_D dA o0 o1 o2 o3 o4 n lv fa fb fc fl x y w hL hH lx ly lw gx gy gw rm bx by_ bw ap aq) s.heap.size = A at hD ⊢
  have hA : ∀ q : Nat, s.heap.size ≤ q → A q := fun q h => by rw [← hAe]; exact Or.inr h
  have hS : va_S A s.heap s.heap [] := va_S.rf
  have hl := lv_entry ([.ref o0, .int (cd_I ((k : Nat) : Int)), .int (cd_I ((j : Nat) : Int))]) (n := 8) (Nat.le_of_ble_eq_true rfl)
  rw [lg_entry_eq]
  generalize (lg_sl ([.ref o0, .int (cd_I ((k : Nat) : Int)), .int (cd_I ((j : Nat) : Int))]) ++ List.replicate (8 - (lg_sl ([.ref o0, .int (cd_I ((k : Nat) : Int)), .int (cd_I ((j : Nat) : Int))])).length) Slot.unset).toArray = ls at hl ⊢
  have hl : lv_has ls 8 [(0, .ref o0), (1, .int (cd_I ((k : Nat) : Int))), (2, .int (cd_I ((j : Nat) : Int)))] := hl
  have hP : va_P (dC, dI) vwCl [(o0, .inr (0, [.int (cd_I ((n : Nat) : Int)), .ref o1, .ref o2, .ref o3, .int (cd_I ((lv : Nat) : Int)), .ref o4, .long (cd_L x), .long (cd_L y), .long (cd_L w), .int (cd_I hL), .int (cd_I hH), .long (cd_L lx), .long (cd_L ly), .long (cd_L lw), .long (cd_L gx), .long (cd_L gy), .long (cd_L gw), .int (cd_I rm), .long (cd_L bx), .long (cd_L by_), .long (cd_L bw), .int (cd_I ap), .int (cd_I aq)])), (o1, .inl (dA, 14, .inl (cd_c fa))), (o2, .inl (dA, 14, .inl (cd_c fb))), (o3, .inl (dA, 14, .inl (cd_c fc))), (o4, .inl (dA, 8, .inl (cd_n fl)))] s.heap := hP
  have hD : va_D A [(o0, .inr (0, [.int (cd_I ((n : Nat) : Int)), .ref o1, .ref o2, .ref o3, .int (cd_I ((lv : Nat) : Int)), .ref o4, .long (cd_L x), .long (cd_L y), .long (cd_L w), .int (cd_I hL), .int (cd_I hH), .long (cd_L lx), .long (cd_L ly), .long (cd_L lw), .long (cd_L gx), .long (cd_L gy), .long (cd_L gw), .int (cd_I rm), .long (cd_L bx), .long (cd_L by_), .long (cd_L bw), .int (cd_I ap), .int (cd_I aq)])), (o1, .inl (dA, 14, .inl (cd_c fa))), (o2, .inl (dA, 14, .inl (cd_c fb))), (o3, .inl (dA, 14, .inl (cd_c fc))), (o4, .inl (dA, 8, .inl (cd_n fl)))] := hD
  refine lv_aload_n hx hb dX0_cutStretch_0 rfl (lv_at hl 0 rfl) ?_
  refine cd_get0 (v := .ref o1) hx hb hts hown hK hP 0 rfl 1 (by decide) q30 rfl rfl dX0_cutStretch_1 ?_
  refine lv_iload_n hx hb dX0_cutStretch_4 rfl (lv_at hl 1 rfl) ?_
  refine cd_iald (k := k) hx hb hK hP 1 0 rfl rfl hk (by decide) dX0_cutStretch_5 ?_
  refine lv_aload_n hx hb dX0_cutStretch_6 rfl (lv_at hl 0 rfl) ?_
  refine cd_get0 (v := .ref o2) hx hb hts hown hK hP 0 rfl 2 (by decide) q31 rfl rfl dX0_cutStretch_7 ?_
  refine lv_iload_n hx hb dX0_cutStretch_10 rfl (lv_at hl 2 rfl) ?_
  refine cd_iald (k := j) hx hb hK hP 2 0 rfl rfl hj (by decide) dX0_cutStretch_11 ?_
  refine cd_imul hx hb dX0_cutStretch_12 ?_
  refine lv_aload_n hx hb dX0_cutStretch_13 rfl (lv_at hl 0 rfl) ?_
  refine cd_get0 (v := .ref o1) hx hb hts hown hK hP 0 rfl 1 (by decide) q30 rfl rfl dX0_cutStretch_14 ?_
  refine lv_iload_n hx hb dX0_cutStretch_17 rfl (lv_at hl 2 rfl) ?_
  refine cd_iald (k := j) hx hb hK hP 1 0 rfl rfl hj (by decide) dX0_cutStretch_18 ?_
  refine lv_aload_n hx hb dX0_cutStretch_19 rfl (lv_at hl 0 rfl) ?_
  refine cd_get0 (v := .ref o2) hx hb hts hown hK hP 0 rfl 2 (by decide) q31 rfl rfl dX0_cutStretch_20 ?_
  refine lv_iload_n hx hb dX0_cutStretch_23 rfl (lv_at hl 1 rfl) ?_
  refine cd_iald (k := k) hx hb hK hP 2 0 rfl rfl hk (by decide) dX0_cutStretch_24 ?_
  refine cd_imul hx hb dX0_cutStretch_25 ?_
  refine cd_isub hx hb dX0_cutStretch_26 ?_
  refine lv_istore_n (lv' := [(3, .int (cd_I (((fa k) * (fb j)) - ((fa j) * (fb k))))), (0, .ref o0), (1, .int (cd_I ((k : Nat) : Int))), (2, .int (cd_I ((j : Nat) : Int)))]) hx hb dX0_cutStretch_27 rfl hl (by decide) rfl (fun ls hl => ?_)
  refine lv_iload_n hx hb dX0_cutStretch_28 rfl (lv_at hl 0 rfl) ?_
  refine cd_if_ne (tgt := 39) hx hb (cd_bR32 (cd_bS (cd_bM ha hb2) (cd_bM ha2 hb1)) (by decide)) dX0_cutStretch_29 (by decide) (fun c_1 => ?_) (fun c_1 => ?_)
  · refine lv_aload_n hx hb dX0_cutStretch_39 rfl (lv_at hl 1 rfl) ?_
    refine cd_get0 (v := .ref o3) hx hb hts hown hK hP 0 rfl 3 (by decide) q32 rfl rfl dX0_cutStretch_40 ?_
    refine lv_iload_n hx hb dX0_cutStretch_43 rfl (lv_at hl 2 rfl) ?_
    refine cd_iald (k := k) hx hb hK hP 3 0 rfl rfl hk (by decide) dX0_cutStretch_44 ?_
    refine lv_aload_n hx hb dX0_cutStretch_45 rfl (lv_at hl 1 rfl) ?_
    refine cd_get0 (v := .ref o2) hx hb hts hown hK hP 0 rfl 2 (by decide) q31 rfl rfl dX0_cutStretch_46 ?_
    refine lv_iload_n hx hb dX0_cutStretch_49 rfl (lv_at hl 3 rfl) ?_
    refine cd_iald (k := j) hx hb hK hP 2 0 rfl rfl hj (by decide) dX0_cutStretch_50 ?_
    refine cd_imul hx hb dX0_cutStretch_51 ?_
    refine lv_aload_n hx hb dX0_cutStretch_52 rfl (lv_at hl 1 rfl) ?_
    refine cd_get0 (v := .ref o3) hx hb hts hown hK hP 0 rfl 3 (by decide) q32 rfl rfl dX0_cutStretch_53 ?_
    refine lv_iload_n hx hb dX0_cutStretch_56 rfl (lv_at hl 3 rfl) ?_
    refine cd_iald (k := j) hx hb hK hP 3 0 rfl rfl hj (by decide) dX0_cutStretch_57 ?_
    refine lv_aload_n hx hb dX0_cutStretch_58 rfl (lv_at hl 1 rfl) ?_
    refine cd_get0 (v := .ref o2) hx hb hts hown hK hP 0 rfl 2 (by decide) q31 rfl rfl dX0_cutStretch_59 ?_
    refine lv_iload_n hx hb dX0_cutStretch_62 rfl (lv_at hl 2 rfl) ?_
    refine cd_iald (k := k) hx hb hK hP 2 0 rfl rfl hk (by decide) dX0_cutStretch_63 ?_
    refine cd_imul hx hb dX0_cutStretch_64 ?_
    refine cd_isub hx hb dX0_cutStretch_65 ?_
    refine cd_i2l hx hb (cd_bR32 (cd_bS (cd_bM hc1 hb2) (cd_bM hc2 hb1)) (by decide)) dX0_cutStretch_66 ?_
    refine lv_lstore (lv' := [(4, .long (cd_L (((fc k) * (fb j)) - ((fc j) * (fb k))))), (3, .int (cd_I (((fa k) * (fb j)) - ((fa j) * (fb k))))), (0, .ref o0), (1, .int (cd_I ((k : Nat) : Int))), (2, .int (cd_I ((j : Nat) : Int)))]) hx hb dX0_cutStretch_67 hl (by decide) rfl (fun ls hl => ?_)
    refine lv_aload_n hx hb dX0_cutStretch_69 rfl (lv_at hl 2 rfl) ?_
    refine cd_get0 (v := .ref o1) hx hb hts hown hK hP 0 rfl 1 (by decide) q30 rfl rfl dX0_cutStretch_70 ?_
    refine lv_iload_n hx hb dX0_cutStretch_73 rfl (lv_at hl 3 rfl) ?_
    refine cd_iald (k := k) hx hb hK hP 1 0 rfl rfl hk (by decide) dX0_cutStretch_74 ?_
    refine lv_aload_n hx hb dX0_cutStretch_75 rfl (lv_at hl 2 rfl) ?_
    refine cd_get0 (v := .ref o3) hx hb hts hown hK hP 0 rfl 3 (by decide) q32 rfl rfl dX0_cutStretch_76 ?_
    refine lv_iload_n hx hb dX0_cutStretch_79 rfl (lv_at hl 4 rfl) ?_
    refine cd_iald (k := j) hx hb hK hP 3 0 rfl rfl hj (by decide) dX0_cutStretch_80 ?_
    refine cd_imul hx hb dX0_cutStretch_81 ?_
    refine lv_aload_n hx hb dX0_cutStretch_82 rfl (lv_at hl 2 rfl) ?_
    refine cd_get0 (v := .ref o1) hx hb hts hown hK hP 0 rfl 1 (by decide) q30 rfl rfl dX0_cutStretch_83 ?_
    refine lv_iload_n hx hb dX0_cutStretch_86 rfl (lv_at hl 4 rfl) ?_
    refine cd_iald (k := j) hx hb hK hP 1 0 rfl rfl hj (by decide) dX0_cutStretch_87 ?_
    refine lv_aload_n hx hb dX0_cutStretch_88 rfl (lv_at hl 2 rfl) ?_
    refine cd_get0 (v := .ref o3) hx hb hts hown hK hP 0 rfl 3 (by decide) q32 rfl rfl dX0_cutStretch_89 ?_
    refine lv_iload_n hx hb dX0_cutStretch_92 rfl (lv_at hl 3 rfl) ?_
    refine cd_iald (k := k) hx hb hK hP 3 0 rfl rfl hk (by decide) dX0_cutStretch_93 ?_
    refine cd_imul hx hb dX0_cutStretch_94 ?_
    refine cd_isub hx hb dX0_cutStretch_95 ?_
    refine cd_i2l hx hb (cd_bR32 (cd_bS (cd_bM ha hc2) (cd_bM ha2 hc1)) (by decide)) dX0_cutStretch_96 ?_
    refine lv_lstore (lv' := [(6, .long (cd_L (((fa k) * (fc j)) - ((fa j) * (fc k))))), (4, .long (cd_L (((fc k) * (fb j)) - ((fc j) * (fb k))))), (3, .int (cd_I (((fa k) * (fb j)) - ((fa j) * (fb k))))), (0, .ref o0), (1, .int (cd_I ((k : Nat) : Int))), (2, .int (cd_I ((j : Nat) : Int)))]) hx hb dX0_cutStretch_97 hl (by decide) rfl (fun ls hl => ?_)
    refine lv_iload_n hx hb dX0_cutStretch_99 rfl (lv_at hl 2 rfl) ?_
    refine cd_if_le (tgt := 117) hx hb (cd_bR32 (cd_bS (cd_bM ha hb2) (cd_bM ha2 hb1)) (by decide)) dX0_cutStretch_100 (by decide) (fun c_2 => ?_) (fun c_2 => ?_)
    · refine lv_aload_n hx hb dX0_cutStretch_117 rfl (lv_at hl 3 rfl) ?_
      refine lv_iload_n hx hb dX0_cutStretch_118 rfl (lv_at hl 4 rfl) ?_
      refine lv_lload hx hb dX0_cutStretch_119 (lv_at hl 1 rfl) ?_
      refine cd_lneg hx hb dX0_cutStretch_121 ?_
      refine lv_lload hx hb dX0_cutStretch_122 (lv_at hl 0 rfl) ?_
      refine cd_lneg hx hb dX0_cutStretch_124 ?_
      refine lv_iload_n hx hb dX0_cutStretch_125 rfl (lv_at hl 2 rfl) ?_
      refine cd_ineg hx hb dX0_cutStretch_126 ?_
      refine cd_i2l hx hb (cd_bR32 (cd_bN (cd_bS (cd_bM ha hb2) (cd_bM ha2 hb1))) (by decide)) dX0_cutStretch_127 ?_
      refine cd_call1v (va_runV (As := [.int (cd_I ((k : Nat) : Int)), .long (cd_L (-(((fc k) * (fb j)) - ((fc j) * (fb k))))), .long (cd_L (-(((fa k) * (fc j)) - ((fa j) * (fc k))))), .long (cd_L (-(((fa k) * (fb j)) - ((fa j) * (fb k)))))]) (rest := []) ⟨hx, hb, hml, hown, hts⟩ (xd_cutLow l dC dI dA o0 o1 o2 o3 o4 n lv fa fb fc fl x y w hL hH lx ly lw gx gy gw rm bx by_ bw ap aq s.heap.size k (-(((fc k) * (fb j)) - ((fc j) * (fb k)))) (-(((fa k) * (fc j)) - ((fa j) * (fc k)))) (-(((fa k) * (fb j)) - ((fa j) * (fb k)))) hk ha hb1 (cd_bN (cd_bS (cd_bM hc1 hb2) (cd_bM hc2 hb1))) (cd_bN (cd_bS (cd_bM ha hc2) (cd_bM ha2 hc1))) (cd_bN (cd_bS (cd_bM ha hb2) (cd_bM ha2 hb1))) hfL) (cwV 4 hts (lw_V q149 q151 qs7 q19 q152) rfl rfl rfl (by decide +kernel) ⟨Nat.le_of_ble_eq_true rfl, Nat.le_of_ble_eq_true rfl⟩) ⟨cd_bl1, va_recv hK hP (ci := 0) (q0 := 0) rfl rfl, cd_pr1 hP hK hD⟩ rfl rfl hl.1 rfl (lv_room (Nat.le_of_ble_eq_true rfl)) dX0_cutStretch_128 ⟨Nat.le_of_ble_eq_true rfl, Nat.le_of_ble_eq_true rfl⟩) hD hS hA (fun u H locs hq hP hD hS => ?_)
      obtain ⟨u1, u2, u3, u4⟩ := u
      have hP : va_P (dC, dI) vwCl [(o0, .inr (0, [.int (cd_I ((n : Nat) : Int)), .ref o1, .ref o2, .ref o3, .int (cd_I ((lv : Nat) : Int)), .ref o4, .long (cd_L x), .long (cd_L y), .long (cd_L w), .int (cd_I u1), .int (cd_I hH), .long (cd_L u2), .long (cd_L u3), .long (cd_L u4), .long (cd_L gx), .long (cd_L gy), .long (cd_L gw), .int (cd_I rm), .long (cd_L bx), .long (cd_L by_), .long (cd_L bw), .int (cd_I ap), .int (cd_I aq)])), (o1, .inl (dA, 14, .inl (cd_c fa))), (o2, .inl (dA, 14, .inl (cd_c fb))), (o3, .inl (dA, 14, .inl (cd_c fc))), (o4, .inl (dA, 8, .inl (cd_n fl)))] H := hP
      have hD : va_D A [(o0, .inr (0, [.int (cd_I ((n : Nat) : Int)), .ref o1, .ref o2, .ref o3, .int (cd_I ((lv : Nat) : Int)), .ref o4, .long (cd_L x), .long (cd_L y), .long (cd_L w), .int (cd_I u1), .int (cd_I hH), .long (cd_L u2), .long (cd_L u3), .long (cd_L u4), .long (cd_L gx), .long (cd_L gy), .long (cd_L gw), .int (cd_I rm), .long (cd_L bx), .long (cd_L by_), .long (cd_L bw), .int (cd_I ap), .int (cd_I aq)])), (o1, .inl (dA, 14, .inl (cd_c fa))), (o2, .inl (dA, 14, .inl (cd_c fb))), (o3, .inl (dA, 14, .inl (cd_c fc))), (o4, .inl (dA, 8, .inl (cd_n fl)))] := hD
      refine lv_iconst (v := cd_I 1) hx hb dX0_cutStretch_131 rfl ?_
      exact W.zret (v := cd_I 1) hx hb hr rfl (fun t ht hW => ⟨⟨cd_I 1, (u1, u2, u3, u4, hH, gx, gy, gw), rfl, Or.inr (Or.inr ⟨by omega, rfl, ⟨rfl, rfl, rfl, rfl⟩, hq⟩), ⟨by rw [ht]; exact hP, hD⟩⟩, hS.F ht⟩) hS.2.2 dX0_cutStretch_132
    · refine lv_aload_n hx hb dX0_cutStretch_103 rfl (lv_at hl 3 rfl) ?_
      refine lv_iload_n hx hb dX0_cutStretch_104 rfl (lv_at hl 4 rfl) ?_
      refine lv_lload hx hb dX0_cutStretch_105 (lv_at hl 1 rfl) ?_
      refine lv_lload hx hb dX0_cutStretch_107 (lv_at hl 0 rfl) ?_
      refine lv_iload_n hx hb dX0_cutStretch_109 rfl (lv_at hl 2 rfl) ?_
      refine cd_i2l hx hb (cd_bR32 (cd_bS (cd_bM ha hb2) (cd_bM ha2 hb1)) (by decide)) dX0_cutStretch_110 ?_
      refine cd_call1v (va_runV (As := [.int (cd_I ((k : Nat) : Int)), .long (cd_L (((fc k) * (fb j)) - ((fc j) * (fb k)))), .long (cd_L (((fa k) * (fc j)) - ((fa j) * (fc k)))), .long (cd_L (((fa k) * (fb j)) - ((fa j) * (fb k))))]) (rest := []) ⟨hx, hb, hml, hown, hts⟩ (xd_cutHigh l dC dI dA o0 o1 o2 o3 o4 n lv fa fb fc fl x y w hL hH lx ly lw gx gy gw rm bx by_ bw ap aq s.heap.size k (((fc k) * (fb j)) - ((fc j) * (fb k))) (((fa k) * (fc j)) - ((fa j) * (fc k))) (((fa k) * (fb j)) - ((fa j) * (fb k))) hk ha hb1 (cd_bS (cd_bM hc1 hb2) (cd_bM hc2 hb1)) (cd_bS (cd_bM ha hc2) (cd_bM ha2 hc1)) (cd_bS (cd_bM ha hb2) (cd_bM ha2 hb1)) hfH) (cwV 4 hts (lw_V q141 q143 qs5 q19 q144) rfl rfl rfl (by decide +kernel) ⟨Nat.le_of_ble_eq_true rfl, Nat.le_of_ble_eq_true rfl⟩) ⟨cd_bl1, va_recv hK hP (ci := 0) (q0 := 0) rfl rfl, cd_pr1 hP hK hD⟩ rfl rfl hl.1 rfl (lv_room (Nat.le_of_ble_eq_true rfl)) dX0_cutStretch_111 ⟨Nat.le_of_ble_eq_true rfl, Nat.le_of_ble_eq_true rfl⟩) hD hS hA (fun u H locs hq hP hD hS => ?_)
      obtain ⟨u1, u2, u3, u4⟩ := u
      have hP : va_P (dC, dI) vwCl [(o0, .inr (0, [.int (cd_I ((n : Nat) : Int)), .ref o1, .ref o2, .ref o3, .int (cd_I ((lv : Nat) : Int)), .ref o4, .long (cd_L x), .long (cd_L y), .long (cd_L w), .int (cd_I hL), .int (cd_I u1), .long (cd_L lx), .long (cd_L ly), .long (cd_L lw), .long (cd_L u2), .long (cd_L u3), .long (cd_L u4), .int (cd_I rm), .long (cd_L bx), .long (cd_L by_), .long (cd_L bw), .int (cd_I ap), .int (cd_I aq)])), (o1, .inl (dA, 14, .inl (cd_c fa))), (o2, .inl (dA, 14, .inl (cd_c fb))), (o3, .inl (dA, 14, .inl (cd_c fc))), (o4, .inl (dA, 8, .inl (cd_n fl)))] H := hP
      have hD : va_D A [(o0, .inr (0, [.int (cd_I ((n : Nat) : Int)), .ref o1, .ref o2, .ref o3, .int (cd_I ((lv : Nat) : Int)), .ref o4, .long (cd_L x), .long (cd_L y), .long (cd_L w), .int (cd_I hL), .int (cd_I u1), .long (cd_L lx), .long (cd_L ly), .long (cd_L lw), .long (cd_L u2), .long (cd_L u3), .long (cd_L u4), .int (cd_I rm), .long (cd_L bx), .long (cd_L by_), .long (cd_L bw), .int (cd_I ap), .int (cd_I aq)])), (o1, .inl (dA, 14, .inl (cd_c fa))), (o2, .inl (dA, 14, .inl (cd_c fb))), (o3, .inl (dA, 14, .inl (cd_c fc))), (o4, .inl (dA, 8, .inl (cd_n fl)))] := hD
      refine lv_goto (tgt := 131) hx hb dX0_cutStretch_114 (by decide) ?_
      refine lv_iconst (v := cd_I 1) hx hb dX0_cutStretch_131 rfl ?_
      exact W.zret (v := cd_I 1) hx hb hr rfl (fun t ht hW => ⟨⟨cd_I 1, (hL, lx, ly, lw, u1, u2, u3, u4), rfl, Or.inr (Or.inl ⟨by omega, rfl, ⟨rfl, rfl, rfl, rfl⟩, hq⟩), ⟨by rw [ht]; exact hP, hD⟩⟩, hS.F ht⟩) hS.2.2 dX0_cutStretch_132
  · refine lv_aload_n hx hb dX0_cutStretch_32 rfl (lv_at hl 1 rfl) ?_
    refine lv_iload_n hx hb dX0_cutStretch_33 rfl (lv_at hl 2 rfl) ?_
    refine lv_iload_n hx hb dX0_cutStretch_34 rfl (lv_at hl 3 rfl) ?_
    refine cd_call0i (va_runV (As := [.int (cd_I ((k : Nat) : Int)), .int (cd_I ((j : Nat) : Int))]) (rest := []) ⟨hx, hb, hml, hown, hts⟩ (xd_parallelMeets l dC dI dA o0 o1 o2 o3 o4 n lv fa fb fc fl x y w hL hH lx ly lw gx gy gw rm bx by_ bw ap aq k j hk hj ha hb1 hc1 ha2 hb2 hc2) (cwV 2 hts (lw_V q137 q139 qs4 q19 q140) rfl rfl rfl (by decide +kernel) ⟨Nat.le_of_ble_eq_true rfl, Nat.le_of_ble_eq_true rfl⟩) ⟨cd_bl0, va_recv hK hP (ci := 0) (q0 := 0) rfl rfl, cd_pr0 hP hK⟩ rfl rfl hl.1 rfl (lv_room (Nat.le_of_ble_eq_true rfl)) dX0_cutStretch_35 ⟨Nat.le_of_ble_eq_true rfl, Nat.le_of_ble_eq_true rfl⟩) hP hS (fun r H locs hq hP hS => ?_)
    rcases hq with ⟨rfl, hq⟩ | ⟨rfl, hq⟩
    · exact W.zret (v := cd_I 1) hx hb hr rfl (fun t ht hW => ⟨⟨cd_I 1, (hL, lx, ly, lw, hH, gx, gy, gw), rfl, Or.inl ⟨by omega, ⟨rfl, rfl, rfl, rfl⟩, ⟨rfl, rfl, rfl, rfl⟩, Or.inl ⟨rfl, hq⟩⟩, ⟨by rw [ht]; exact hP, hD⟩⟩, hS.F ht⟩) hS.2.2 dX0_cutStretch_38
    · exact W.zret (v := cd_I 0) hx hb hr rfl (fun t ht hW => ⟨⟨cd_I 0, (hL, lx, ly, lw, hH, gx, gy, gw), rfl, Or.inl ⟨by omega, ⟨rfl, rfl, rfl, rfl⟩, ⟨rfl, rfl, rfl, rfl⟩, Or.inr ⟨rfl, hq⟩⟩, ⟨by rw [ht]; exact hP, hD⟩⟩, hS.F ht⟩) hS.2.2 dX0_cutStretch_38

set_option maxHeartbeats 4000000 in
set_option maxRecDepth 100000 in
/-- moveOnto: the best point of the line of k -/
theorem xd_moveOnto (l : Launch) (dC : Nat → ClassId) (dI : Nat → Nat → Nat) (dA : ClassId) (o0 o1 o2 o3 o4 n lv : Nat) (fa fb fc : Nat → Int) (fl : Nat → Nat) (x y w hL hH lx ly lw gx gy gw rm bx by_ bw ap aq : Int) (sz k : Nat) (pp qq wo : Int) (hok : cd_ok fa fb fc n) (hk4 : 4 ≤ k) (hkn : k < n) (hp9 : cd_b 9 pp) (hq9 : cd_b 9 qq) (hwo : wo = -1 ∨ (4 ≤ wo ∧ wo < 14)) : Met l yX0_moveOnto (ws_ yX0_moveOnto cX0_moveOnto 7 (some .boolean)) ({ frames := 3, cells := 0, slots := 0, locals := 79 }) (va_Pc [.ref o0, .int (cd_I ((k : Nat) : Int)), .int (cd_I pp), .int (cd_I qq), .int (cd_I wo)] (cd_W1 (dC, dI) vwCl [(dA, .int)] (cd_D dA o0 o1 o2 o3 o4 n lv fa fb fc fl x y w hL hH lx ly lw gx gy gw rm bx by_ bw ap aq) sz)) (va_Qi (fun (r : Int32) (u : Int × Int × Int × Int × Int × Int × Int × Int × Int × Int × Int) => (r = cd_I 1 ∧ cd_moved fa fb fc k (cd_S k wo) pp qq u.1 u.2.1 u.2.2.1) ∨ (r = cd_I 0 ∧ cd_none fa fb fc k (cd_S k wo))) (cd_B (dC, dI) vwCl (va_A (cd_D dA o0 o1 o2 o3 o4 n lv fa fb fc fl x y w hL hH lx ly lw gx gy gw rm bx by_ bw ap aq) sz) (fun u : Int × Int × Int × Int × Int × Int × Int × Int × Int × Int × Int => (cd_D dA o0 o1 o2 o3 o4 n lv fa fb fc fl u.1 u.2.1 u.2.2.1 u.2.2.2.1 u.2.2.2.2.1 u.2.2.2.2.2.1 u.2.2.2.2.2.2.1 u.2.2.2.2.2.2.2.1 u.2.2.2.2.2.2.2.2.1 u.2.2.2.2.2.2.2.2.2.1 u.2.2.2.2.2.2.2.2.2.2 rm bx by_ bw ap aq))) (va_A (cd_D dA o0 o1 o2 o3 o4 n lv fa fb fc fl x y w hL hH lx ly lw gx gy gw rm bx by_ bw ap aq) sz)) 0 0 (va_A (cd_D dA o0 o1 o2 o3 o4 n lv fa fb fc fl x y w hL hH lx ly lw gx gy gw rm bx by_ bw ap aq) sz) := by
  refine Met.ofW (cc := cX0_moveOnto) (maxL := 7) (ret := (some .boolean)) (by decide) rfl ?_
  intro p e s m args below meth c s₁ B hml hv
  obtain ⟨rfl, hsz, hP, hK, hD0⟩ := hv
  have hx := B.exec
  have hb := B.bytes
  have hr := B.returns
  have hts := atoms_spec (ws := (ws_ yX0_moveOnto cX0_moveOnto 7 (some .boolean))) B.pre
  have hts : ∀ w ∈ lw_all, w.before _ s = true := fun w h => hts w (List.mem_cons_of_mem _ h)
  have hown : s.vm.findClass RX0 = some m.cls := findClass_of_methodNamed B.named
  have hlocks := B.notSynchronized
  subst hsz
  have hD := hD0.self (sz := s.heap.size)
  generalize hAe : va_A (cd_D dA o0 o1 o2 o3 o4 n lv fa fb fc fl x y w hL hH lx ly lw gx gy gw rm bx by_ bw ap aq) s.heap.size = A at hD ⊢
  have hA : ∀ q : Nat, s.heap.size ≤ q → A q := fun q h => by rw [← hAe]; exact Or.inr h
  have hS : va_S A s.heap s.heap [] := va_S.rf
  have hl := lv_entry ([.ref o0, .int (cd_I ((k : Nat) : Int)), .int (cd_I pp), .int (cd_I qq), .int (cd_I wo)]) (n := 7) (Nat.le_of_ble_eq_true rfl)
  rw [lg_entry_eq]
  generalize (lg_sl ([.ref o0, .int (cd_I ((k : Nat) : Int)), .int (cd_I pp), .int (cd_I qq), .int (cd_I wo)]) ++ List.replicate (7 - (lg_sl ([.ref o0, .int (cd_I ((k : Nat) : Int)), .int (cd_I pp), .int (cd_I qq), .int (cd_I wo)])).length) Slot.unset).toArray = ls at hl ⊢
  have hl : lv_has ls 7 [(0, .ref o0), (1, .int (cd_I ((k : Nat) : Int))), (2, .int (cd_I pp)), (3, .int (cd_I qq)), (4, .int (cd_I wo))] := hl
  have hP : va_P (dC, dI) vwCl [(o0, .inr (0, [.int (cd_I ((n : Nat) : Int)), .ref o1, .ref o2, .ref o3, .int (cd_I ((lv : Nat) : Int)), .ref o4, .long (cd_L x), .long (cd_L y), .long (cd_L w), .int (cd_I hL), .int (cd_I hH), .long (cd_L lx), .long (cd_L ly), .long (cd_L lw), .long (cd_L gx), .long (cd_L gy), .long (cd_L gw), .int (cd_I rm), .long (cd_L bx), .long (cd_L by_), .long (cd_L bw), .int (cd_I ap), .int (cd_I aq)])), (o1, .inl (dA, 14, .inl (cd_c fa))), (o2, .inl (dA, 14, .inl (cd_c fb))), (o3, .inl (dA, 14, .inl (cd_c fc))), (o4, .inl (dA, 8, .inl (cd_n fl)))] s.heap := hP
  have hD : va_D A [(o0, .inr (0, [.int (cd_I ((n : Nat) : Int)), .ref o1, .ref o2, .ref o3, .int (cd_I ((lv : Nat) : Int)), .ref o4, .long (cd_L x), .long (cd_L y), .long (cd_L w), .int (cd_I hL), .int (cd_I hH), .long (cd_L lx), .long (cd_L ly), .long (cd_L lw), .long (cd_L gx), .long (cd_L gy), .long (cd_L gw), .int (cd_I rm), .long (cd_L bx), .long (cd_L by_), .long (cd_L bw), .int (cd_I ap), .int (cd_I aq)])), (o1, .inl (dA, 14, .inl (cd_c fa))), (o2, .inl (dA, 14, .inl (cd_c fb))), (o3, .inl (dA, 14, .inl (cd_c fc))), (o4, .inl (dA, 8, .inl (cd_n fl)))] := hD
  have hn14 : n ≤ 14 := hok.1.2
  have hk : k < 14 := by omega
  have hKK := hok.2.2.2.2.2 k hkn
  obtain ⟨ha, hb1, hc1, hN⟩ := hKK
  have loop : ∀ (f j : Nat) (hL lx ly lw hH gx gy gw : Int), j ≤ k → k + 1 ≤ j + f → cd_str fa fb fc k (cd_S j wo) hL lx ly lw hH gx gy gw → ∀ (H : Heap) (locs : List Loc), va_P (dC, dI) vwCl (cd_D dA o0 o1 o2 o3 o4 n lv fa fb fc fl x y w hL hH lx ly lw gx gy gw rm bx by_ bw ap aq) H → va_D A (cd_D dA o0 o1 o2 o3 o4 n lv fa fb fc fl x y w hL hH lx ly lw gx gy gw rm bx by_ bw ap aq) → va_S A s.heap H locs → ∀ ls : Array Slot, lv_has ls 7 [(5, .int (cd_I ((j : Nat) : Int))), (0, .ref o0), (1, .int (cd_I ((k : Nat) : Int))), (2, .int (cd_I pp)), (3, .int (cd_I qq)), (4, .int (cd_I wo))] → W p l e (headSpec (ws_ yX0_moveOnto cX0_moveOnto 7 (some .boolean)) ({ frames := 3, cells := 0, slots := 0, locals := 79 })).room s m ([.ref o0, .int (cd_I ((k : Nat) : Int)), .int (cd_I pp), .int (cd_I qq), .int (cd_I wo)] : List Value).toArray below meth c H locs 0 0 (MQ below (va_Qi (fun (r : Int32) (u : Int × Int × Int × Int × Int × Int × Int × Int × Int × Int × Int) => (r = cd_I 1 ∧ cd_moved fa fb fc k (cd_S k wo) pp qq u.1 u.2.1 u.2.2.1) ∨ (r = cd_I 0 ∧ cd_none fa fb fc k (cd_S k wo))) (cd_B (dC, dI) vwCl A (fun u : Int × Int × Int × Int × Int × Int × Int × Int × Int × Int × Int => (cd_D dA o0 o1 o2 o3 o4 n lv fa fb fc fl u.1 u.2.1 u.2.2.1 u.2.2.2.1 u.2.2.2.2.1 u.2.2.2.2.2.1 u.2.2.2.2.2.2.1 u.2.2.2.2.2.2.2.1 u.2.2.2.2.2.2.2.2.1 u.2.2.2.2.2.2.2.2.2.1 u.2.2.2.2.2.2.2.2.2.2 rm bx by_ bw ap aq))) A) ([.ref o0, .int (cd_I ((k : Nat) : Int)), .int (cd_I pp), .int (cd_I qq), .int (cd_I wo)] : List Value).toArray s 0 0 A) (F0 m 13 ls []) := by
    intro f
    induction f with
    | zero =>
      intro j hL lx ly lw hH gx gy gw h1 h2
      exact absurd h2 (by omega)
    | succ f ih =>
      intro j hL lx ly lw hH gx gy gw hj1 hj2 hst H locs hP hD hS ls hl
      have hfb := cd_str_b hok hkn (fun i hi => by have := hi.1; omega) hst
      obtain ⟨hfH, hfL⟩ := hfb
      have hP : va_P (dC, dI) vwCl [(o0, .inr (0, [.int (cd_I ((n : Nat) : Int)), .ref o1, .ref o2, .ref o3, .int (cd_I ((lv : Nat) : Int)), .ref o4, .long (cd_L x), .long (cd_L y), .long (cd_L w), .int (cd_I hL), .int (cd_I hH), .long (cd_L lx), .long (cd_L ly), .long (cd_L lw), .long (cd_L gx), .long (cd_L gy), .long (cd_L gw), .int (cd_I rm), .long (cd_L bx), .long (cd_L by_), .long (cd_L bw), .int (cd_I ap), .int (cd_I aq)])), (o1, .inl (dA, 14, .inl (cd_c fa))), (o2, .inl (dA, 14, .inl (cd_c fb))), (o3, .inl (dA, 14, .inl (cd_c fc))), (o4, .inl (dA, 8, .inl (cd_n fl)))] H := hP
      have hD : va_D A [(o0, .inr (0, [.int (cd_I ((n : Nat) : Int)), .ref o1, .ref o2, .ref o3, .int (cd_I ((lv : Nat) : Int)), .ref o4, .long (cd_L x), .long (cd_L y), .long (cd_L w), .int (cd_I hL), .int (cd_I hH), .long (cd_L lx), .long (cd_L ly), .long (cd_L lw), .long (cd_L gx), .long (cd_L gy), .long (cd_L gw), .int (cd_I rm), .long (cd_L bx), .long (cd_L by_), .long (cd_L bw), .int (cd_I ap), .int (cd_I aq)])), (o1, .inl (dA, 14, .inl (cd_c fa))), (o2, .inl (dA, 14, .inl (cd_c fb))), (o3, .inl (dA, 14, .inl (cd_c fc))), (o4, .inl (dA, 8, .inl (cd_n fl)))] := hD
      refine lv_iload hx hb dX0_moveOnto_13 (lv_at hl 0 rfl) ?_
      refine lv_iload_n hx hb dX0_moveOnto_15 rfl (lv_at hl 2 rfl) ?_
      refine cd_icmp_ge (tgt := 48) hx hb ⟨by omega, by omega⟩ ⟨by omega, by omega⟩ dX0_moveOnto_16 (by decide) (fun c_1 => ?_) (fun c_1 => ?_)
      · have hjk : j = k := by omega
        rw [hjk] at hst
        obtain ⟨rfl, rfl⟩ := cd_str_both hok (by omega) hk4 hN hst
        have hg3 : cd_b 1782 gx ∧ cd_b 1782 gy ∧ cd_b 162 gw := by
          rcases hfH with q | q
          · exact absurd q (by decide)
          · exact q.2
        have hl3 : cd_b 1782 lx ∧ cd_b 1782 ly ∧ cd_b 162 lw := by
          rcases hfL with q | q
          · exact absurd q (by decide)
          · exact q.2
        obtain ⟨hg1, hg2, hg3⟩ := hg3
        obtain ⟨hl1, hl2, hl3⟩ := hl3
        refine lv_aload_n hx hb dX0_moveOnto_48 rfl (lv_at hl 1 rfl) ?_
        refine lv_iload_n hx hb dX0_moveOnto_49 rfl (lv_at hl 2 rfl) ?_
        refine lv_aload_n hx hb dX0_moveOnto_50 rfl (lv_at hl 1 rfl) ?_
        refine cd_get0 (v := .long (cd_L lx)) hx hb hts hown hK hP 0 rfl 11 (by decide) q40 rfl rfl dX0_moveOnto_51 ?_
        refine lv_aload_n hx hb dX0_moveOnto_54 rfl (lv_at hl 1 rfl) ?_
        refine cd_get0 (v := .long (cd_L ly)) hx hb hts hown hK hP 0 rfl 12 (by decide) q41 rfl rfl dX0_moveOnto_55 ?_
        refine cd_call0l (va_runV (As := [.int (cd_I ((k : Nat) : Int)), .long (cd_L lx), .long (cd_L ly)]) (rest := []) ⟨hx, hb, hml, hown, hts⟩ (xd_along l dC dI dA o0 o1 o2 o3 o4 n lv fa fb fc fl x y w 1 1 lx ly lw gx gy gw rm bx by_ bw ap aq k lx ly hk ha hb1) (cwV 3 hts (lw_V q145 q147 qs6 q19 q148) rfl rfl rfl (by decide +kernel) ⟨Nat.le_of_ble_eq_true rfl, Nat.le_of_ble_eq_true rfl⟩) ⟨cd_bl0, va_recv hK hP (ci := 0) (q0 := 0) rfl rfl, cd_pr0 hP hK⟩ rfl rfl hl.1 rfl (lv_room (Nat.le_of_ble_eq_true rfl)) dX0_moveOnto_58 ⟨Nat.le_of_ble_eq_true rfl, Nat.le_of_ble_eq_true rfl⟩) hP hS (fun r H locs hq hP hS => ?_)
        subst hq
        refine lv_aload_n hx hb dX0_moveOnto_61 rfl (lv_at hl 1 rfl) ?_
        refine cd_get0 (v := .long (cd_L gw)) hx hb hts hown hK hP 0 rfl 16 (by decide) q45 rfl rfl dX0_moveOnto_62 ?_
        refine cd_lmul hx hb dX0_moveOnto_65 ?_
        refine lv_aload_n hx hb dX0_moveOnto_66 rfl (lv_at hl 1 rfl) ?_
        refine lv_iload_n hx hb dX0_moveOnto_67 rfl (lv_at hl 2 rfl) ?_
        refine lv_aload_n hx hb dX0_moveOnto_68 rfl (lv_at hl 1 rfl) ?_
        refine cd_get0 (v := .long (cd_L gx)) hx hb hts hown hK hP 0 rfl 14 (by decide) q43 rfl rfl dX0_moveOnto_69 ?_
        refine lv_aload_n hx hb dX0_moveOnto_72 rfl (lv_at hl 1 rfl) ?_
        refine cd_get0 (v := .long (cd_L gy)) hx hb hts hown hK hP 0 rfl 15 (by decide) q44 rfl rfl dX0_moveOnto_73 ?_
        refine cd_call0l (va_runV (As := [.int (cd_I ((k : Nat) : Int)), .long (cd_L gx), .long (cd_L gy)]) (rest := [.long (cd_L ((((fa k) * ly) - ((fb k) * lx)) * gw))]) ⟨hx, hb, hml, hown, hts⟩ (xd_along l dC dI dA o0 o1 o2 o3 o4 n lv fa fb fc fl x y w 1 1 lx ly lw gx gy gw rm bx by_ bw ap aq k gx gy hk ha hb1) (cwV 3 hts (lw_V q145 q147 qs6 q19 q148) rfl rfl rfl (by decide +kernel) ⟨Nat.le_of_ble_eq_true rfl, Nat.le_of_ble_eq_true rfl⟩) ⟨cd_bl0, va_recv hK hP (ci := 0) (q0 := 0) rfl rfl, cd_pr0 hP hK⟩ rfl rfl hl.1 rfl (lv_room (Nat.le_of_ble_eq_true rfl)) dX0_moveOnto_76 ⟨Nat.le_of_ble_eq_true rfl, Nat.le_of_ble_eq_true rfl⟩) hP hS (fun r H locs hq hP hS => ?_)
        subst hq
        refine lv_aload_n hx hb dX0_moveOnto_79 rfl (lv_at hl 1 rfl) ?_
        refine cd_get0 (v := .long (cd_L lw)) hx hb hts hown hK hP 0 rfl 13 (by decide) q42 rfl rfl dX0_moveOnto_80 ?_
        refine cd_lmul hx hb dX0_moveOnto_83 ?_
        refine cd_lcmp_le (tgt := 90) hx hb (cd_bR64 (cd_bM (cd_bS (cd_bM ha hl2) (cd_bM hb1 hl1)) hg3) (by decide)) (cd_bR64 (cd_bM (cd_bS (cd_bM ha hg2) (cd_bM hb1 hg1)) hl3) (by decide)) dX0_moveOnto_84 dX0_moveOnto_85 (by decide) (fun c_2 => ?_) (fun c_2 => ?_)
        · refine lv_iload_n hx hb dX0_moveOnto_90 rfl (lv_at hl 4 rfl) ?_
          refine lv_aload_n hx hb dX0_moveOnto_91 rfl (lv_at hl 1 rfl) ?_
          refine cd_get0 (v := .ref o1) hx hb hts hown hK hP 0 rfl 1 (by decide) q30 rfl rfl dX0_moveOnto_92 ?_
          refine lv_iload_n hx hb dX0_moveOnto_95 rfl (lv_at hl 2 rfl) ?_
          refine cd_iald (k := k) hx hb hK hP 1 0 rfl rfl hk (by decide) dX0_moveOnto_96 ?_
          refine cd_imul hx hb dX0_moveOnto_97 ?_
          refine lv_iload_n hx hb dX0_moveOnto_98 rfl (lv_at hl 3 rfl) ?_
          refine lv_aload_n hx hb dX0_moveOnto_99 rfl (lv_at hl 1 rfl) ?_
          refine cd_get0 (v := .ref o2) hx hb hts hown hK hP 0 rfl 2 (by decide) q31 rfl rfl dX0_moveOnto_100 ?_
          refine lv_iload_n hx hb dX0_moveOnto_103 rfl (lv_at hl 2 rfl) ?_
          refine cd_iald (k := k) hx hb hK hP 2 0 rfl rfl hk (by decide) dX0_moveOnto_104 ?_
          refine cd_imul hx hb dX0_moveOnto_105 ?_
          refine cd_isub hx hb dX0_moveOnto_106 ?_
          refine lv_istore (lv' := [(5, .int (cd_I ((qq * (fa k)) - (pp * (fb k))))), (0, .ref o0), (1, .int (cd_I ((k : Nat) : Int))), (2, .int (cd_I pp)), (3, .int (cd_I qq)), (4, .int (cd_I wo))]) hx hb dX0_moveOnto_107 hl (by decide) rfl (fun ls hl => ?_)
          refine lv_iload hx hb dX0_moveOnto_109 (lv_at hl 0 rfl) ?_
          refine cd_if_gt (tgt := 146) hx hb (cd_bR32 (cd_bS (cd_bM hq9 ha) (cd_bM hp9 hb1)) (by decide)) dX0_moveOnto_111 (by decide) (fun c_3 => ?_) (fun c_3 => ?_)
          · refine lv_iconst (v := cd_I 1) hx hb dX0_moveOnto_146 rfl ?_
            refine lv_goto (tgt := 151) hx hb dX0_moveOnto_147 (by decide) ?_
            refine lv_istore (lv' := [(6, .int (cd_I 1)), (5, .int (cd_I ((qq * (fa k)) - (pp * (fb k))))), (0, .ref o0), (1, .int (cd_I ((k : Nat) : Int))), (2, .int (cd_I pp)), (3, .int (cd_I qq)), (4, .int (cd_I wo))]) hx hb dX0_moveOnto_151 hl (by decide) rfl (fun ls hl => ?_)
            refine lv_aload_n hx hb dX0_moveOnto_153 rfl (lv_at hl 2 rfl) ?_
            refine lv_iload hx hb dX0_moveOnto_154 (lv_at hl 0 rfl) ?_
            refine cd_if_eq (tgt := 166) hx hb ⟨by decide, by decide⟩ dX0_moveOnto_156 (by decide) (fun c_4 => absurd c_4 (by decide)) (fun c_4 => ?_)
            refine lv_aload_n hx hb dX0_moveOnto_159 rfl (lv_at hl 2 rfl) ?_
            refine cd_get0 (v := .long (cd_L gx)) hx hb hts hown hK hP 0 rfl 14 (by decide) q43 rfl rfl dX0_moveOnto_160 ?_
            refine lv_goto (tgt := 170) hx hb dX0_moveOnto_163 (by decide) ?_
            refine cd_put0 (v := .long (cd_L gx)) (ty := .long) hx hb hts hown hK hP hD hS 0 rfl 6 (by decide) q35 rfl rfl rfl rfl rfl (Nat.le_of_ble_eq_true rfl) dX0_moveOnto_170 (fun H locs hP hD hS => ?_)
            have hP : va_P (dC, dI) vwCl [(o0, .inr (0, [.int (cd_I ((n : Nat) : Int)), .ref o1, .ref o2, .ref o3, .int (cd_I ((lv : Nat) : Int)), .ref o4, .long (cd_L gx), .long (cd_L y), .long (cd_L w), .int (cd_I 1), .int (cd_I 1), .long (cd_L lx), .long (cd_L ly), .long (cd_L lw), .long (cd_L gx), .long (cd_L gy), .long (cd_L gw), .int (cd_I rm), .long (cd_L bx), .long (cd_L by_), .long (cd_L bw), .int (cd_I ap), .int (cd_I aq)])), (o1, .inl (dA, 14, .inl (cd_c fa))), (o2, .inl (dA, 14, .inl (cd_c fb))), (o3, .inl (dA, 14, .inl (cd_c fc))), (o4, .inl (dA, 8, .inl (cd_n fl)))] H := hP
            have hD : va_D A [(o0, .inr (0, [.int (cd_I ((n : Nat) : Int)), .ref o1, .ref o2, .ref o3, .int (cd_I ((lv : Nat) : Int)), .ref o4, .long (cd_L gx), .long (cd_L y), .long (cd_L w), .int (cd_I 1), .int (cd_I 1), .long (cd_L lx), .long (cd_L ly), .long (cd_L lw), .long (cd_L gx), .long (cd_L gy), .long (cd_L gw), .int (cd_I rm), .long (cd_L bx), .long (cd_L by_), .long (cd_L bw), .int (cd_I ap), .int (cd_I aq)])), (o1, .inl (dA, 14, .inl (cd_c fa))), (o2, .inl (dA, 14, .inl (cd_c fb))), (o3, .inl (dA, 14, .inl (cd_c fc))), (o4, .inl (dA, 8, .inl (cd_n fl)))] := hD
            refine lv_aload_n hx hb dX0_moveOnto_173 rfl (lv_at hl 2 rfl) ?_
            refine lv_iload hx hb dX0_moveOnto_174 (lv_at hl 0 rfl) ?_
            refine cd_if_eq (tgt := 186) hx hb ⟨by decide, by decide⟩ dX0_moveOnto_176 (by decide) (fun c_5 => absurd c_5 (by decide)) (fun c_5 => ?_)
            refine lv_aload_n hx hb dX0_moveOnto_179 rfl (lv_at hl 2 rfl) ?_
            refine cd_get0 (v := .long (cd_L gy)) hx hb hts hown hK hP 0 rfl 15 (by decide) q44 rfl rfl dX0_moveOnto_180 ?_
            refine lv_goto (tgt := 190) hx hb dX0_moveOnto_183 (by decide) ?_
            refine cd_put0 (v := .long (cd_L gy)) (ty := .long) hx hb hts hown hK hP hD hS 0 rfl 7 (by decide) q36 rfl rfl rfl rfl rfl (Nat.le_of_ble_eq_true rfl) dX0_moveOnto_190 (fun H locs hP hD hS => ?_)
            have hP : va_P (dC, dI) vwCl [(o0, .inr (0, [.int (cd_I ((n : Nat) : Int)), .ref o1, .ref o2, .ref o3, .int (cd_I ((lv : Nat) : Int)), .ref o4, .long (cd_L gx), .long (cd_L gy), .long (cd_L w), .int (cd_I 1), .int (cd_I 1), .long (cd_L lx), .long (cd_L ly), .long (cd_L lw), .long (cd_L gx), .long (cd_L gy), .long (cd_L gw), .int (cd_I rm), .long (cd_L bx), .long (cd_L by_), .long (cd_L bw), .int (cd_I ap), .int (cd_I aq)])), (o1, .inl (dA, 14, .inl (cd_c fa))), (o2, .inl (dA, 14, .inl (cd_c fb))), (o3, .inl (dA, 14, .inl (cd_c fc))), (o4, .inl (dA, 8, .inl (cd_n fl)))] H := hP
            have hD : va_D A [(o0, .inr (0, [.int (cd_I ((n : Nat) : Int)), .ref o1, .ref o2, .ref o3, .int (cd_I ((lv : Nat) : Int)), .ref o4, .long (cd_L gx), .long (cd_L gy), .long (cd_L w), .int (cd_I 1), .int (cd_I 1), .long (cd_L lx), .long (cd_L ly), .long (cd_L lw), .long (cd_L gx), .long (cd_L gy), .long (cd_L gw), .int (cd_I rm), .long (cd_L bx), .long (cd_L by_), .long (cd_L bw), .int (cd_I ap), .int (cd_I aq)])), (o1, .inl (dA, 14, .inl (cd_c fa))), (o2, .inl (dA, 14, .inl (cd_c fb))), (o3, .inl (dA, 14, .inl (cd_c fc))), (o4, .inl (dA, 8, .inl (cd_n fl)))] := hD
            refine lv_aload_n hx hb dX0_moveOnto_193 rfl (lv_at hl 2 rfl) ?_
            refine lv_iload hx hb dX0_moveOnto_194 (lv_at hl 0 rfl) ?_
            refine cd_if_eq (tgt := 206) hx hb ⟨by decide, by decide⟩ dX0_moveOnto_196 (by decide) (fun c_6 => absurd c_6 (by decide)) (fun c_6 => ?_)
            refine lv_aload_n hx hb dX0_moveOnto_199 rfl (lv_at hl 2 rfl) ?_
            refine cd_get0 (v := .long (cd_L gw)) hx hb hts hown hK hP 0 rfl 16 (by decide) q45 rfl rfl dX0_moveOnto_200 ?_
            refine lv_goto (tgt := 210) hx hb dX0_moveOnto_203 (by decide) ?_
            refine cd_put0 (v := .long (cd_L gw)) (ty := .long) hx hb hts hown hK hP hD hS 0 rfl 8 (by decide) q37 rfl rfl rfl rfl rfl (Nat.le_of_ble_eq_true rfl) dX0_moveOnto_210 (fun H locs hP hD hS => ?_)
            have hP : va_P (dC, dI) vwCl [(o0, .inr (0, [.int (cd_I ((n : Nat) : Int)), .ref o1, .ref o2, .ref o3, .int (cd_I ((lv : Nat) : Int)), .ref o4, .long (cd_L gx), .long (cd_L gy), .long (cd_L gw), .int (cd_I 1), .int (cd_I 1), .long (cd_L lx), .long (cd_L ly), .long (cd_L lw), .long (cd_L gx), .long (cd_L gy), .long (cd_L gw), .int (cd_I rm), .long (cd_L bx), .long (cd_L by_), .long (cd_L bw), .int (cd_I ap), .int (cd_I aq)])), (o1, .inl (dA, 14, .inl (cd_c fa))), (o2, .inl (dA, 14, .inl (cd_c fb))), (o3, .inl (dA, 14, .inl (cd_c fc))), (o4, .inl (dA, 8, .inl (cd_n fl)))] H := hP
            have hD : va_D A [(o0, .inr (0, [.int (cd_I ((n : Nat) : Int)), .ref o1, .ref o2, .ref o3, .int (cd_I ((lv : Nat) : Int)), .ref o4, .long (cd_L gx), .long (cd_L gy), .long (cd_L gw), .int (cd_I 1), .int (cd_I 1), .long (cd_L lx), .long (cd_L ly), .long (cd_L lw), .long (cd_L gx), .long (cd_L gy), .long (cd_L gw), .int (cd_I rm), .long (cd_L bx), .long (cd_L by_), .long (cd_L bw), .int (cd_I ap), .int (cd_I aq)])), (o1, .inl (dA, 14, .inl (cd_c fa))), (o2, .inl (dA, 14, .inl (cd_c fb))), (o3, .inl (dA, 14, .inl (cd_c fc))), (o4, .inl (dA, 8, .inl (cd_n fl)))] := hD
            refine lv_iconst (v := cd_I 1) hx hb dX0_moveOnto_213 rfl ?_
            exact W.zret (v := cd_I 1) hx hb hr rfl (fun t ht hW => ⟨⟨cd_I 1, (gx, gy, gw, 1, 1, lx, ly, lw, gx, gy, gw), rfl, Or.inl ⟨rfl, cd_moved_hi hN hst (by omega) (by omega)⟩, ⟨by rw [ht]; exact hP, hD⟩⟩, hS.F ht⟩) hS.2.2 dX0_moveOnto_214
          · refine lv_iload hx hb dX0_moveOnto_114 (lv_at hl 0 rfl) ?_
            refine cd_if_ne (tgt := 150) hx hb (cd_bR32 (cd_bS (cd_bM hq9 ha) (cd_bM hp9 hb1)) (by decide)) dX0_moveOnto_116 (by decide) (fun c_7 => ?_) (fun c_7 => ?_)
            · refine lv_iconst (v := cd_I 0) hx hb dX0_moveOnto_150 rfl ?_
              refine lv_istore (lv' := [(6, .int (cd_I 0)), (5, .int (cd_I ((qq * (fa k)) - (pp * (fb k))))), (0, .ref o0), (1, .int (cd_I ((k : Nat) : Int))), (2, .int (cd_I pp)), (3, .int (cd_I qq)), (4, .int (cd_I wo))]) hx hb dX0_moveOnto_151 hl (by decide) rfl (fun ls hl => ?_)
              refine lv_aload_n hx hb dX0_moveOnto_153 rfl (lv_at hl 2 rfl) ?_
              refine lv_iload hx hb dX0_moveOnto_154 (lv_at hl 0 rfl) ?_
              refine cd_if_eq (tgt := 166) hx hb ⟨by decide, by decide⟩ dX0_moveOnto_156 (by decide) (fun c_8 => ?_) (fun c_8 => absurd c_8 (by decide))
              refine lv_aload_n hx hb dX0_moveOnto_166 rfl (lv_at hl 2 rfl) ?_
              refine cd_get0 (v := .long (cd_L lx)) hx hb hts hown hK hP 0 rfl 11 (by decide) q40 rfl rfl dX0_moveOnto_167 ?_
              refine cd_put0 (v := .long (cd_L lx)) (ty := .long) hx hb hts hown hK hP hD hS 0 rfl 6 (by decide) q35 rfl rfl rfl rfl rfl (Nat.le_of_ble_eq_true rfl) dX0_moveOnto_170 (fun H locs hP hD hS => ?_)
              have hP : va_P (dC, dI) vwCl [(o0, .inr (0, [.int (cd_I ((n : Nat) : Int)), .ref o1, .ref o2, .ref o3, .int (cd_I ((lv : Nat) : Int)), .ref o4, .long (cd_L lx), .long (cd_L y), .long (cd_L w), .int (cd_I 1), .int (cd_I 1), .long (cd_L lx), .long (cd_L ly), .long (cd_L lw), .long (cd_L gx), .long (cd_L gy), .long (cd_L gw), .int (cd_I rm), .long (cd_L bx), .long (cd_L by_), .long (cd_L bw), .int (cd_I ap), .int (cd_I aq)])), (o1, .inl (dA, 14, .inl (cd_c fa))), (o2, .inl (dA, 14, .inl (cd_c fb))), (o3, .inl (dA, 14, .inl (cd_c fc))), (o4, .inl (dA, 8, .inl (cd_n fl)))] H := hP
              have hD : va_D A [(o0, .inr (0, [.int (cd_I ((n : Nat) : Int)), .ref o1, .ref o2, .ref o3, .int (cd_I ((lv : Nat) : Int)), .ref o4, .long (cd_L lx), .long (cd_L y), .long (cd_L w), .int (cd_I 1), .int (cd_I 1), .long (cd_L lx), .long (cd_L ly), .long (cd_L lw), .long (cd_L gx), .long (cd_L gy), .long (cd_L gw), .int (cd_I rm), .long (cd_L bx), .long (cd_L by_), .long (cd_L bw), .int (cd_I ap), .int (cd_I aq)])), (o1, .inl (dA, 14, .inl (cd_c fa))), (o2, .inl (dA, 14, .inl (cd_c fb))), (o3, .inl (dA, 14, .inl (cd_c fc))), (o4, .inl (dA, 8, .inl (cd_n fl)))] := hD
              refine lv_aload_n hx hb dX0_moveOnto_173 rfl (lv_at hl 2 rfl) ?_
              refine lv_iload hx hb dX0_moveOnto_174 (lv_at hl 0 rfl) ?_
              refine cd_if_eq (tgt := 186) hx hb ⟨by decide, by decide⟩ dX0_moveOnto_176 (by decide) (fun c_9 => ?_) (fun c_9 => absurd c_9 (by decide))
              refine lv_aload_n hx hb dX0_moveOnto_186 rfl (lv_at hl 2 rfl) ?_
              refine cd_get0 (v := .long (cd_L ly)) hx hb hts hown hK hP 0 rfl 12 (by decide) q41 rfl rfl dX0_moveOnto_187 ?_
              refine cd_put0 (v := .long (cd_L ly)) (ty := .long) hx hb hts hown hK hP hD hS 0 rfl 7 (by decide) q36 rfl rfl rfl rfl rfl (Nat.le_of_ble_eq_true rfl) dX0_moveOnto_190 (fun H locs hP hD hS => ?_)
              have hP : va_P (dC, dI) vwCl [(o0, .inr (0, [.int (cd_I ((n : Nat) : Int)), .ref o1, .ref o2, .ref o3, .int (cd_I ((lv : Nat) : Int)), .ref o4, .long (cd_L lx), .long (cd_L ly), .long (cd_L w), .int (cd_I 1), .int (cd_I 1), .long (cd_L lx), .long (cd_L ly), .long (cd_L lw), .long (cd_L gx), .long (cd_L gy), .long (cd_L gw), .int (cd_I rm), .long (cd_L bx), .long (cd_L by_), .long (cd_L bw), .int (cd_I ap), .int (cd_I aq)])), (o1, .inl (dA, 14, .inl (cd_c fa))), (o2, .inl (dA, 14, .inl (cd_c fb))), (o3, .inl (dA, 14, .inl (cd_c fc))), (o4, .inl (dA, 8, .inl (cd_n fl)))] H := hP
              have hD : va_D A [(o0, .inr (0, [.int (cd_I ((n : Nat) : Int)), .ref o1, .ref o2, .ref o3, .int (cd_I ((lv : Nat) : Int)), .ref o4, .long (cd_L lx), .long (cd_L ly), .long (cd_L w), .int (cd_I 1), .int (cd_I 1), .long (cd_L lx), .long (cd_L ly), .long (cd_L lw), .long (cd_L gx), .long (cd_L gy), .long (cd_L gw), .int (cd_I rm), .long (cd_L bx), .long (cd_L by_), .long (cd_L bw), .int (cd_I ap), .int (cd_I aq)])), (o1, .inl (dA, 14, .inl (cd_c fa))), (o2, .inl (dA, 14, .inl (cd_c fb))), (o3, .inl (dA, 14, .inl (cd_c fc))), (o4, .inl (dA, 8, .inl (cd_n fl)))] := hD
              refine lv_aload_n hx hb dX0_moveOnto_193 rfl (lv_at hl 2 rfl) ?_
              refine lv_iload hx hb dX0_moveOnto_194 (lv_at hl 0 rfl) ?_
              refine cd_if_eq (tgt := 206) hx hb ⟨by decide, by decide⟩ dX0_moveOnto_196 (by decide) (fun c_10 => ?_) (fun c_10 => absurd c_10 (by decide))
              refine lv_aload_n hx hb dX0_moveOnto_206 rfl (lv_at hl 2 rfl) ?_
              refine cd_get0 (v := .long (cd_L lw)) hx hb hts hown hK hP 0 rfl 13 (by decide) q42 rfl rfl dX0_moveOnto_207 ?_
              refine cd_put0 (v := .long (cd_L lw)) (ty := .long) hx hb hts hown hK hP hD hS 0 rfl 8 (by decide) q37 rfl rfl rfl rfl rfl (Nat.le_of_ble_eq_true rfl) dX0_moveOnto_210 (fun H locs hP hD hS => ?_)
              have hP : va_P (dC, dI) vwCl [(o0, .inr (0, [.int (cd_I ((n : Nat) : Int)), .ref o1, .ref o2, .ref o3, .int (cd_I ((lv : Nat) : Int)), .ref o4, .long (cd_L lx), .long (cd_L ly), .long (cd_L lw), .int (cd_I 1), .int (cd_I 1), .long (cd_L lx), .long (cd_L ly), .long (cd_L lw), .long (cd_L gx), .long (cd_L gy), .long (cd_L gw), .int (cd_I rm), .long (cd_L bx), .long (cd_L by_), .long (cd_L bw), .int (cd_I ap), .int (cd_I aq)])), (o1, .inl (dA, 14, .inl (cd_c fa))), (o2, .inl (dA, 14, .inl (cd_c fb))), (o3, .inl (dA, 14, .inl (cd_c fc))), (o4, .inl (dA, 8, .inl (cd_n fl)))] H := hP
              have hD : va_D A [(o0, .inr (0, [.int (cd_I ((n : Nat) : Int)), .ref o1, .ref o2, .ref o3, .int (cd_I ((lv : Nat) : Int)), .ref o4, .long (cd_L lx), .long (cd_L ly), .long (cd_L lw), .int (cd_I 1), .int (cd_I 1), .long (cd_L lx), .long (cd_L ly), .long (cd_L lw), .long (cd_L gx), .long (cd_L gy), .long (cd_L gw), .int (cd_I rm), .long (cd_L bx), .long (cd_L by_), .long (cd_L bw), .int (cd_I ap), .int (cd_I aq)])), (o1, .inl (dA, 14, .inl (cd_c fa))), (o2, .inl (dA, 14, .inl (cd_c fb))), (o3, .inl (dA, 14, .inl (cd_c fc))), (o4, .inl (dA, 8, .inl (cd_n fl)))] := hD
              refine lv_iconst (v := cd_I 1) hx hb dX0_moveOnto_213 rfl ?_
              exact W.zret (v := cd_I 1) hx hb hr rfl (fun t ht hW => ⟨⟨cd_I 1, (lx, ly, lw, 1, 1, lx, ly, lw, gx, gy, gw), rfl, Or.inl ⟨rfl, cd_moved_lo hN hst (by omega) (by omega)⟩, ⟨by rw [ht]; exact hP, hD⟩⟩, hS.F ht⟩) hS.2.2 dX0_moveOnto_214
            · refine lv_aload_n hx hb dX0_moveOnto_119 rfl (lv_at hl 1 rfl) ?_
              refine cd_get0 (v := .ref o2) hx hb hts hown hK hP 0 rfl 2 (by decide) q31 rfl rfl dX0_moveOnto_120 ?_
              refine lv_iload_n hx hb dX0_moveOnto_123 rfl (lv_at hl 2 rfl) ?_
              refine cd_iald (k := k) hx hb hK hP 2 0 rfl rfl hk (by decide) dX0_moveOnto_124 ?_
              refine cd_if_gt (tgt := 146) hx hb (cd_bR32 hb1 (by decide)) dX0_moveOnto_125 (by decide) (fun c_11 => ?_) (fun c_11 => ?_)
              · refine lv_iconst (v := cd_I 1) hx hb dX0_moveOnto_146 rfl ?_
                refine lv_goto (tgt := 151) hx hb dX0_moveOnto_147 (by decide) ?_
                refine lv_istore (lv' := [(6, .int (cd_I 1)), (5, .int (cd_I ((qq * (fa k)) - (pp * (fb k))))), (0, .ref o0), (1, .int (cd_I ((k : Nat) : Int))), (2, .int (cd_I pp)), (3, .int (cd_I qq)), (4, .int (cd_I wo))]) hx hb dX0_moveOnto_151 hl (by decide) rfl (fun ls hl => ?_)
                refine lv_aload_n hx hb dX0_moveOnto_153 rfl (lv_at hl 2 rfl) ?_
                refine lv_iload hx hb dX0_moveOnto_154 (lv_at hl 0 rfl) ?_
                refine cd_if_eq (tgt := 166) hx hb ⟨by decide, by decide⟩ dX0_moveOnto_156 (by decide) (fun c_12 => absurd c_12 (by decide)) (fun c_12 => ?_)
                refine lv_aload_n hx hb dX0_moveOnto_159 rfl (lv_at hl 2 rfl) ?_
                refine cd_get0 (v := .long (cd_L gx)) hx hb hts hown hK hP 0 rfl 14 (by decide) q43 rfl rfl dX0_moveOnto_160 ?_
                refine lv_goto (tgt := 170) hx hb dX0_moveOnto_163 (by decide) ?_
                refine cd_put0 (v := .long (cd_L gx)) (ty := .long) hx hb hts hown hK hP hD hS 0 rfl 6 (by decide) q35 rfl rfl rfl rfl rfl (Nat.le_of_ble_eq_true rfl) dX0_moveOnto_170 (fun H locs hP hD hS => ?_)
                have hP : va_P (dC, dI) vwCl [(o0, .inr (0, [.int (cd_I ((n : Nat) : Int)), .ref o1, .ref o2, .ref o3, .int (cd_I ((lv : Nat) : Int)), .ref o4, .long (cd_L gx), .long (cd_L y), .long (cd_L w), .int (cd_I 1), .int (cd_I 1), .long (cd_L lx), .long (cd_L ly), .long (cd_L lw), .long (cd_L gx), .long (cd_L gy), .long (cd_L gw), .int (cd_I rm), .long (cd_L bx), .long (cd_L by_), .long (cd_L bw), .int (cd_I ap), .int (cd_I aq)])), (o1, .inl (dA, 14, .inl (cd_c fa))), (o2, .inl (dA, 14, .inl (cd_c fb))), (o3, .inl (dA, 14, .inl (cd_c fc))), (o4, .inl (dA, 8, .inl (cd_n fl)))] H := hP
                have hD : va_D A [(o0, .inr (0, [.int (cd_I ((n : Nat) : Int)), .ref o1, .ref o2, .ref o3, .int (cd_I ((lv : Nat) : Int)), .ref o4, .long (cd_L gx), .long (cd_L y), .long (cd_L w), .int (cd_I 1), .int (cd_I 1), .long (cd_L lx), .long (cd_L ly), .long (cd_L lw), .long (cd_L gx), .long (cd_L gy), .long (cd_L gw), .int (cd_I rm), .long (cd_L bx), .long (cd_L by_), .long (cd_L bw), .int (cd_I ap), .int (cd_I aq)])), (o1, .inl (dA, 14, .inl (cd_c fa))), (o2, .inl (dA, 14, .inl (cd_c fb))), (o3, .inl (dA, 14, .inl (cd_c fc))), (o4, .inl (dA, 8, .inl (cd_n fl)))] := hD
                refine lv_aload_n hx hb dX0_moveOnto_173 rfl (lv_at hl 2 rfl) ?_
                refine lv_iload hx hb dX0_moveOnto_174 (lv_at hl 0 rfl) ?_
                refine cd_if_eq (tgt := 186) hx hb ⟨by decide, by decide⟩ dX0_moveOnto_176 (by decide) (fun c_13 => absurd c_13 (by decide)) (fun c_13 => ?_)
                refine lv_aload_n hx hb dX0_moveOnto_179 rfl (lv_at hl 2 rfl) ?_
                refine cd_get0 (v := .long (cd_L gy)) hx hb hts hown hK hP 0 rfl 15 (by decide) q44 rfl rfl dX0_moveOnto_180 ?_
                refine lv_goto (tgt := 190) hx hb dX0_moveOnto_183 (by decide) ?_
                refine cd_put0 (v := .long (cd_L gy)) (ty := .long) hx hb hts hown hK hP hD hS 0 rfl 7 (by decide) q36 rfl rfl rfl rfl rfl (Nat.le_of_ble_eq_true rfl) dX0_moveOnto_190 (fun H locs hP hD hS => ?_)
                have hP : va_P (dC, dI) vwCl [(o0, .inr (0, [.int (cd_I ((n : Nat) : Int)), .ref o1, .ref o2, .ref o3, .int (cd_I ((lv : Nat) : Int)), .ref o4, .long (cd_L gx), .long (cd_L gy), .long (cd_L w), .int (cd_I 1), .int (cd_I 1), .long (cd_L lx), .long (cd_L ly), .long (cd_L lw), .long (cd_L gx), .long (cd_L gy), .long (cd_L gw), .int (cd_I rm), .long (cd_L bx), .long (cd_L by_), .long (cd_L bw), .int (cd_I ap), .int (cd_I aq)])), (o1, .inl (dA, 14, .inl (cd_c fa))), (o2, .inl (dA, 14, .inl (cd_c fb))), (o3, .inl (dA, 14, .inl (cd_c fc))), (o4, .inl (dA, 8, .inl (cd_n fl)))] H := hP
                have hD : va_D A [(o0, .inr (0, [.int (cd_I ((n : Nat) : Int)), .ref o1, .ref o2, .ref o3, .int (cd_I ((lv : Nat) : Int)), .ref o4, .long (cd_L gx), .long (cd_L gy), .long (cd_L w), .int (cd_I 1), .int (cd_I 1), .long (cd_L lx), .long (cd_L ly), .long (cd_L lw), .long (cd_L gx), .long (cd_L gy), .long (cd_L gw), .int (cd_I rm), .long (cd_L bx), .long (cd_L by_), .long (cd_L bw), .int (cd_I ap), .int (cd_I aq)])), (o1, .inl (dA, 14, .inl (cd_c fa))), (o2, .inl (dA, 14, .inl (cd_c fb))), (o3, .inl (dA, 14, .inl (cd_c fc))), (o4, .inl (dA, 8, .inl (cd_n fl)))] := hD
                refine lv_aload_n hx hb dX0_moveOnto_193 rfl (lv_at hl 2 rfl) ?_
                refine lv_iload hx hb dX0_moveOnto_194 (lv_at hl 0 rfl) ?_
                refine cd_if_eq (tgt := 206) hx hb ⟨by decide, by decide⟩ dX0_moveOnto_196 (by decide) (fun c_14 => absurd c_14 (by decide)) (fun c_14 => ?_)
                refine lv_aload_n hx hb dX0_moveOnto_199 rfl (lv_at hl 2 rfl) ?_
                refine cd_get0 (v := .long (cd_L gw)) hx hb hts hown hK hP 0 rfl 16 (by decide) q45 rfl rfl dX0_moveOnto_200 ?_
                refine lv_goto (tgt := 210) hx hb dX0_moveOnto_203 (by decide) ?_
                refine cd_put0 (v := .long (cd_L gw)) (ty := .long) hx hb hts hown hK hP hD hS 0 rfl 8 (by decide) q37 rfl rfl rfl rfl rfl (Nat.le_of_ble_eq_true rfl) dX0_moveOnto_210 (fun H locs hP hD hS => ?_)
                have hP : va_P (dC, dI) vwCl [(o0, .inr (0, [.int (cd_I ((n : Nat) : Int)), .ref o1, .ref o2, .ref o3, .int (cd_I ((lv : Nat) : Int)), .ref o4, .long (cd_L gx), .long (cd_L gy), .long (cd_L gw), .int (cd_I 1), .int (cd_I 1), .long (cd_L lx), .long (cd_L ly), .long (cd_L lw), .long (cd_L gx), .long (cd_L gy), .long (cd_L gw), .int (cd_I rm), .long (cd_L bx), .long (cd_L by_), .long (cd_L bw), .int (cd_I ap), .int (cd_I aq)])), (o1, .inl (dA, 14, .inl (cd_c fa))), (o2, .inl (dA, 14, .inl (cd_c fb))), (o3, .inl (dA, 14, .inl (cd_c fc))), (o4, .inl (dA, 8, .inl (cd_n fl)))] H := hP
                have hD : va_D A [(o0, .inr (0, [.int (cd_I ((n : Nat) : Int)), .ref o1, .ref o2, .ref o3, .int (cd_I ((lv : Nat) : Int)), .ref o4, .long (cd_L gx), .long (cd_L gy), .long (cd_L gw), .int (cd_I 1), .int (cd_I 1), .long (cd_L lx), .long (cd_L ly), .long (cd_L lw), .long (cd_L gx), .long (cd_L gy), .long (cd_L gw), .int (cd_I rm), .long (cd_L bx), .long (cd_L by_), .long (cd_L bw), .int (cd_I ap), .int (cd_I aq)])), (o1, .inl (dA, 14, .inl (cd_c fa))), (o2, .inl (dA, 14, .inl (cd_c fb))), (o3, .inl (dA, 14, .inl (cd_c fc))), (o4, .inl (dA, 8, .inl (cd_n fl)))] := hD
                refine lv_iconst (v := cd_I 1) hx hb dX0_moveOnto_213 rfl ?_
                exact W.zret (v := cd_I 1) hx hb hr rfl (fun t ht hW => ⟨⟨cd_I 1, (gx, gy, gw, 1, 1, lx, ly, lw, gx, gy, gw), rfl, Or.inl ⟨rfl, cd_moved_hi hN hst (by omega) (by omega)⟩, ⟨by rw [ht]; exact hP, hD⟩⟩, hS.F ht⟩) hS.2.2 dX0_moveOnto_214
              · refine lv_aload_n hx hb dX0_moveOnto_128 rfl (lv_at hl 1 rfl) ?_
                refine cd_get0 (v := .ref o2) hx hb hts hown hK hP 0 rfl 2 (by decide) q31 rfl rfl dX0_moveOnto_129 ?_
                refine lv_iload_n hx hb dX0_moveOnto_132 rfl (lv_at hl 2 rfl) ?_
                refine cd_iald (k := k) hx hb hK hP 2 0 rfl rfl hk (by decide) dX0_moveOnto_133 ?_
                refine cd_if_ne (tgt := 150) hx hb (cd_bR32 hb1 (by decide)) dX0_moveOnto_134 (by decide) (fun c_15 => ?_) (fun c_15 => ?_)
                · refine lv_iconst (v := cd_I 0) hx hb dX0_moveOnto_150 rfl ?_
                  refine lv_istore (lv' := [(6, .int (cd_I 0)), (5, .int (cd_I ((qq * (fa k)) - (pp * (fb k))))), (0, .ref o0), (1, .int (cd_I ((k : Nat) : Int))), (2, .int (cd_I pp)), (3, .int (cd_I qq)), (4, .int (cd_I wo))]) hx hb dX0_moveOnto_151 hl (by decide) rfl (fun ls hl => ?_)
                  refine lv_aload_n hx hb dX0_moveOnto_153 rfl (lv_at hl 2 rfl) ?_
                  refine lv_iload hx hb dX0_moveOnto_154 (lv_at hl 0 rfl) ?_
                  refine cd_if_eq (tgt := 166) hx hb ⟨by decide, by decide⟩ dX0_moveOnto_156 (by decide) (fun c_16 => ?_) (fun c_16 => absurd c_16 (by decide))
                  refine lv_aload_n hx hb dX0_moveOnto_166 rfl (lv_at hl 2 rfl) ?_
                  refine cd_get0 (v := .long (cd_L lx)) hx hb hts hown hK hP 0 rfl 11 (by decide) q40 rfl rfl dX0_moveOnto_167 ?_
                  refine cd_put0 (v := .long (cd_L lx)) (ty := .long) hx hb hts hown hK hP hD hS 0 rfl 6 (by decide) q35 rfl rfl rfl rfl rfl (Nat.le_of_ble_eq_true rfl) dX0_moveOnto_170 (fun H locs hP hD hS => ?_)
                  have hP : va_P (dC, dI) vwCl [(o0, .inr (0, [.int (cd_I ((n : Nat) : Int)), .ref o1, .ref o2, .ref o3, .int (cd_I ((lv : Nat) : Int)), .ref o4, .long (cd_L lx), .long (cd_L y), .long (cd_L w), .int (cd_I 1), .int (cd_I 1), .long (cd_L lx), .long (cd_L ly), .long (cd_L lw), .long (cd_L gx), .long (cd_L gy), .long (cd_L gw), .int (cd_I rm), .long (cd_L bx), .long (cd_L by_), .long (cd_L bw), .int (cd_I ap), .int (cd_I aq)])), (o1, .inl (dA, 14, .inl (cd_c fa))), (o2, .inl (dA, 14, .inl (cd_c fb))), (o3, .inl (dA, 14, .inl (cd_c fc))), (o4, .inl (dA, 8, .inl (cd_n fl)))] H := hP
                  have hD : va_D A [(o0, .inr (0, [.int (cd_I ((n : Nat) : Int)), .ref o1, .ref o2, .ref o3, .int (cd_I ((lv : Nat) : Int)), .ref o4, .long (cd_L lx), .long (cd_L y), .long (cd_L w), .int (cd_I 1), .int (cd_I 1), .long (cd_L lx), .long (cd_L ly), .long (cd_L lw), .long (cd_L gx), .long (cd_L gy), .long (cd_L gw), .int (cd_I rm), .long (cd_L bx), .long (cd_L by_), .long (cd_L bw), .int (cd_I ap), .int (cd_I aq)])), (o1, .inl (dA, 14, .inl (cd_c fa))), (o2, .inl (dA, 14, .inl (cd_c fb))), (o3, .inl (dA, 14, .inl (cd_c fc))), (o4, .inl (dA, 8, .inl (cd_n fl)))] := hD
                  refine lv_aload_n hx hb dX0_moveOnto_173 rfl (lv_at hl 2 rfl) ?_
                  refine lv_iload hx hb dX0_moveOnto_174 (lv_at hl 0 rfl) ?_
                  refine cd_if_eq (tgt := 186) hx hb ⟨by decide, by decide⟩ dX0_moveOnto_176 (by decide) (fun c_17 => ?_) (fun c_17 => absurd c_17 (by decide))
                  refine lv_aload_n hx hb dX0_moveOnto_186 rfl (lv_at hl 2 rfl) ?_
                  refine cd_get0 (v := .long (cd_L ly)) hx hb hts hown hK hP 0 rfl 12 (by decide) q41 rfl rfl dX0_moveOnto_187 ?_
                  refine cd_put0 (v := .long (cd_L ly)) (ty := .long) hx hb hts hown hK hP hD hS 0 rfl 7 (by decide) q36 rfl rfl rfl rfl rfl (Nat.le_of_ble_eq_true rfl) dX0_moveOnto_190 (fun H locs hP hD hS => ?_)
                  have hP : va_P (dC, dI) vwCl [(o0, .inr (0, [.int (cd_I ((n : Nat) : Int)), .ref o1, .ref o2, .ref o3, .int (cd_I ((lv : Nat) : Int)), .ref o4, .long (cd_L lx), .long (cd_L ly), .long (cd_L w), .int (cd_I 1), .int (cd_I 1), .long (cd_L lx), .long (cd_L ly), .long (cd_L lw), .long (cd_L gx), .long (cd_L gy), .long (cd_L gw), .int (cd_I rm), .long (cd_L bx), .long (cd_L by_), .long (cd_L bw), .int (cd_I ap), .int (cd_I aq)])), (o1, .inl (dA, 14, .inl (cd_c fa))), (o2, .inl (dA, 14, .inl (cd_c fb))), (o3, .inl (dA, 14, .inl (cd_c fc))), (o4, .inl (dA, 8, .inl (cd_n fl)))] H := hP
                  have hD : va_D A [(o0, .inr (0, [.int (cd_I ((n : Nat) : Int)), .ref o1, .ref o2, .ref o3, .int (cd_I ((lv : Nat) : Int)), .ref o4, .long (cd_L lx), .long (cd_L ly), .long (cd_L w), .int (cd_I 1), .int (cd_I 1), .long (cd_L lx), .long (cd_L ly), .long (cd_L lw), .long (cd_L gx), .long (cd_L gy), .long (cd_L gw), .int (cd_I rm), .long (cd_L bx), .long (cd_L by_), .long (cd_L bw), .int (cd_I ap), .int (cd_I aq)])), (o1, .inl (dA, 14, .inl (cd_c fa))), (o2, .inl (dA, 14, .inl (cd_c fb))), (o3, .inl (dA, 14, .inl (cd_c fc))), (o4, .inl (dA, 8, .inl (cd_n fl)))] := hD
                  refine lv_aload_n hx hb dX0_moveOnto_193 rfl (lv_at hl 2 rfl) ?_
                  refine lv_iload hx hb dX0_moveOnto_194 (lv_at hl 0 rfl) ?_
                  refine cd_if_eq (tgt := 206) hx hb ⟨by decide, by decide⟩ dX0_moveOnto_196 (by decide) (fun c_18 => ?_) (fun c_18 => absurd c_18 (by decide))
                  refine lv_aload_n hx hb dX0_moveOnto_206 rfl (lv_at hl 2 rfl) ?_
                  refine cd_get0 (v := .long (cd_L lw)) hx hb hts hown hK hP 0 rfl 13 (by decide) q42 rfl rfl dX0_moveOnto_207 ?_
                  refine cd_put0 (v := .long (cd_L lw)) (ty := .long) hx hb hts hown hK hP hD hS 0 rfl 8 (by decide) q37 rfl rfl rfl rfl rfl (Nat.le_of_ble_eq_true rfl) dX0_moveOnto_210 (fun H locs hP hD hS => ?_)
                  have hP : va_P (dC, dI) vwCl [(o0, .inr (0, [.int (cd_I ((n : Nat) : Int)), .ref o1, .ref o2, .ref o3, .int (cd_I ((lv : Nat) : Int)), .ref o4, .long (cd_L lx), .long (cd_L ly), .long (cd_L lw), .int (cd_I 1), .int (cd_I 1), .long (cd_L lx), .long (cd_L ly), .long (cd_L lw), .long (cd_L gx), .long (cd_L gy), .long (cd_L gw), .int (cd_I rm), .long (cd_L bx), .long (cd_L by_), .long (cd_L bw), .int (cd_I ap), .int (cd_I aq)])), (o1, .inl (dA, 14, .inl (cd_c fa))), (o2, .inl (dA, 14, .inl (cd_c fb))), (o3, .inl (dA, 14, .inl (cd_c fc))), (o4, .inl (dA, 8, .inl (cd_n fl)))] H := hP
                  have hD : va_D A [(o0, .inr (0, [.int (cd_I ((n : Nat) : Int)), .ref o1, .ref o2, .ref o3, .int (cd_I ((lv : Nat) : Int)), .ref o4, .long (cd_L lx), .long (cd_L ly), .long (cd_L lw), .int (cd_I 1), .int (cd_I 1), .long (cd_L lx), .long (cd_L ly), .long (cd_L lw), .long (cd_L gx), .long (cd_L gy), .long (cd_L gw), .int (cd_I rm), .long (cd_L bx), .long (cd_L by_), .long (cd_L bw), .int (cd_I ap), .int (cd_I aq)])), (o1, .inl (dA, 14, .inl (cd_c fa))), (o2, .inl (dA, 14, .inl (cd_c fb))), (o3, .inl (dA, 14, .inl (cd_c fc))), (o4, .inl (dA, 8, .inl (cd_n fl)))] := hD
                  refine lv_iconst (v := cd_I 1) hx hb dX0_moveOnto_213 rfl ?_
                  exact W.zret (v := cd_I 1) hx hb hr rfl (fun t ht hW => ⟨⟨cd_I 1, (lx, ly, lw, 1, 1, lx, ly, lw, gx, gy, gw), rfl, Or.inl ⟨rfl, cd_moved_lo hN hst (by omega) (by omega)⟩, ⟨by rw [ht]; exact hP, hD⟩⟩, hS.F ht⟩) hS.2.2 dX0_moveOnto_214
                · refine lv_aload_n hx hb dX0_moveOnto_137 rfl (lv_at hl 1 rfl) ?_
                  refine cd_get0 (v := .ref o1) hx hb hts hown hK hP 0 rfl 1 (by decide) q30 rfl rfl dX0_moveOnto_138 ?_
                  refine lv_iload_n hx hb dX0_moveOnto_141 rfl (lv_at hl 2 rfl) ?_
                  refine cd_iald (k := k) hx hb hK hP 1 0 rfl rfl hk (by decide) dX0_moveOnto_142 ?_
                  refine cd_if_ge (tgt := 150) hx hb (cd_bR32 ha (by decide)) dX0_moveOnto_143 (by decide) (fun c_19 => ?_) (fun c_19 => ?_)
                  · refine lv_iconst (v := cd_I 0) hx hb dX0_moveOnto_150 rfl ?_
                    refine lv_istore (lv' := [(6, .int (cd_I 0)), (5, .int (cd_I ((qq * (fa k)) - (pp * (fb k))))), (0, .ref o0), (1, .int (cd_I ((k : Nat) : Int))), (2, .int (cd_I pp)), (3, .int (cd_I qq)), (4, .int (cd_I wo))]) hx hb dX0_moveOnto_151 hl (by decide) rfl (fun ls hl => ?_)
                    refine lv_aload_n hx hb dX0_moveOnto_153 rfl (lv_at hl 2 rfl) ?_
                    refine lv_iload hx hb dX0_moveOnto_154 (lv_at hl 0 rfl) ?_
                    refine cd_if_eq (tgt := 166) hx hb ⟨by decide, by decide⟩ dX0_moveOnto_156 (by decide) (fun c_20 => ?_) (fun c_20 => absurd c_20 (by decide))
                    refine lv_aload_n hx hb dX0_moveOnto_166 rfl (lv_at hl 2 rfl) ?_
                    refine cd_get0 (v := .long (cd_L lx)) hx hb hts hown hK hP 0 rfl 11 (by decide) q40 rfl rfl dX0_moveOnto_167 ?_
                    refine cd_put0 (v := .long (cd_L lx)) (ty := .long) hx hb hts hown hK hP hD hS 0 rfl 6 (by decide) q35 rfl rfl rfl rfl rfl (Nat.le_of_ble_eq_true rfl) dX0_moveOnto_170 (fun H locs hP hD hS => ?_)
                    have hP : va_P (dC, dI) vwCl [(o0, .inr (0, [.int (cd_I ((n : Nat) : Int)), .ref o1, .ref o2, .ref o3, .int (cd_I ((lv : Nat) : Int)), .ref o4, .long (cd_L lx), .long (cd_L y), .long (cd_L w), .int (cd_I 1), .int (cd_I 1), .long (cd_L lx), .long (cd_L ly), .long (cd_L lw), .long (cd_L gx), .long (cd_L gy), .long (cd_L gw), .int (cd_I rm), .long (cd_L bx), .long (cd_L by_), .long (cd_L bw), .int (cd_I ap), .int (cd_I aq)])), (o1, .inl (dA, 14, .inl (cd_c fa))), (o2, .inl (dA, 14, .inl (cd_c fb))), (o3, .inl (dA, 14, .inl (cd_c fc))), (o4, .inl (dA, 8, .inl (cd_n fl)))] H := hP
                    have hD : va_D A [(o0, .inr (0, [.int (cd_I ((n : Nat) : Int)), .ref o1, .ref o2, .ref o3, .int (cd_I ((lv : Nat) : Int)), .ref o4, .long (cd_L lx), .long (cd_L y), .long (cd_L w), .int (cd_I 1), .int (cd_I 1), .long (cd_L lx), .long (cd_L ly), .long (cd_L lw), .long (cd_L gx), .long (cd_L gy), .long (cd_L gw), .int (cd_I rm), .long (cd_L bx), .long (cd_L by_), .long (cd_L bw), .int (cd_I ap), .int (cd_I aq)])), (o1, .inl (dA, 14, .inl (cd_c fa))), (o2, .inl (dA, 14, .inl (cd_c fb))), (o3, .inl (dA, 14, .inl (cd_c fc))), (o4, .inl (dA, 8, .inl (cd_n fl)))] := hD
                    refine lv_aload_n hx hb dX0_moveOnto_173 rfl (lv_at hl 2 rfl) ?_
                    refine lv_iload hx hb dX0_moveOnto_174 (lv_at hl 0 rfl) ?_
                    refine cd_if_eq (tgt := 186) hx hb ⟨by decide, by decide⟩ dX0_moveOnto_176 (by decide) (fun c_21 => ?_) (fun c_21 => absurd c_21 (by decide))
                    refine lv_aload_n hx hb dX0_moveOnto_186 rfl (lv_at hl 2 rfl) ?_
                    refine cd_get0 (v := .long (cd_L ly)) hx hb hts hown hK hP 0 rfl 12 (by decide) q41 rfl rfl dX0_moveOnto_187 ?_
                    refine cd_put0 (v := .long (cd_L ly)) (ty := .long) hx hb hts hown hK hP hD hS 0 rfl 7 (by decide) q36 rfl rfl rfl rfl rfl (Nat.le_of_ble_eq_true rfl) dX0_moveOnto_190 (fun H locs hP hD hS => ?_)
                    have hP : va_P (dC, dI) vwCl [(o0, .inr (0, [.int (cd_I ((n : Nat) : Int)), .ref o1, .ref o2, .ref o3, .int (cd_I ((lv : Nat) : Int)), .ref o4, .long (cd_L lx), .long (cd_L ly), .long (cd_L w), .int (cd_I 1), .int (cd_I 1), .long (cd_L lx), .long (cd_L ly), .long (cd_L lw), .long (cd_L gx), .long (cd_L gy), .long (cd_L gw), .int (cd_I rm), .long (cd_L bx), .long (cd_L by_), .long (cd_L bw), .int (cd_I ap), .int (cd_I aq)])), (o1, .inl (dA, 14, .inl (cd_c fa))), (o2, .inl (dA, 14, .inl (cd_c fb))), (o3, .inl (dA, 14, .inl (cd_c fc))), (o4, .inl (dA, 8, .inl (cd_n fl)))] H := hP
                    have hD : va_D A [(o0, .inr (0, [.int (cd_I ((n : Nat) : Int)), .ref o1, .ref o2, .ref o3, .int (cd_I ((lv : Nat) : Int)), .ref o4, .long (cd_L lx), .long (cd_L ly), .long (cd_L w), .int (cd_I 1), .int (cd_I 1), .long (cd_L lx), .long (cd_L ly), .long (cd_L lw), .long (cd_L gx), .long (cd_L gy), .long (cd_L gw), .int (cd_I rm), .long (cd_L bx), .long (cd_L by_), .long (cd_L bw), .int (cd_I ap), .int (cd_I aq)])), (o1, .inl (dA, 14, .inl (cd_c fa))), (o2, .inl (dA, 14, .inl (cd_c fb))), (o3, .inl (dA, 14, .inl (cd_c fc))), (o4, .inl (dA, 8, .inl (cd_n fl)))] := hD
                    refine lv_aload_n hx hb dX0_moveOnto_193 rfl (lv_at hl 2 rfl) ?_
                    refine lv_iload hx hb dX0_moveOnto_194 (lv_at hl 0 rfl) ?_
                    refine cd_if_eq (tgt := 206) hx hb ⟨by decide, by decide⟩ dX0_moveOnto_196 (by decide) (fun c_22 => ?_) (fun c_22 => absurd c_22 (by decide))
                    refine lv_aload_n hx hb dX0_moveOnto_206 rfl (lv_at hl 2 rfl) ?_
                    refine cd_get0 (v := .long (cd_L lw)) hx hb hts hown hK hP 0 rfl 13 (by decide) q42 rfl rfl dX0_moveOnto_207 ?_
                    refine cd_put0 (v := .long (cd_L lw)) (ty := .long) hx hb hts hown hK hP hD hS 0 rfl 8 (by decide) q37 rfl rfl rfl rfl rfl (Nat.le_of_ble_eq_true rfl) dX0_moveOnto_210 (fun H locs hP hD hS => ?_)
                    have hP : va_P (dC, dI) vwCl [(o0, .inr (0, [.int (cd_I ((n : Nat) : Int)), .ref o1, .ref o2, .ref o3, .int (cd_I ((lv : Nat) : Int)), .ref o4, .long (cd_L lx), .long (cd_L ly), .long (cd_L lw), .int (cd_I 1), .int (cd_I 1), .long (cd_L lx), .long (cd_L ly), .long (cd_L lw), .long (cd_L gx), .long (cd_L gy), .long (cd_L gw), .int (cd_I rm), .long (cd_L bx), .long (cd_L by_), .long (cd_L bw), .int (cd_I ap), .int (cd_I aq)])), (o1, .inl (dA, 14, .inl (cd_c fa))), (o2, .inl (dA, 14, .inl (cd_c fb))), (o3, .inl (dA, 14, .inl (cd_c fc))), (o4, .inl (dA, 8, .inl (cd_n fl)))] H := hP
                    have hD : va_D A [(o0, .inr (0, [.int (cd_I ((n : Nat) : Int)), .ref o1, .ref o2, .ref o3, .int (cd_I ((lv : Nat) : Int)), .ref o4, .long (cd_L lx), .long (cd_L ly), .long (cd_L lw), .int (cd_I 1), .int (cd_I 1), .long (cd_L lx), .long (cd_L ly), .long (cd_L lw), .long (cd_L gx), .long (cd_L gy), .long (cd_L gw), .int (cd_I rm), .long (cd_L bx), .long (cd_L by_), .long (cd_L bw), .int (cd_I ap), .int (cd_I aq)])), (o1, .inl (dA, 14, .inl (cd_c fa))), (o2, .inl (dA, 14, .inl (cd_c fb))), (o3, .inl (dA, 14, .inl (cd_c fc))), (o4, .inl (dA, 8, .inl (cd_n fl)))] := hD
                    refine lv_iconst (v := cd_I 1) hx hb dX0_moveOnto_213 rfl ?_
                    exact W.zret (v := cd_I 1) hx hb hr rfl (fun t ht hW => ⟨⟨cd_I 1, (lx, ly, lw, 1, 1, lx, ly, lw, gx, gy, gw), rfl, Or.inl ⟨rfl, cd_moved_lo hN hst (by omega) (by omega)⟩, ⟨by rw [ht]; exact hP, hD⟩⟩, hS.F ht⟩) hS.2.2 dX0_moveOnto_214
                  · refine lv_iconst (v := cd_I 1) hx hb dX0_moveOnto_146 rfl ?_
                    refine lv_goto (tgt := 151) hx hb dX0_moveOnto_147 (by decide) ?_
                    refine lv_istore (lv' := [(6, .int (cd_I 1)), (5, .int (cd_I ((qq * (fa k)) - (pp * (fb k))))), (0, .ref o0), (1, .int (cd_I ((k : Nat) : Int))), (2, .int (cd_I pp)), (3, .int (cd_I qq)), (4, .int (cd_I wo))]) hx hb dX0_moveOnto_151 hl (by decide) rfl (fun ls hl => ?_)
                    refine lv_aload_n hx hb dX0_moveOnto_153 rfl (lv_at hl 2 rfl) ?_
                    refine lv_iload hx hb dX0_moveOnto_154 (lv_at hl 0 rfl) ?_
                    refine cd_if_eq (tgt := 166) hx hb ⟨by decide, by decide⟩ dX0_moveOnto_156 (by decide) (fun c_23 => absurd c_23 (by decide)) (fun c_23 => ?_)
                    refine lv_aload_n hx hb dX0_moveOnto_159 rfl (lv_at hl 2 rfl) ?_
                    refine cd_get0 (v := .long (cd_L gx)) hx hb hts hown hK hP 0 rfl 14 (by decide) q43 rfl rfl dX0_moveOnto_160 ?_
                    refine lv_goto (tgt := 170) hx hb dX0_moveOnto_163 (by decide) ?_
                    refine cd_put0 (v := .long (cd_L gx)) (ty := .long) hx hb hts hown hK hP hD hS 0 rfl 6 (by decide) q35 rfl rfl rfl rfl rfl (Nat.le_of_ble_eq_true rfl) dX0_moveOnto_170 (fun H locs hP hD hS => ?_)
                    have hP : va_P (dC, dI) vwCl [(o0, .inr (0, [.int (cd_I ((n : Nat) : Int)), .ref o1, .ref o2, .ref o3, .int (cd_I ((lv : Nat) : Int)), .ref o4, .long (cd_L gx), .long (cd_L y), .long (cd_L w), .int (cd_I 1), .int (cd_I 1), .long (cd_L lx), .long (cd_L ly), .long (cd_L lw), .long (cd_L gx), .long (cd_L gy), .long (cd_L gw), .int (cd_I rm), .long (cd_L bx), .long (cd_L by_), .long (cd_L bw), .int (cd_I ap), .int (cd_I aq)])), (o1, .inl (dA, 14, .inl (cd_c fa))), (o2, .inl (dA, 14, .inl (cd_c fb))), (o3, .inl (dA, 14, .inl (cd_c fc))), (o4, .inl (dA, 8, .inl (cd_n fl)))] H := hP
                    have hD : va_D A [(o0, .inr (0, [.int (cd_I ((n : Nat) : Int)), .ref o1, .ref o2, .ref o3, .int (cd_I ((lv : Nat) : Int)), .ref o4, .long (cd_L gx), .long (cd_L y), .long (cd_L w), .int (cd_I 1), .int (cd_I 1), .long (cd_L lx), .long (cd_L ly), .long (cd_L lw), .long (cd_L gx), .long (cd_L gy), .long (cd_L gw), .int (cd_I rm), .long (cd_L bx), .long (cd_L by_), .long (cd_L bw), .int (cd_I ap), .int (cd_I aq)])), (o1, .inl (dA, 14, .inl (cd_c fa))), (o2, .inl (dA, 14, .inl (cd_c fb))), (o3, .inl (dA, 14, .inl (cd_c fc))), (o4, .inl (dA, 8, .inl (cd_n fl)))] := hD
                    refine lv_aload_n hx hb dX0_moveOnto_173 rfl (lv_at hl 2 rfl) ?_
                    refine lv_iload hx hb dX0_moveOnto_174 (lv_at hl 0 rfl) ?_
                    refine cd_if_eq (tgt := 186) hx hb ⟨by decide, by decide⟩ dX0_moveOnto_176 (by decide) (fun c_24 => absurd c_24 (by decide)) (fun c_24 => ?_)
                    refine lv_aload_n hx hb dX0_moveOnto_179 rfl (lv_at hl 2 rfl) ?_
                    refine cd_get0 (v := .long (cd_L gy)) hx hb hts hown hK hP 0 rfl 15 (by decide) q44 rfl rfl dX0_moveOnto_180 ?_
                    refine lv_goto (tgt := 190) hx hb dX0_moveOnto_183 (by decide) ?_
                    refine cd_put0 (v := .long (cd_L gy)) (ty := .long) hx hb hts hown hK hP hD hS 0 rfl 7 (by decide) q36 rfl rfl rfl rfl rfl (Nat.le_of_ble_eq_true rfl) dX0_moveOnto_190 (fun H locs hP hD hS => ?_)
                    have hP : va_P (dC, dI) vwCl [(o0, .inr (0, [.int (cd_I ((n : Nat) : Int)), .ref o1, .ref o2, .ref o3, .int (cd_I ((lv : Nat) : Int)), .ref o4, .long (cd_L gx), .long (cd_L gy), .long (cd_L w), .int (cd_I 1), .int (cd_I 1), .long (cd_L lx), .long (cd_L ly), .long (cd_L lw), .long (cd_L gx), .long (cd_L gy), .long (cd_L gw), .int (cd_I rm), .long (cd_L bx), .long (cd_L by_), .long (cd_L bw), .int (cd_I ap), .int (cd_I aq)])), (o1, .inl (dA, 14, .inl (cd_c fa))), (o2, .inl (dA, 14, .inl (cd_c fb))), (o3, .inl (dA, 14, .inl (cd_c fc))), (o4, .inl (dA, 8, .inl (cd_n fl)))] H := hP
                    have hD : va_D A [(o0, .inr (0, [.int (cd_I ((n : Nat) : Int)), .ref o1, .ref o2, .ref o3, .int (cd_I ((lv : Nat) : Int)), .ref o4, .long (cd_L gx), .long (cd_L gy), .long (cd_L w), .int (cd_I 1), .int (cd_I 1), .long (cd_L lx), .long (cd_L ly), .long (cd_L lw), .long (cd_L gx), .long (cd_L gy), .long (cd_L gw), .int (cd_I rm), .long (cd_L bx), .long (cd_L by_), .long (cd_L bw), .int (cd_I ap), .int (cd_I aq)])), (o1, .inl (dA, 14, .inl (cd_c fa))), (o2, .inl (dA, 14, .inl (cd_c fb))), (o3, .inl (dA, 14, .inl (cd_c fc))), (o4, .inl (dA, 8, .inl (cd_n fl)))] := hD
                    refine lv_aload_n hx hb dX0_moveOnto_193 rfl (lv_at hl 2 rfl) ?_
                    refine lv_iload hx hb dX0_moveOnto_194 (lv_at hl 0 rfl) ?_
                    refine cd_if_eq (tgt := 206) hx hb ⟨by decide, by decide⟩ dX0_moveOnto_196 (by decide) (fun c_25 => absurd c_25 (by decide)) (fun c_25 => ?_)
                    refine lv_aload_n hx hb dX0_moveOnto_199 rfl (lv_at hl 2 rfl) ?_
                    refine cd_get0 (v := .long (cd_L gw)) hx hb hts hown hK hP 0 rfl 16 (by decide) q45 rfl rfl dX0_moveOnto_200 ?_
                    refine lv_goto (tgt := 210) hx hb dX0_moveOnto_203 (by decide) ?_
                    refine cd_put0 (v := .long (cd_L gw)) (ty := .long) hx hb hts hown hK hP hD hS 0 rfl 8 (by decide) q37 rfl rfl rfl rfl rfl (Nat.le_of_ble_eq_true rfl) dX0_moveOnto_210 (fun H locs hP hD hS => ?_)
                    have hP : va_P (dC, dI) vwCl [(o0, .inr (0, [.int (cd_I ((n : Nat) : Int)), .ref o1, .ref o2, .ref o3, .int (cd_I ((lv : Nat) : Int)), .ref o4, .long (cd_L gx), .long (cd_L gy), .long (cd_L gw), .int (cd_I 1), .int (cd_I 1), .long (cd_L lx), .long (cd_L ly), .long (cd_L lw), .long (cd_L gx), .long (cd_L gy), .long (cd_L gw), .int (cd_I rm), .long (cd_L bx), .long (cd_L by_), .long (cd_L bw), .int (cd_I ap), .int (cd_I aq)])), (o1, .inl (dA, 14, .inl (cd_c fa))), (o2, .inl (dA, 14, .inl (cd_c fb))), (o3, .inl (dA, 14, .inl (cd_c fc))), (o4, .inl (dA, 8, .inl (cd_n fl)))] H := hP
                    have hD : va_D A [(o0, .inr (0, [.int (cd_I ((n : Nat) : Int)), .ref o1, .ref o2, .ref o3, .int (cd_I ((lv : Nat) : Int)), .ref o4, .long (cd_L gx), .long (cd_L gy), .long (cd_L gw), .int (cd_I 1), .int (cd_I 1), .long (cd_L lx), .long (cd_L ly), .long (cd_L lw), .long (cd_L gx), .long (cd_L gy), .long (cd_L gw), .int (cd_I rm), .long (cd_L bx), .long (cd_L by_), .long (cd_L bw), .int (cd_I ap), .int (cd_I aq)])), (o1, .inl (dA, 14, .inl (cd_c fa))), (o2, .inl (dA, 14, .inl (cd_c fb))), (o3, .inl (dA, 14, .inl (cd_c fc))), (o4, .inl (dA, 8, .inl (cd_n fl)))] := hD
                    refine lv_iconst (v := cd_I 1) hx hb dX0_moveOnto_213 rfl ?_
                    exact W.zret (v := cd_I 1) hx hb hr rfl (fun t ht hW => ⟨⟨cd_I 1, (gx, gy, gw, 1, 1, lx, ly, lw, gx, gy, gw), rfl, Or.inl ⟨rfl, cd_moved_hi hN hst (by omega) (by omega)⟩, ⟨by rw [ht]; exact hP, hD⟩⟩, hS.F ht⟩) hS.2.2 dX0_moveOnto_214
        · refine lv_iconst (v := cd_I 0) hx hb dX0_moveOnto_88 rfl ?_
          exact W.zret (v := cd_I 0) hx hb hr rfl (fun t ht hW => ⟨⟨cd_I 0, (x, y, w, 1, 1, lx, ly, lw, gx, gy, gw), rfl, Or.inr ⟨rfl, cd_str_no hst (by omega)⟩, ⟨by rw [ht]; exact hP, hD⟩⟩, hS.F ht⟩) hS.2.2 dX0_moveOnto_89
      · refine lv_iload hx hb dX0_moveOnto_19 (lv_at hl 0 rfl) ?_
        refine lv_iload hx hb dX0_moveOnto_21 (lv_at hl 5 rfl) ?_
        refine cd_icmp_eq (tgt := 42) hx hb ⟨by omega, by omega⟩ ⟨by omega, by omega⟩ dX0_moveOnto_23 (by decide) (fun c_26 => ?_) (fun c_26 => ?_)
        · refine cd_iinc (x := ((j : Nat) : Int)) (lv' := [(5, .int (cd_I (((j : Nat) : Int) + 1))), (0, .ref o0), (1, .int (cd_I ((k : Nat) : Int))), (2, .int (cd_I pp)), (3, .int (cd_I qq)), (4, .int (cd_I wo))]) hx hb dX0_moveOnto_42 hl (k := 0) rfl (by decide) rfl (fun ls hl => ?_)
          refine lv_goto (tgt := 13) hx hb dX0_moveOnto_45 (by decide) ?_
          exact ih (j + 1) hL lx ly lw hH gx gy gw (by omega) (by omega) (cd_str_iff (cd_S_skip (by omega)) hst) H locs hP hD hS ls (lv_sub hl [0, 1, 2, 3, 4, 5] rfl)
        · refine lv_aload_n hx hb dX0_moveOnto_26 rfl (lv_at hl 1 rfl) ?_
          refine lv_iload_n hx hb dX0_moveOnto_27 rfl (lv_at hl 2 rfl) ?_
          refine lv_iload hx hb dX0_moveOnto_28 (lv_at hl 0 rfl) ?_
          have hj : j < 14 := by omega
          obtain ⟨ha2, hb2, hc2, -⟩ := hok.2.2.2.2.2 j (by omega)
          refine cd_call1i (va_runV (As := [.int (cd_I ((k : Nat) : Int)), .int (cd_I ((j : Nat) : Int))]) (rest := []) ⟨hx, hb, hml, hown, hts⟩ (xd_cutStretch l dC dI dA o0 o1 o2 o3 o4 n lv fa fb fc fl x y w hL hH lx ly lw gx gy gw rm bx by_ bw ap aq H.size k j hk hj ha hb1 hc1 ha2 hb2 hc2 hfH hfL) (cwV 2 hts (lw_V q133 q135 qs3 q19 q136) rfl rfl rfl (by decide +kernel) ⟨Nat.le_of_ble_eq_true rfl, Nat.le_of_ble_eq_true rfl⟩) ⟨cd_bl1, va_recv hK hP (ci := 0) (q0 := 0) rfl rfl, cd_pr1 hP hK hD⟩ rfl rfl hl.1 rfl (lv_room (Nat.le_of_ble_eq_true rfl)) dX0_moveOnto_30 ⟨Nat.le_of_ble_eq_true rfl, Nat.le_of_ble_eq_true rfl⟩) hD hS hA (fun r u H locs hq hP hD hS => ?_)
          obtain ⟨u1, u2, u3, u4, u5, u6, u7, u8⟩ := u
          have hP : va_P (dC, dI) vwCl [(o0, .inr (0, [.int (cd_I ((n : Nat) : Int)), .ref o1, .ref o2, .ref o3, .int (cd_I ((lv : Nat) : Int)), .ref o4, .long (cd_L x), .long (cd_L y), .long (cd_L w), .int (cd_I u1), .int (cd_I u5), .long (cd_L u2), .long (cd_L u3), .long (cd_L u4), .long (cd_L u6), .long (cd_L u7), .long (cd_L u8), .int (cd_I rm), .long (cd_L bx), .long (cd_L by_), .long (cd_L bw), .int (cd_I ap), .int (cd_I aq)])), (o1, .inl (dA, 14, .inl (cd_c fa))), (o2, .inl (dA, 14, .inl (cd_c fb))), (o3, .inl (dA, 14, .inl (cd_c fc))), (o4, .inl (dA, 8, .inl (cd_n fl)))] H := hP
          have hD : va_D A [(o0, .inr (0, [.int (cd_I ((n : Nat) : Int)), .ref o1, .ref o2, .ref o3, .int (cd_I ((lv : Nat) : Int)), .ref o4, .long (cd_L x), .long (cd_L y), .long (cd_L w), .int (cd_I u1), .int (cd_I u5), .long (cd_L u2), .long (cd_L u3), .long (cd_L u4), .long (cd_L u6), .long (cd_L u7), .long (cd_L u8), .int (cd_I rm), .long (cd_L bx), .long (cd_L by_), .long (cd_L bw), .int (cd_I ap), .int (cd_I aq)])), (o1, .inl (dA, 14, .inl (cd_c fa))), (o2, .inl (dA, 14, .inl (cd_c fb))), (o3, .inl (dA, 14, .inl (cd_c fc))), (o4, .inl (dA, 8, .inl (cd_n fl)))] := hD
          have hq : cd_cut r (fa k) (fb k) (fc k) (fa j) (fb j) (fc j) hL lx ly lw hH gx gy gw u1 u2 u3 u4 u5 u6 u7 u8 := hq
          rcases hq with ⟨htn, ⟨e1, e2, e3, e4⟩, ⟨e5, e6, e7, e8⟩, ⟨rfl, hp⟩ | ⟨rfl, hp⟩⟩ | ⟨htn, rfl, ⟨e1, e2, e3, e4⟩, hc⟩ | ⟨htn, rfl, ⟨e5, e6, e7, e8⟩, hc⟩
          · rw [e1, e2, e3, e4, e5, e6, e7, e8] at hP hD
            refine lv_istore (lv' := [(6, .int (cd_I 1)), (5, .int (cd_I ((j : Nat) : Int))), (0, .ref o0), (1, .int (cd_I ((k : Nat) : Int))), (2, .int (cd_I pp)), (3, .int (cd_I qq)), (4, .int (cd_I wo))]) hx hb dX0_moveOnto_33 hl (by decide) rfl (fun ls hl => ?_)
            refine lv_iload hx hb dX0_moveOnto_35 (lv_at hl 0 rfl) ?_
            refine cd_if_ne (tgt := 42) hx hb ⟨by decide, by decide⟩ dX0_moveOnto_37 (by decide) (fun c_27 => ?_) (fun c_27 => absurd c_27 (by decide))
            refine cd_iinc (x := ((j : Nat) : Int)) (lv' := [(5, .int (cd_I (((j : Nat) : Int) + 1))), (6, .int (cd_I 1)), (0, .ref o0), (1, .int (cd_I ((k : Nat) : Int))), (2, .int (cd_I pp)), (3, .int (cd_I qq)), (4, .int (cd_I wo))]) hx hb dX0_moveOnto_42 hl (k := 1) rfl (by decide) rfl (fun ls hl => ?_)
            refine lv_goto (tgt := 13) hx hb dX0_moveOnto_45 (by decide) ?_
            exact ih (j + 1) hL lx ly lw hH gx gy gw (by omega) (by omega) (cd_str_par hN (cd_S_add (by omega)) htn hp hst) H locs hP hD hS ls (lv_sub hl [0, 2, 3, 4, 5, 6] rfl)
          · rw [e1, e2, e3, e4, e5, e6, e7, e8] at hP hD
            refine lv_istore (lv' := [(6, .int (cd_I 0)), (5, .int (cd_I ((j : Nat) : Int))), (0, .ref o0), (1, .int (cd_I ((k : Nat) : Int))), (2, .int (cd_I pp)), (3, .int (cd_I qq)), (4, .int (cd_I wo))]) hx hb dX0_moveOnto_33 hl (by decide) rfl (fun ls hl => ?_)
            refine lv_iload hx hb dX0_moveOnto_35 (lv_at hl 0 rfl) ?_
            refine cd_if_ne (tgt := 42) hx hb ⟨by decide, by decide⟩ dX0_moveOnto_37 (by decide) (fun c_28 => absurd c_28 (by decide)) (fun c_28 => ?_)
            refine lv_iconst (v := cd_I 0) hx hb dX0_moveOnto_40 rfl ?_
            exact W.zret (v := cd_I 0) hx hb hr rfl (fun t ht hW => ⟨⟨cd_I 0, (x, y, w, hL, hH, lx, ly, lw, gx, gy, gw), rfl, Or.inr ⟨rfl, cd_str_one (S' := cd_S k wo) hN htn ⟨by omega, by omega⟩ hp⟩, ⟨by rw [ht]; exact hP, hD⟩⟩, hS.F ht⟩) hS.2.2 dX0_moveOnto_41
          · rw [e1, e2, e3, e4] at hP hD
            refine lv_istore (lv' := [(6, .int (cd_I 1)), (5, .int (cd_I ((j : Nat) : Int))), (0, .ref o0), (1, .int (cd_I ((k : Nat) : Int))), (2, .int (cd_I pp)), (3, .int (cd_I qq)), (4, .int (cd_I wo))]) hx hb dX0_moveOnto_33 hl (by decide) rfl (fun ls hl => ?_)
            refine lv_iload hx hb dX0_moveOnto_35 (lv_at hl 0 rfl) ?_
            refine cd_if_ne (tgt := 42) hx hb ⟨by decide, by decide⟩ dX0_moveOnto_37 (by decide) (fun c_29 => ?_) (fun c_29 => absurd c_29 (by decide))
            refine cd_iinc (x := ((j : Nat) : Int)) (lv' := [(5, .int (cd_I (((j : Nat) : Int) + 1))), (6, .int (cd_I 1)), (0, .ref o0), (1, .int (cd_I ((k : Nat) : Int))), (2, .int (cd_I pp)), (3, .int (cd_I qq)), (4, .int (cd_I wo))]) hx hb dX0_moveOnto_42 hl (k := 1) rfl (by decide) rfl (fun ls hl => ?_)
            refine lv_goto (tgt := 13) hx hb dX0_moveOnto_45 (by decide) ?_
            exact ih (j + 1) hL lx ly lw u5 u6 u7 u8 (by omega) (by omega) (cd_str_high hN (cd_S_add (by omega)) htn hc hst) H locs hP hD hS ls (lv_sub hl [0, 2, 3, 4, 5, 6] rfl)
          · rw [e5, e6, e7, e8] at hP hD
            refine lv_istore (lv' := [(6, .int (cd_I 1)), (5, .int (cd_I ((j : Nat) : Int))), (0, .ref o0), (1, .int (cd_I ((k : Nat) : Int))), (2, .int (cd_I pp)), (3, .int (cd_I qq)), (4, .int (cd_I wo))]) hx hb dX0_moveOnto_33 hl (by decide) rfl (fun ls hl => ?_)
            refine lv_iload hx hb dX0_moveOnto_35 (lv_at hl 0 rfl) ?_
            refine cd_if_ne (tgt := 42) hx hb ⟨by decide, by decide⟩ dX0_moveOnto_37 (by decide) (fun c_30 => ?_) (fun c_30 => absurd c_30 (by decide))
            refine cd_iinc (x := ((j : Nat) : Int)) (lv' := [(5, .int (cd_I (((j : Nat) : Int) + 1))), (6, .int (cd_I 1)), (0, .ref o0), (1, .int (cd_I ((k : Nat) : Int))), (2, .int (cd_I pp)), (3, .int (cd_I qq)), (4, .int (cd_I wo))]) hx hb dX0_moveOnto_42 hl (k := 1) rfl (by decide) rfl (fun ls hl => ?_)
            refine lv_goto (tgt := 13) hx hb dX0_moveOnto_45 (by decide) ?_
            exact ih (j + 1) u1 u2 u3 u4 hH gx gy gw (by omega) (by omega) (cd_str_low hN (cd_S_add (by omega)) htn hc hst) H locs hP hD hS ls (lv_sub hl [0, 2, 3, 4, 5, 6] rfl)
  refine lv_aload_n hx hb dX0_moveOnto_0 rfl (lv_at hl 0 rfl) ?_
  refine lv_iconst (v := cd_I 0) hx hb dX0_moveOnto_1 rfl ?_
  refine cd_put0 (v := .int (cd_I 0)) (ty := .boolean) hx hb hts hown hK hP hD hS 0 rfl 9 (by decide) q38 rfl rfl rfl rfl rfl (Nat.le_of_ble_eq_true rfl) dX0_moveOnto_2 (fun H locs hP hD hS => ?_)
  have hP : va_P (dC, dI) vwCl [(o0, .inr (0, [.int (cd_I ((n : Nat) : Int)), .ref o1, .ref o2, .ref o3, .int (cd_I ((lv : Nat) : Int)), .ref o4, .long (cd_L x), .long (cd_L y), .long (cd_L w), .int (cd_I 0), .int (cd_I hH), .long (cd_L lx), .long (cd_L ly), .long (cd_L lw), .long (cd_L gx), .long (cd_L gy), .long (cd_L gw), .int (cd_I rm), .long (cd_L bx), .long (cd_L by_), .long (cd_L bw), .int (cd_I ap), .int (cd_I aq)])), (o1, .inl (dA, 14, .inl (cd_c fa))), (o2, .inl (dA, 14, .inl (cd_c fb))), (o3, .inl (dA, 14, .inl (cd_c fc))), (o4, .inl (dA, 8, .inl (cd_n fl)))] H := hP
  have hD : va_D A [(o0, .inr (0, [.int (cd_I ((n : Nat) : Int)), .ref o1, .ref o2, .ref o3, .int (cd_I ((lv : Nat) : Int)), .ref o4, .long (cd_L x), .long (cd_L y), .long (cd_L w), .int (cd_I 0), .int (cd_I hH), .long (cd_L lx), .long (cd_L ly), .long (cd_L lw), .long (cd_L gx), .long (cd_L gy), .long (cd_L gw), .int (cd_I rm), .long (cd_L bx), .long (cd_L by_), .long (cd_L bw), .int (cd_I ap), .int (cd_I aq)])), (o1, .inl (dA, 14, .inl (cd_c fa))), (o2, .inl (dA, 14, .inl (cd_c fb))), (o3, .inl (dA, 14, .inl (cd_c fc))), (o4, .inl (dA, 8, .inl (cd_n fl)))] := hD
  refine lv_aload_n hx hb dX0_moveOnto_5 rfl (lv_at hl 0 rfl) ?_
  refine lv_iconst (v := cd_I 0) hx hb dX0_moveOnto_6 rfl ?_
  refine cd_put0 (v := .int (cd_I 0)) (ty := .boolean) hx hb hts hown hK hP hD hS 0 rfl 10 (by decide) q39 rfl rfl rfl rfl rfl (Nat.le_of_ble_eq_true rfl) dX0_moveOnto_7 (fun H locs hP hD hS => ?_)
  have hP : va_P (dC, dI) vwCl [(o0, .inr (0, [.int (cd_I ((n : Nat) : Int)), .ref o1, .ref o2, .ref o3, .int (cd_I ((lv : Nat) : Int)), .ref o4, .long (cd_L x), .long (cd_L y), .long (cd_L w), .int (cd_I 0), .int (cd_I 0), .long (cd_L lx), .long (cd_L ly), .long (cd_L lw), .long (cd_L gx), .long (cd_L gy), .long (cd_L gw), .int (cd_I rm), .long (cd_L bx), .long (cd_L by_), .long (cd_L bw), .int (cd_I ap), .int (cd_I aq)])), (o1, .inl (dA, 14, .inl (cd_c fa))), (o2, .inl (dA, 14, .inl (cd_c fb))), (o3, .inl (dA, 14, .inl (cd_c fc))), (o4, .inl (dA, 8, .inl (cd_n fl)))] H := hP
  have hD : va_D A [(o0, .inr (0, [.int (cd_I ((n : Nat) : Int)), .ref o1, .ref o2, .ref o3, .int (cd_I ((lv : Nat) : Int)), .ref o4, .long (cd_L x), .long (cd_L y), .long (cd_L w), .int (cd_I 0), .int (cd_I 0), .long (cd_L lx), .long (cd_L ly), .long (cd_L lw), .long (cd_L gx), .long (cd_L gy), .long (cd_L gw), .int (cd_I rm), .long (cd_L bx), .long (cd_L by_), .long (cd_L bw), .int (cd_I ap), .int (cd_I aq)])), (o1, .inl (dA, 14, .inl (cd_c fa))), (o2, .inl (dA, 14, .inl (cd_c fb))), (o3, .inl (dA, 14, .inl (cd_c fc))), (o4, .inl (dA, 8, .inl (cd_n fl)))] := hD
  refine lv_iconst (v := cd_I 0) hx hb dX0_moveOnto_10 rfl ?_
  refine lv_istore (lv' := [(5, .int (cd_I 0)), (0, .ref o0), (1, .int (cd_I ((k : Nat) : Int))), (2, .int (cd_I pp)), (3, .int (cd_I qq)), (4, .int (cd_I wo))]) hx hb dX0_moveOnto_11 hl (by decide) rfl (fun ls hl => ?_)
  exact loop (k + 1) 0 0 lx ly lw 0 gx gy gw (Nat.zero_le _) (by omega) (cd_str_0 (fun i hi => by have := hi.1; omega)) H locs hP hD hS ls (lv_sub hl [0, 1, 2, 3, 4, 5] rfl)

set_option maxHeartbeats 4000000 in
set_option maxRecDepth 100000 in
/-- solve: the best corner under the conditions, the one at wo left out -/
theorem xd_solve (l : Launch) (dC : Nat → ClassId) (dI : Nat → Nat → Nat) (dA : ClassId) (o0 o1 o2 o3 o4 n lv : Nat) (fa fb fc : Nat → Int) (fl : Nat → Nat) (x y w hL hH lx ly lw gx gy gw rm bx by_ bw ap aq : Int) (sz : Nat) (pp qq wo : Int) (hok : cd_ok fa fb fc n) (hp9 : cd_b 9 pp) (hq9 : cd_b 9 qq) (hwo : wo = -1 ∨ (4 ≤ wo ∧ wo < 14)) : Met l yX0_solve (ws_ yX0_solve cX0_solve 6 (some .boolean)) ({ frames := 4, cells := 0, slots := 0, locals := 105 }) (va_Pc [.ref o0, .int (cd_I pp), .int (cd_I qq), .int (cd_I wo)] (cd_W1 (dC, dI) vwCl [(dA, .int)] (cd_D dA o0 o1 o2 o3 o4 n lv fa fb fc fl x y w hL hH lx ly lw gx gy gw rm bx by_ bw ap aq) sz)) (va_Qi (fun (r : Int32) (u : Int × Int × Int × Int × Int × Int × Int × Int × Int × Int × Int) => (r = cd_I 1 ∧ cd_opt fa fb fc (cd_S n wo) pp qq u.1 u.2.1 u.2.2.1 ∧ cd_corn fa fb fc (cd_S n wo) u.1 u.2.1 u.2.2.1) ∨ (r = cd_I 0 ∧ ∀ X Y W : Int, ¬ cd_feas fa fb fc (cd_S n wo) X Y W)) (cd_B (dC, dI) vwCl (va_A (cd_D dA o0 o1 o2 o3 o4 n lv fa fb fc fl x y w hL hH lx ly lw gx gy gw rm bx by_ bw ap aq) sz) (fun u : Int × Int × Int × Int × Int × Int × Int × Int × Int × Int × Int => (cd_D dA o0 o1 o2 o3 o4 n lv fa fb fc fl u.1 u.2.1 u.2.2.1 u.2.2.2.1 u.2.2.2.2.1 u.2.2.2.2.2.1 u.2.2.2.2.2.2.1 u.2.2.2.2.2.2.2.1 u.2.2.2.2.2.2.2.2.1 u.2.2.2.2.2.2.2.2.2.1 u.2.2.2.2.2.2.2.2.2.2 rm bx by_ bw ap aq))) (va_A (cd_D dA o0 o1 o2 o3 o4 n lv fa fb fc fl x y w hL hH lx ly lw gx gy gw rm bx by_ bw ap aq) sz)) 0 0 (va_A (cd_D dA o0 o1 o2 o3 o4 n lv fa fb fc fl x y w hL hH lx ly lw gx gy gw rm bx by_ bw ap aq) sz) := by
  refine Met.ofW (cc := cX0_solve) (maxL := 6) (ret := (some .boolean)) (by decide) rfl ?_
  intro p e s m args below meth c s₁ B hml hv
  obtain ⟨rfl, hsz, hP, hK, hD0⟩ := hv
  have hx := B.exec
  have hb := B.bytes
  have hr := B.returns
  have hts := atoms_spec (ws := (ws_ yX0_solve cX0_solve 6 (some .boolean))) B.pre
  have hts : ∀ w ∈ lw_all, w.before _ s = true := fun w h => hts w (List.mem_cons_of_mem _ h)
  have hown : s.vm.findClass RX0 = some m.cls := findClass_of_methodNamed B.named
  have hlocks := B.notSynchronized
  subst hsz
  have hD := hD0.self (sz := s.heap.size)
  generalize hAe : va_A (cd_D dA o0 o1 o2 o3 o4 n lv fa fb fc fl x y w hL hH lx ly lw gx gy gw rm bx by_ bw ap aq) s.heap.size = A at hD ⊢
  have hA : ∀ q : Nat, s.heap.size ≤ q → A q := fun q h => by rw [← hAe]; exact Or.inr h
  have hS : va_S A s.heap s.heap [] := va_S.rf
  have hl := lv_entry ([.ref o0, .int (cd_I pp), .int (cd_I qq), .int (cd_I wo)]) (n := 6) (Nat.le_of_ble_eq_true rfl)
  rw [lg_entry_eq]
  generalize (lg_sl ([.ref o0, .int (cd_I pp), .int (cd_I qq), .int (cd_I wo)]) ++ List.replicate (6 - (lg_sl ([.ref o0, .int (cd_I pp), .int (cd_I qq), .int (cd_I wo)])).length) Slot.unset).toArray = ls at hl ⊢
  have hl : lv_has ls 6 [(0, .ref o0), (1, .int (cd_I pp)), (2, .int (cd_I qq)), (3, .int (cd_I wo))] := hl
  have hP : va_P (dC, dI) vwCl [(o0, .inr (0, [.int (cd_I ((n : Nat) : Int)), .ref o1, .ref o2, .ref o3, .int (cd_I ((lv : Nat) : Int)), .ref o4, .long (cd_L x), .long (cd_L y), .long (cd_L w), .int (cd_I hL), .int (cd_I hH), .long (cd_L lx), .long (cd_L ly), .long (cd_L lw), .long (cd_L gx), .long (cd_L gy), .long (cd_L gw), .int (cd_I rm), .long (cd_L bx), .long (cd_L by_), .long (cd_L bw), .int (cd_I ap), .int (cd_I aq)])), (o1, .inl (dA, 14, .inl (cd_c fa))), (o2, .inl (dA, 14, .inl (cd_c fb))), (o3, .inl (dA, 14, .inl (cd_c fc))), (o4, .inl (dA, 8, .inl (cd_n fl)))] s.heap := hP
  have hD : va_D A [(o0, .inr (0, [.int (cd_I ((n : Nat) : Int)), .ref o1, .ref o2, .ref o3, .int (cd_I ((lv : Nat) : Int)), .ref o4, .long (cd_L x), .long (cd_L y), .long (cd_L w), .int (cd_I hL), .int (cd_I hH), .long (cd_L lx), .long (cd_L ly), .long (cd_L lw), .long (cd_L gx), .long (cd_L gy), .long (cd_L gw), .int (cd_I rm), .long (cd_L bx), .long (cd_L by_), .long (cd_L bw), .int (cd_I ap), .int (cd_I aq)])), (o1, .inl (dA, 14, .inl (cd_c fa))), (o2, .inl (dA, 14, .inl (cd_c fb))), (o3, .inl (dA, 14, .inl (cd_c fc))), (o4, .inl (dA, 8, .inl (cd_n fl)))] := hD
  have hn14 : n ≤ 14 := hok.1.2
  have hn4 : 4 ≤ n := hok.1.1
  have loop : ∀ (f k : Nat) (x y w hL hH lx ly lw gx gy gw : Int), 4 ≤ k → k ≤ n → n + 1 ≤ k + f → cd_opt fa fb fc (cd_S k wo) pp qq x y w → cd_corn fa fb fc (cd_S k wo) x y w → ∀ (H : Heap) (locs : List Loc), va_P (dC, dI) vwCl (cd_D dA o0 o1 o2 o3 o4 n lv fa fb fc fl x y w hL hH lx ly lw gx gy gw rm bx by_ bw ap aq) H → va_D A (cd_D dA o0 o1 o2 o3 o4 n lv fa fb fc fl x y w hL hH lx ly lw gx gy gw rm bx by_ bw ap aq) → va_S A s.heap H locs → ∀ ls : Array Slot, lv_has ls 6 [(4, .int (cd_I ((k : Nat) : Int))), (0, .ref o0), (1, .int (cd_I pp)), (2, .int (cd_I qq)), (3, .int (cd_I wo))] → W p l e (headSpec (ws_ yX0_solve cX0_solve 6 (some .boolean)) ({ frames := 4, cells := 0, slots := 0, locals := 105 })).room s m ([.ref o0, .int (cd_I pp), .int (cd_I qq), .int (cd_I wo)] : List Value).toArray below meth c H locs 0 0 (MQ below (va_Qi (fun (r : Int32) (u : Int × Int × Int × Int × Int × Int × Int × Int × Int × Int × Int) => (r = cd_I 1 ∧ cd_opt fa fb fc (cd_S n wo) pp qq u.1 u.2.1 u.2.2.1 ∧ cd_corn fa fb fc (cd_S n wo) u.1 u.2.1 u.2.2.1) ∨ (r = cd_I 0 ∧ ∀ X Y W : Int, ¬ cd_feas fa fb fc (cd_S n wo) X Y W)) (cd_B (dC, dI) vwCl A (fun u : Int × Int × Int × Int × Int × Int × Int × Int × Int × Int × Int => (cd_D dA o0 o1 o2 o3 o4 n lv fa fb fc fl u.1 u.2.1 u.2.2.1 u.2.2.2.1 u.2.2.2.2.1 u.2.2.2.2.2.1 u.2.2.2.2.2.2.1 u.2.2.2.2.2.2.2.1 u.2.2.2.2.2.2.2.2.1 u.2.2.2.2.2.2.2.2.2.1 u.2.2.2.2.2.2.2.2.2.2 rm bx by_ bw ap aq))) A) ([.ref o0, .int (cd_I pp), .int (cd_I qq), .int (cd_I wo)] : List Value).toArray s 0 0 A) (F0 m 42 ls []) := by
    intro f
    induction f with
    | zero =>
      intro k x y w hL hH lx ly lw gx gy gw h0 h1 h2
      exact absurd h2 (by omega)
    | succ f ih =>
      intro k x y w hL hH lx ly lw gx gy gw hk4 hk1 hk2 hopt hcor H locs hP hD hS ls hl
      obtain ⟨hx1, hy1, hw1, -⟩ := cd_corn_b hok (fun i hi => by have := hi.1; omega) hcor
      have hP : va_P (dC, dI) vwCl [(o0, .inr (0, [.int (cd_I ((n : Nat) : Int)), .ref o1, .ref o2, .ref o3, .int (cd_I ((lv : Nat) : Int)), .ref o4, .long (cd_L x), .long (cd_L y), .long (cd_L w), .int (cd_I hL), .int (cd_I hH), .long (cd_L lx), .long (cd_L ly), .long (cd_L lw), .long (cd_L gx), .long (cd_L gy), .long (cd_L gw), .int (cd_I rm), .long (cd_L bx), .long (cd_L by_), .long (cd_L bw), .int (cd_I ap), .int (cd_I aq)])), (o1, .inl (dA, 14, .inl (cd_c fa))), (o2, .inl (dA, 14, .inl (cd_c fb))), (o3, .inl (dA, 14, .inl (cd_c fc))), (o4, .inl (dA, 8, .inl (cd_n fl)))] H := hP
      have hD : va_D A [(o0, .inr (0, [.int (cd_I ((n : Nat) : Int)), .ref o1, .ref o2, .ref o3, .int (cd_I ((lv : Nat) : Int)), .ref o4, .long (cd_L x), .long (cd_L y), .long (cd_L w), .int (cd_I hL), .int (cd_I hH), .long (cd_L lx), .long (cd_L ly), .long (cd_L lw), .long (cd_L gx), .long (cd_L gy), .long (cd_L gw), .int (cd_I rm), .long (cd_L bx), .long (cd_L by_), .long (cd_L bw), .int (cd_I ap), .int (cd_I aq)])), (o1, .inl (dA, 14, .inl (cd_c fa))), (o2, .inl (dA, 14, .inl (cd_c fb))), (o3, .inl (dA, 14, .inl (cd_c fc))), (o4, .inl (dA, 8, .inl (cd_n fl)))] := hD
      refine lv_iload hx hb dX0_solve_42 (lv_at hl 0 rfl) ?_
      refine lv_aload_n hx hb dX0_solve_44 rfl (lv_at hl 1 rfl) ?_
      refine cd_get0 (v := .int (cd_I ((n : Nat) : Int))) hx hb hts hown hK hP 0 rfl 0 (by decide) q29 rfl rfl dX0_solve_45 ?_
      refine cd_icmp_ge (tgt := 90) hx hb ⟨by omega, by omega⟩ ⟨by omega, by omega⟩ dX0_solve_48 (by decide) (fun c_1 => ?_) (fun c_1 => ?_)
      · have hkn : k = n := by omega
        rw [hkn] at hopt hcor
        refine lv_iconst (v := cd_I 1) hx hb dX0_solve_90 rfl ?_
        exact W.zret (v := cd_I 1) hx hb hr rfl (fun t ht hW => ⟨⟨cd_I 1, (x, y, w, hL, hH, lx, ly, lw, gx, gy, gw), rfl, Or.inl ⟨rfl, hopt, hcor⟩, ⟨by rw [ht]; exact hP, hD⟩⟩, hS.F ht⟩) hS.2.2 dX0_solve_91
      · refine lv_iload hx hb dX0_solve_51 (lv_at hl 0 rfl) ?_
        refine lv_iload_n hx hb dX0_solve_53 rfl (lv_at hl 4 rfl) ?_
        refine cd_icmp_eq (tgt := 84) hx hb ⟨by omega, by omega⟩ ⟨by omega, by omega⟩ dX0_solve_54 (by decide) (fun c_2 => ?_) (fun c_2 => ?_)
        · refine cd_iinc (x := ((k : Nat) : Int)) (lv' := [(4, .int (cd_I (((k : Nat) : Int) + 1))), (0, .ref o0), (1, .int (cd_I pp)), (2, .int (cd_I qq)), (3, .int (cd_I wo))]) hx hb dX0_solve_84 hl (k := 0) rfl (by decide) rfl (fun ls hl => ?_)
          refine lv_goto (tgt := 42) hx hb dX0_solve_87 (by decide) ?_
          have hSS : cd_S (k + 1) wo = cd_S k wo := funext (fun i => propext (cd_S_skip (by omega) i))
          rw [← hSS] at hopt hcor
          exact ih (k + 1) x y w hL hH lx ly lw gx gy gw (by omega) (by omega) (by omega) hopt hcor H locs hP hD hS ls (lv_sub hl [0, 1, 2, 3, 4] rfl)
        · refine lv_aload_n hx hb dX0_solve_57 rfl (lv_at hl 1 rfl) ?_
          refine lv_iload hx hb dX0_solve_58 (lv_at hl 0 rfl) ?_
          have hkn : k < n := by omega
          obtain ⟨ha, hb1, hc1, -⟩ := hok.2.2.2.2.2 k hkn
          refine cd_call0i (va_runV (As := [.int (cd_I ((k : Nat) : Int))]) (rest := []) ⟨hx, hb, hml, hown, hts⟩ (xd_meets l dC dI dA o0 o1 o2 o3 o4 n lv fa fb fc fl x y w hL hH lx ly lw gx gy gw rm bx by_ bw ap aq k (by omega) ha hb1 hc1 hx1 hy1 hw1) (cwV 1 hts (lw_V q125 q127 qs1 q19 q128) rfl rfl rfl (by decide +kernel) ⟨Nat.le_of_ble_eq_true rfl, Nat.le_of_ble_eq_true rfl⟩) ⟨cd_bl0, va_recv hK hP (ci := 0) (q0 := 0) rfl rfl, cd_pr0 hP hK⟩ rfl rfl hl.1 rfl (lv_room (Nat.le_of_ble_eq_true rfl)) dX0_solve_60 ⟨Nat.le_of_ble_eq_true rfl, Nat.le_of_ble_eq_true rfl⟩) hP hS (fun r H locs hq hP hS => ?_)
          rcases hq with ⟨rfl, hsat⟩ | ⟨rfl, hsat⟩
          · refine cd_if_ne (tgt := 84) hx hb ⟨by decide, by decide⟩ dX0_solve_63 (by decide) (fun c_3 => ?_) (fun c_3 => absurd c_3 (by decide))
            refine cd_iinc (x := ((k : Nat) : Int)) (lv' := [(4, .int (cd_I (((k : Nat) : Int) + 1))), (0, .ref o0), (1, .int (cd_I pp)), (2, .int (cd_I qq)), (3, .int (cd_I wo))]) hx hb dX0_solve_84 hl (k := 0) rfl (by decide) rfl (fun ls hl => ?_)
            refine lv_goto (tgt := 42) hx hb dX0_solve_87 (by decide) ?_
            exact ih (k + 1) x y w hL hH lx ly lw gx gy gw (by omega) (by omega) (by omega) (cd_step_in (cd_S_add (by omega)) hopt hsat) (cd_corn_mono (fun i hi => ⟨by have := hi.1; omega, hi.2⟩) hcor) H locs hP hD hS ls (lv_sub hl [0, 1, 2, 3, 4] rfl)
          · refine cd_if_ne (tgt := 84) hx hb ⟨by decide, by decide⟩ dX0_solve_63 (by decide) (fun c_4 => absurd c_4 (by decide)) (fun c_4 => ?_)
            refine lv_aload_n hx hb dX0_solve_66 rfl (lv_at hl 1 rfl) ?_
            refine lv_iload hx hb dX0_solve_67 (lv_at hl 0 rfl) ?_
            refine lv_iload_n hx hb dX0_solve_69 rfl (lv_at hl 2 rfl) ?_
            refine lv_iload_n hx hb dX0_solve_70 rfl (lv_at hl 3 rfl) ?_
            refine lv_iload_n hx hb dX0_solve_71 rfl (lv_at hl 4 rfl) ?_
            refine cd_call1i (va_runV (As := [.int (cd_I ((k : Nat) : Int)), .int (cd_I pp), .int (cd_I qq), .int (cd_I wo)]) (rest := []) ⟨hx, hb, hml, hown, hts⟩ (xd_moveOnto l dC dI dA o0 o1 o2 o3 o4 n lv fa fb fc fl x y w hL hH lx ly lw gx gy gw rm bx by_ bw ap aq H.size k pp qq wo hok hk4 hkn hp9 hq9 hwo) (cwV 4 hts (lw_V q129 q131 qs2 q19 q132) rfl rfl rfl (by decide +kernel) ⟨Nat.le_of_ble_eq_true rfl, Nat.le_of_ble_eq_true rfl⟩) ⟨cd_bl1, va_recv hK hP (ci := 0) (q0 := 0) rfl rfl, cd_pr1 hP hK hD⟩ rfl rfl hl.1 rfl (lv_room (Nat.le_of_ble_eq_true rfl)) dX0_solve_72 ⟨Nat.le_of_ble_eq_true rfl, Nat.le_of_ble_eq_true rfl⟩) hD hS hA (fun r u H locs hq hP hD hS => ?_)
            obtain ⟨u1, u2, u3, u4, u5, u6, u7, u8, u9, u10, u11⟩ := u
            have hP : va_P (dC, dI) vwCl [(o0, .inr (0, [.int (cd_I ((n : Nat) : Int)), .ref o1, .ref o2, .ref o3, .int (cd_I ((lv : Nat) : Int)), .ref o4, .long (cd_L u1), .long (cd_L u2), .long (cd_L u3), .int (cd_I u4), .int (cd_I u5), .long (cd_L u6), .long (cd_L u7), .long (cd_L u8), .long (cd_L u9), .long (cd_L u10), .long (cd_L u11), .int (cd_I rm), .long (cd_L bx), .long (cd_L by_), .long (cd_L bw), .int (cd_I ap), .int (cd_I aq)])), (o1, .inl (dA, 14, .inl (cd_c fa))), (o2, .inl (dA, 14, .inl (cd_c fb))), (o3, .inl (dA, 14, .inl (cd_c fc))), (o4, .inl (dA, 8, .inl (cd_n fl)))] H := hP
            have hD : va_D A [(o0, .inr (0, [.int (cd_I ((n : Nat) : Int)), .ref o1, .ref o2, .ref o3, .int (cd_I ((lv : Nat) : Int)), .ref o4, .long (cd_L u1), .long (cd_L u2), .long (cd_L u3), .int (cd_I u4), .int (cd_I u5), .long (cd_L u6), .long (cd_L u7), .long (cd_L u8), .long (cd_L u9), .long (cd_L u10), .long (cd_L u11), .int (cd_I rm), .long (cd_L bx), .long (cd_L by_), .long (cd_L bw), .int (cd_I ap), .int (cd_I aq)])), (o1, .inl (dA, 14, .inl (cd_c fa))), (o2, .inl (dA, 14, .inl (cd_c fb))), (o3, .inl (dA, 14, .inl (cd_c fc))), (o4, .inl (dA, 8, .inl (cd_n fl)))] := hD
            have hq : (r = cd_I 1 ∧ cd_moved fa fb fc k (cd_S k wo) pp qq u1 u2 u3) ∨ (r = cd_I 0 ∧ cd_none fa fb fc k (cd_S k wo)) := hq
            rcases hq with ⟨rfl, hmv⟩ | ⟨rfl, hmv⟩
            · refine lv_istore (lv' := [(5, .int (cd_I 1)), (4, .int (cd_I ((k : Nat) : Int))), (0, .ref o0), (1, .int (cd_I pp)), (2, .int (cd_I qq)), (3, .int (cd_I wo))]) hx hb dX0_solve_75 hl (by decide) rfl (fun ls hl => ?_)
              refine lv_iload hx hb dX0_solve_77 (lv_at hl 0 rfl) ?_
              refine cd_if_ne (tgt := 84) hx hb ⟨by decide, by decide⟩ dX0_solve_79 (by decide) (fun c_5 => ?_) (fun c_5 => absurd c_5 (by decide))
              refine cd_iinc (x := ((k : Nat) : Int)) (lv' := [(4, .int (cd_I (((k : Nat) : Int) + 1))), (5, .int (cd_I 1)), (0, .ref o0), (1, .int (cd_I pp)), (2, .int (cd_I qq)), (3, .int (cd_I wo))]) hx hb dX0_solve_84 hl (k := 1) rfl (by decide) rfl (fun ls hl => ?_)
              refine lv_goto (tgt := 42) hx hb dX0_solve_87 (by decide) ?_
              have hnew := cd_step_yes (cd_S_add (wo := wo) (by omega)) hopt hsat hmv
              exact ih (k + 1) u1 u2 u3 u4 u5 u6 u7 u8 u9 u10 u11 (by omega) (by omega) (by omega) hnew.1 hnew.2 H locs hP hD hS ls (lv_sub hl [0, 2, 3, 4, 5] rfl)
            · refine lv_istore (lv' := [(5, .int (cd_I 0)), (4, .int (cd_I ((k : Nat) : Int))), (0, .ref o0), (1, .int (cd_I pp)), (2, .int (cd_I qq)), (3, .int (cd_I wo))]) hx hb dX0_solve_75 hl (by decide) rfl (fun ls hl => ?_)
              refine lv_iload hx hb dX0_solve_77 (lv_at hl 0 rfl) ?_
              refine cd_if_ne (tgt := 84) hx hb ⟨by decide, by decide⟩ dX0_solve_79 (by decide) (fun c_6 => absurd c_6 (by decide)) (fun c_6 => ?_)
              refine lv_iconst (v := cd_I 0) hx hb dX0_solve_82 rfl ?_
              exact W.zret (v := cd_I 0) hx hb hr rfl (fun t ht hW => ⟨⟨cd_I 0, (u1, u2, u3, u4, u5, u6, u7, u8, u9, u10, u11), rfl, Or.inr ⟨rfl, fun X Y W hF => cd_step_no (cd_S_add (wo := wo) (by omega)) hopt hsat hmv X Y W ⟨hF.1, fun i hi => hF.2 i ⟨by have := hi.1; omega, hi.2⟩⟩⟩, ⟨by rw [ht]; exact hP, hD⟩⟩, hS.F ht⟩) hS.2.2 dX0_solve_83
  refine lv_aload_n hx hb dX0_solve_0 rfl (lv_at hl 0 rfl) ?_
  refine lv_iload_n hx hb dX0_solve_1 rfl (lv_at hl 1 rfl) ?_
  refine cd_if_le (tgt := 11) hx hb (cd_bR32 hp9 (by decide)) dX0_solve_2 (by decide) (fun c_7 => ?_) (fun c_7 => ?_)
  · refine lv_ldc2 hx hb hown (hts _ q124) dX0_solve_11 ?_
    refine cd_isL (x := (-50)) (by decide) ?_
    refine cd_put0 (v := .long (cd_L (-50))) (ty := .long) hx hb hts hown hK hP hD hS 0 rfl 6 (by decide) q35 rfl rfl rfl rfl rfl (Nat.le_of_ble_eq_true rfl) dX0_solve_14 (fun H locs hP hD hS => ?_)
    have hP : va_P (dC, dI) vwCl [(o0, .inr (0, [.int (cd_I ((n : Nat) : Int)), .ref o1, .ref o2, .ref o3, .int (cd_I ((lv : Nat) : Int)), .ref o4, .long (cd_L (-50)), .long (cd_L y), .long (cd_L w), .int (cd_I hL), .int (cd_I hH), .long (cd_L lx), .long (cd_L ly), .long (cd_L lw), .long (cd_L gx), .long (cd_L gy), .long (cd_L gw), .int (cd_I rm), .long (cd_L bx), .long (cd_L by_), .long (cd_L bw), .int (cd_I ap), .int (cd_I aq)])), (o1, .inl (dA, 14, .inl (cd_c fa))), (o2, .inl (dA, 14, .inl (cd_c fb))), (o3, .inl (dA, 14, .inl (cd_c fc))), (o4, .inl (dA, 8, .inl (cd_n fl)))] H := hP
    have hD : va_D A [(o0, .inr (0, [.int (cd_I ((n : Nat) : Int)), .ref o1, .ref o2, .ref o3, .int (cd_I ((lv : Nat) : Int)), .ref o4, .long (cd_L (-50)), .long (cd_L y), .long (cd_L w), .int (cd_I hL), .int (cd_I hH), .long (cd_L lx), .long (cd_L ly), .long (cd_L lw), .long (cd_L gx), .long (cd_L gy), .long (cd_L gw), .int (cd_I rm), .long (cd_L bx), .long (cd_L by_), .long (cd_L bw), .int (cd_I ap), .int (cd_I aq)])), (o1, .inl (dA, 14, .inl (cd_c fa))), (o2, .inl (dA, 14, .inl (cd_c fb))), (o3, .inl (dA, 14, .inl (cd_c fc))), (o4, .inl (dA, 8, .inl (cd_n fl)))] := hD
    refine lv_aload_n hx hb dX0_solve_17 rfl (lv_at hl 0 rfl) ?_
    refine lv_iload_n hx hb dX0_solve_18 rfl (lv_at hl 2 rfl) ?_
    refine cd_if_le (tgt := 28) hx hb (cd_bR32 hq9 (by decide)) dX0_solve_19 (by decide) (fun c_8 => ?_) (fun c_8 => ?_)
    · refine lv_ldc2 hx hb hown (hts _ q124) dX0_solve_28 ?_
      refine cd_isL (x := (-50)) (by decide) ?_
      refine cd_put0 (v := .long (cd_L (-50))) (ty := .long) hx hb hts hown hK hP hD hS 0 rfl 7 (by decide) q36 rfl rfl rfl rfl rfl (Nat.le_of_ble_eq_true rfl) dX0_solve_31 (fun H locs hP hD hS => ?_)
      have hP : va_P (dC, dI) vwCl [(o0, .inr (0, [.int (cd_I ((n : Nat) : Int)), .ref o1, .ref o2, .ref o3, .int (cd_I ((lv : Nat) : Int)), .ref o4, .long (cd_L (-50)), .long (cd_L (-50)), .long (cd_L w), .int (cd_I hL), .int (cd_I hH), .long (cd_L lx), .long (cd_L ly), .long (cd_L lw), .long (cd_L gx), .long (cd_L gy), .long (cd_L gw), .int (cd_I rm), .long (cd_L bx), .long (cd_L by_), .long (cd_L bw), .int (cd_I ap), .int (cd_I aq)])), (o1, .inl (dA, 14, .inl (cd_c fa))), (o2, .inl (dA, 14, .inl (cd_c fb))), (o3, .inl (dA, 14, .inl (cd_c fc))), (o4, .inl (dA, 8, .inl (cd_n fl)))] H := hP
      have hD : va_D A [(o0, .inr (0, [.int (cd_I ((n : Nat) : Int)), .ref o1, .ref o2, .ref o3, .int (cd_I ((lv : Nat) : Int)), .ref o4, .long (cd_L (-50)), .long (cd_L (-50)), .long (cd_L w), .int (cd_I hL), .int (cd_I hH), .long (cd_L lx), .long (cd_L ly), .long (cd_L lw), .long (cd_L gx), .long (cd_L gy), .long (cd_L gw), .int (cd_I rm), .long (cd_L bx), .long (cd_L by_), .long (cd_L bw), .int (cd_I ap), .int (cd_I aq)])), (o1, .inl (dA, 14, .inl (cd_c fa))), (o2, .inl (dA, 14, .inl (cd_c fb))), (o3, .inl (dA, 14, .inl (cd_c fc))), (o4, .inl (dA, 8, .inl (cd_n fl)))] := hD
      refine lv_aload_n hx hb dX0_solve_34 rfl (lv_at hl 0 rfl) ?_
      refine lv_lconst (v := cd_L 1) hx hb dX0_solve_35 (by decide) ?_
      refine cd_put0 (v := .long (cd_L 1)) (ty := .long) hx hb hts hown hK hP hD hS 0 rfl 8 (by decide) q37 rfl rfl rfl rfl rfl (Nat.le_of_ble_eq_true rfl) dX0_solve_36 (fun H locs hP hD hS => ?_)
      have hP : va_P (dC, dI) vwCl [(o0, .inr (0, [.int (cd_I ((n : Nat) : Int)), .ref o1, .ref o2, .ref o3, .int (cd_I ((lv : Nat) : Int)), .ref o4, .long (cd_L (-50)), .long (cd_L (-50)), .long (cd_L 1), .int (cd_I hL), .int (cd_I hH), .long (cd_L lx), .long (cd_L ly), .long (cd_L lw), .long (cd_L gx), .long (cd_L gy), .long (cd_L gw), .int (cd_I rm), .long (cd_L bx), .long (cd_L by_), .long (cd_L bw), .int (cd_I ap), .int (cd_I aq)])), (o1, .inl (dA, 14, .inl (cd_c fa))), (o2, .inl (dA, 14, .inl (cd_c fb))), (o3, .inl (dA, 14, .inl (cd_c fc))), (o4, .inl (dA, 8, .inl (cd_n fl)))] H := hP
      have hD : va_D A [(o0, .inr (0, [.int (cd_I ((n : Nat) : Int)), .ref o1, .ref o2, .ref o3, .int (cd_I ((lv : Nat) : Int)), .ref o4, .long (cd_L (-50)), .long (cd_L (-50)), .long (cd_L 1), .int (cd_I hL), .int (cd_I hH), .long (cd_L lx), .long (cd_L ly), .long (cd_L lw), .long (cd_L gx), .long (cd_L gy), .long (cd_L gw), .int (cd_I rm), .long (cd_L bx), .long (cd_L by_), .long (cd_L bw), .int (cd_I ap), .int (cd_I aq)])), (o1, .inl (dA, 14, .inl (cd_c fa))), (o2, .inl (dA, 14, .inl (cd_c fb))), (o3, .inl (dA, 14, .inl (cd_c fc))), (o4, .inl (dA, 8, .inl (cd_n fl)))] := hD
      refine lv_iconst (v := cd_I 4) hx hb dX0_solve_39 rfl ?_
      refine lv_istore (lv' := [(4, .int (cd_I 4)), (0, .ref o0), (1, .int (cd_I pp)), (2, .int (cd_I qq)), (3, .int (cd_I wo))]) hx hb dX0_solve_40 hl (by decide) rfl (fun ls hl => ?_)
      have h0 := cd_init (wo := wo) (p := pp) (q := qq) (x := (-50)) (y := (-50)) hok (by omega) (by omega) (by omega)
      exact loop (n + 1) 4 (-50) (-50) 1 hL hH lx ly lw gx gy gw (by omega) (by omega) (by omega) h0.1 h0.2 H locs hP hD hS ls (lv_sub hl [0, 1, 2, 3, 4] rfl)
    · refine lv_ldc2 hx hb hown (hts _ q123) dX0_solve_22 ?_
      refine cd_isL (x := 50) (by decide) ?_
      refine lv_goto (tgt := 31) hx hb dX0_solve_25 (by decide) ?_
      refine cd_put0 (v := .long (cd_L 50)) (ty := .long) hx hb hts hown hK hP hD hS 0 rfl 7 (by decide) q36 rfl rfl rfl rfl rfl (Nat.le_of_ble_eq_true rfl) dX0_solve_31 (fun H locs hP hD hS => ?_)
      have hP : va_P (dC, dI) vwCl [(o0, .inr (0, [.int (cd_I ((n : Nat) : Int)), .ref o1, .ref o2, .ref o3, .int (cd_I ((lv : Nat) : Int)), .ref o4, .long (cd_L (-50)), .long (cd_L 50), .long (cd_L w), .int (cd_I hL), .int (cd_I hH), .long (cd_L lx), .long (cd_L ly), .long (cd_L lw), .long (cd_L gx), .long (cd_L gy), .long (cd_L gw), .int (cd_I rm), .long (cd_L bx), .long (cd_L by_), .long (cd_L bw), .int (cd_I ap), .int (cd_I aq)])), (o1, .inl (dA, 14, .inl (cd_c fa))), (o2, .inl (dA, 14, .inl (cd_c fb))), (o3, .inl (dA, 14, .inl (cd_c fc))), (o4, .inl (dA, 8, .inl (cd_n fl)))] H := hP
      have hD : va_D A [(o0, .inr (0, [.int (cd_I ((n : Nat) : Int)), .ref o1, .ref o2, .ref o3, .int (cd_I ((lv : Nat) : Int)), .ref o4, .long (cd_L (-50)), .long (cd_L 50), .long (cd_L w), .int (cd_I hL), .int (cd_I hH), .long (cd_L lx), .long (cd_L ly), .long (cd_L lw), .long (cd_L gx), .long (cd_L gy), .long (cd_L gw), .int (cd_I rm), .long (cd_L bx), .long (cd_L by_), .long (cd_L bw), .int (cd_I ap), .int (cd_I aq)])), (o1, .inl (dA, 14, .inl (cd_c fa))), (o2, .inl (dA, 14, .inl (cd_c fb))), (o3, .inl (dA, 14, .inl (cd_c fc))), (o4, .inl (dA, 8, .inl (cd_n fl)))] := hD
      refine lv_aload_n hx hb dX0_solve_34 rfl (lv_at hl 0 rfl) ?_
      refine lv_lconst (v := cd_L 1) hx hb dX0_solve_35 (by decide) ?_
      refine cd_put0 (v := .long (cd_L 1)) (ty := .long) hx hb hts hown hK hP hD hS 0 rfl 8 (by decide) q37 rfl rfl rfl rfl rfl (Nat.le_of_ble_eq_true rfl) dX0_solve_36 (fun H locs hP hD hS => ?_)
      have hP : va_P (dC, dI) vwCl [(o0, .inr (0, [.int (cd_I ((n : Nat) : Int)), .ref o1, .ref o2, .ref o3, .int (cd_I ((lv : Nat) : Int)), .ref o4, .long (cd_L (-50)), .long (cd_L 50), .long (cd_L 1), .int (cd_I hL), .int (cd_I hH), .long (cd_L lx), .long (cd_L ly), .long (cd_L lw), .long (cd_L gx), .long (cd_L gy), .long (cd_L gw), .int (cd_I rm), .long (cd_L bx), .long (cd_L by_), .long (cd_L bw), .int (cd_I ap), .int (cd_I aq)])), (o1, .inl (dA, 14, .inl (cd_c fa))), (o2, .inl (dA, 14, .inl (cd_c fb))), (o3, .inl (dA, 14, .inl (cd_c fc))), (o4, .inl (dA, 8, .inl (cd_n fl)))] H := hP
      have hD : va_D A [(o0, .inr (0, [.int (cd_I ((n : Nat) : Int)), .ref o1, .ref o2, .ref o3, .int (cd_I ((lv : Nat) : Int)), .ref o4, .long (cd_L (-50)), .long (cd_L 50), .long (cd_L 1), .int (cd_I hL), .int (cd_I hH), .long (cd_L lx), .long (cd_L ly), .long (cd_L lw), .long (cd_L gx), .long (cd_L gy), .long (cd_L gw), .int (cd_I rm), .long (cd_L bx), .long (cd_L by_), .long (cd_L bw), .int (cd_I ap), .int (cd_I aq)])), (o1, .inl (dA, 14, .inl (cd_c fa))), (o2, .inl (dA, 14, .inl (cd_c fb))), (o3, .inl (dA, 14, .inl (cd_c fc))), (o4, .inl (dA, 8, .inl (cd_n fl)))] := hD
      refine lv_iconst (v := cd_I 4) hx hb dX0_solve_39 rfl ?_
      refine lv_istore (lv' := [(4, .int (cd_I 4)), (0, .ref o0), (1, .int (cd_I pp)), (2, .int (cd_I qq)), (3, .int (cd_I wo))]) hx hb dX0_solve_40 hl (by decide) rfl (fun ls hl => ?_)
      have h0 := cd_init (wo := wo) (p := pp) (q := qq) (x := (-50)) (y := 50) hok (by omega) (by omega) (by omega)
      exact loop (n + 1) 4 (-50) 50 1 hL hH lx ly lw gx gy gw (by omega) (by omega) (by omega) h0.1 h0.2 H locs hP hD hS ls (lv_sub hl [0, 1, 2, 3, 4] rfl)
  · refine lv_ldc2 hx hb hown (hts _ q123) dX0_solve_5 ?_
    refine cd_isL (x := 50) (by decide) ?_
    refine lv_goto (tgt := 14) hx hb dX0_solve_8 (by decide) ?_
    refine cd_put0 (v := .long (cd_L 50)) (ty := .long) hx hb hts hown hK hP hD hS 0 rfl 6 (by decide) q35 rfl rfl rfl rfl rfl (Nat.le_of_ble_eq_true rfl) dX0_solve_14 (fun H locs hP hD hS => ?_)
    have hP : va_P (dC, dI) vwCl [(o0, .inr (0, [.int (cd_I ((n : Nat) : Int)), .ref o1, .ref o2, .ref o3, .int (cd_I ((lv : Nat) : Int)), .ref o4, .long (cd_L 50), .long (cd_L y), .long (cd_L w), .int (cd_I hL), .int (cd_I hH), .long (cd_L lx), .long (cd_L ly), .long (cd_L lw), .long (cd_L gx), .long (cd_L gy), .long (cd_L gw), .int (cd_I rm), .long (cd_L bx), .long (cd_L by_), .long (cd_L bw), .int (cd_I ap), .int (cd_I aq)])), (o1, .inl (dA, 14, .inl (cd_c fa))), (o2, .inl (dA, 14, .inl (cd_c fb))), (o3, .inl (dA, 14, .inl (cd_c fc))), (o4, .inl (dA, 8, .inl (cd_n fl)))] H := hP
    have hD : va_D A [(o0, .inr (0, [.int (cd_I ((n : Nat) : Int)), .ref o1, .ref o2, .ref o3, .int (cd_I ((lv : Nat) : Int)), .ref o4, .long (cd_L 50), .long (cd_L y), .long (cd_L w), .int (cd_I hL), .int (cd_I hH), .long (cd_L lx), .long (cd_L ly), .long (cd_L lw), .long (cd_L gx), .long (cd_L gy), .long (cd_L gw), .int (cd_I rm), .long (cd_L bx), .long (cd_L by_), .long (cd_L bw), .int (cd_I ap), .int (cd_I aq)])), (o1, .inl (dA, 14, .inl (cd_c fa))), (o2, .inl (dA, 14, .inl (cd_c fb))), (o3, .inl (dA, 14, .inl (cd_c fc))), (o4, .inl (dA, 8, .inl (cd_n fl)))] := hD
    refine lv_aload_n hx hb dX0_solve_17 rfl (lv_at hl 0 rfl) ?_
    refine lv_iload_n hx hb dX0_solve_18 rfl (lv_at hl 2 rfl) ?_
    refine cd_if_le (tgt := 28) hx hb (cd_bR32 hq9 (by decide)) dX0_solve_19 (by decide) (fun c_9 => ?_) (fun c_9 => ?_)
    · refine lv_ldc2 hx hb hown (hts _ q124) dX0_solve_28 ?_
      refine cd_isL (x := (-50)) (by decide) ?_
      refine cd_put0 (v := .long (cd_L (-50))) (ty := .long) hx hb hts hown hK hP hD hS 0 rfl 7 (by decide) q36 rfl rfl rfl rfl rfl (Nat.le_of_ble_eq_true rfl) dX0_solve_31 (fun H locs hP hD hS => ?_)
      have hP : va_P (dC, dI) vwCl [(o0, .inr (0, [.int (cd_I ((n : Nat) : Int)), .ref o1, .ref o2, .ref o3, .int (cd_I ((lv : Nat) : Int)), .ref o4, .long (cd_L 50), .long (cd_L (-50)), .long (cd_L w), .int (cd_I hL), .int (cd_I hH), .long (cd_L lx), .long (cd_L ly), .long (cd_L lw), .long (cd_L gx), .long (cd_L gy), .long (cd_L gw), .int (cd_I rm), .long (cd_L bx), .long (cd_L by_), .long (cd_L bw), .int (cd_I ap), .int (cd_I aq)])), (o1, .inl (dA, 14, .inl (cd_c fa))), (o2, .inl (dA, 14, .inl (cd_c fb))), (o3, .inl (dA, 14, .inl (cd_c fc))), (o4, .inl (dA, 8, .inl (cd_n fl)))] H := hP
      have hD : va_D A [(o0, .inr (0, [.int (cd_I ((n : Nat) : Int)), .ref o1, .ref o2, .ref o3, .int (cd_I ((lv : Nat) : Int)), .ref o4, .long (cd_L 50), .long (cd_L (-50)), .long (cd_L w), .int (cd_I hL), .int (cd_I hH), .long (cd_L lx), .long (cd_L ly), .long (cd_L lw), .long (cd_L gx), .long (cd_L gy), .long (cd_L gw), .int (cd_I rm), .long (cd_L bx), .long (cd_L by_), .long (cd_L bw), .int (cd_I ap), .int (cd_I aq)])), (o1, .inl (dA, 14, .inl (cd_c fa))), (o2, .inl (dA, 14, .inl (cd_c fb))), (o3, .inl (dA, 14, .inl (cd_c fc))), (o4, .inl (dA, 8, .inl (cd_n fl)))] := hD
      refine lv_aload_n hx hb dX0_solve_34 rfl (lv_at hl 0 rfl) ?_
      refine lv_lconst (v := cd_L 1) hx hb dX0_solve_35 (by decide) ?_
      refine cd_put0 (v := .long (cd_L 1)) (ty := .long) hx hb hts hown hK hP hD hS 0 rfl 8 (by decide) q37 rfl rfl rfl rfl rfl (Nat.le_of_ble_eq_true rfl) dX0_solve_36 (fun H locs hP hD hS => ?_)
      have hP : va_P (dC, dI) vwCl [(o0, .inr (0, [.int (cd_I ((n : Nat) : Int)), .ref o1, .ref o2, .ref o3, .int (cd_I ((lv : Nat) : Int)), .ref o4, .long (cd_L 50), .long (cd_L (-50)), .long (cd_L 1), .int (cd_I hL), .int (cd_I hH), .long (cd_L lx), .long (cd_L ly), .long (cd_L lw), .long (cd_L gx), .long (cd_L gy), .long (cd_L gw), .int (cd_I rm), .long (cd_L bx), .long (cd_L by_), .long (cd_L bw), .int (cd_I ap), .int (cd_I aq)])), (o1, .inl (dA, 14, .inl (cd_c fa))), (o2, .inl (dA, 14, .inl (cd_c fb))), (o3, .inl (dA, 14, .inl (cd_c fc))), (o4, .inl (dA, 8, .inl (cd_n fl)))] H := hP
      have hD : va_D A [(o0, .inr (0, [.int (cd_I ((n : Nat) : Int)), .ref o1, .ref o2, .ref o3, .int (cd_I ((lv : Nat) : Int)), .ref o4, .long (cd_L 50), .long (cd_L (-50)), .long (cd_L 1), .int (cd_I hL), .int (cd_I hH), .long (cd_L lx), .long (cd_L ly), .long (cd_L lw), .long (cd_L gx), .long (cd_L gy), .long (cd_L gw), .int (cd_I rm), .long (cd_L bx), .long (cd_L by_), .long (cd_L bw), .int (cd_I ap), .int (cd_I aq)])), (o1, .inl (dA, 14, .inl (cd_c fa))), (o2, .inl (dA, 14, .inl (cd_c fb))), (o3, .inl (dA, 14, .inl (cd_c fc))), (o4, .inl (dA, 8, .inl (cd_n fl)))] := hD
      refine lv_iconst (v := cd_I 4) hx hb dX0_solve_39 rfl ?_
      refine lv_istore (lv' := [(4, .int (cd_I 4)), (0, .ref o0), (1, .int (cd_I pp)), (2, .int (cd_I qq)), (3, .int (cd_I wo))]) hx hb dX0_solve_40 hl (by decide) rfl (fun ls hl => ?_)
      have h0 := cd_init (wo := wo) (p := pp) (q := qq) (x := 50) (y := (-50)) hok (by omega) (by omega) (by omega)
      exact loop (n + 1) 4 50 (-50) 1 hL hH lx ly lw gx gy gw (by omega) (by omega) (by omega) h0.1 h0.2 H locs hP hD hS ls (lv_sub hl [0, 1, 2, 3, 4] rfl)
    · refine lv_ldc2 hx hb hown (hts _ q123) dX0_solve_22 ?_
      refine cd_isL (x := 50) (by decide) ?_
      refine lv_goto (tgt := 31) hx hb dX0_solve_25 (by decide) ?_
      refine cd_put0 (v := .long (cd_L 50)) (ty := .long) hx hb hts hown hK hP hD hS 0 rfl 7 (by decide) q36 rfl rfl rfl rfl rfl (Nat.le_of_ble_eq_true rfl) dX0_solve_31 (fun H locs hP hD hS => ?_)
      have hP : va_P (dC, dI) vwCl [(o0, .inr (0, [.int (cd_I ((n : Nat) : Int)), .ref o1, .ref o2, .ref o3, .int (cd_I ((lv : Nat) : Int)), .ref o4, .long (cd_L 50), .long (cd_L 50), .long (cd_L w), .int (cd_I hL), .int (cd_I hH), .long (cd_L lx), .long (cd_L ly), .long (cd_L lw), .long (cd_L gx), .long (cd_L gy), .long (cd_L gw), .int (cd_I rm), .long (cd_L bx), .long (cd_L by_), .long (cd_L bw), .int (cd_I ap), .int (cd_I aq)])), (o1, .inl (dA, 14, .inl (cd_c fa))), (o2, .inl (dA, 14, .inl (cd_c fb))), (o3, .inl (dA, 14, .inl (cd_c fc))), (o4, .inl (dA, 8, .inl (cd_n fl)))] H := hP
      have hD : va_D A [(o0, .inr (0, [.int (cd_I ((n : Nat) : Int)), .ref o1, .ref o2, .ref o3, .int (cd_I ((lv : Nat) : Int)), .ref o4, .long (cd_L 50), .long (cd_L 50), .long (cd_L w), .int (cd_I hL), .int (cd_I hH), .long (cd_L lx), .long (cd_L ly), .long (cd_L lw), .long (cd_L gx), .long (cd_L gy), .long (cd_L gw), .int (cd_I rm), .long (cd_L bx), .long (cd_L by_), .long (cd_L bw), .int (cd_I ap), .int (cd_I aq)])), (o1, .inl (dA, 14, .inl (cd_c fa))), (o2, .inl (dA, 14, .inl (cd_c fb))), (o3, .inl (dA, 14, .inl (cd_c fc))), (o4, .inl (dA, 8, .inl (cd_n fl)))] := hD
      refine lv_aload_n hx hb dX0_solve_34 rfl (lv_at hl 0 rfl) ?_
      refine lv_lconst (v := cd_L 1) hx hb dX0_solve_35 (by decide) ?_
      refine cd_put0 (v := .long (cd_L 1)) (ty := .long) hx hb hts hown hK hP hD hS 0 rfl 8 (by decide) q37 rfl rfl rfl rfl rfl (Nat.le_of_ble_eq_true rfl) dX0_solve_36 (fun H locs hP hD hS => ?_)
      have hP : va_P (dC, dI) vwCl [(o0, .inr (0, [.int (cd_I ((n : Nat) : Int)), .ref o1, .ref o2, .ref o3, .int (cd_I ((lv : Nat) : Int)), .ref o4, .long (cd_L 50), .long (cd_L 50), .long (cd_L 1), .int (cd_I hL), .int (cd_I hH), .long (cd_L lx), .long (cd_L ly), .long (cd_L lw), .long (cd_L gx), .long (cd_L gy), .long (cd_L gw), .int (cd_I rm), .long (cd_L bx), .long (cd_L by_), .long (cd_L bw), .int (cd_I ap), .int (cd_I aq)])), (o1, .inl (dA, 14, .inl (cd_c fa))), (o2, .inl (dA, 14, .inl (cd_c fb))), (o3, .inl (dA, 14, .inl (cd_c fc))), (o4, .inl (dA, 8, .inl (cd_n fl)))] H := hP
      have hD : va_D A [(o0, .inr (0, [.int (cd_I ((n : Nat) : Int)), .ref o1, .ref o2, .ref o3, .int (cd_I ((lv : Nat) : Int)), .ref o4, .long (cd_L 50), .long (cd_L 50), .long (cd_L 1), .int (cd_I hL), .int (cd_I hH), .long (cd_L lx), .long (cd_L ly), .long (cd_L lw), .long (cd_L gx), .long (cd_L gy), .long (cd_L gw), .int (cd_I rm), .long (cd_L bx), .long (cd_L by_), .long (cd_L bw), .int (cd_I ap), .int (cd_I aq)])), (o1, .inl (dA, 14, .inl (cd_c fa))), (o2, .inl (dA, 14, .inl (cd_c fb))), (o3, .inl (dA, 14, .inl (cd_c fc))), (o4, .inl (dA, 8, .inl (cd_n fl)))] := hD
      refine lv_iconst (v := cd_I 4) hx hb dX0_solve_39 rfl ?_
      refine lv_istore (lv' := [(4, .int (cd_I 4)), (0, .ref o0), (1, .int (cd_I pp)), (2, .int (cd_I qq)), (3, .int (cd_I wo))]) hx hb dX0_solve_40 hl (by decide) rfl (fun ls hl => ?_)
      have h0 := cd_init (wo := wo) (p := pp) (q := qq) (x := 50) (y := 50) hok (by omega) (by omega) (by omega)
      exact loop (n + 1) 4 50 50 1 hL hH lx ly lw gx gy gw (by omega) (by omega) (by omega) h0.1 h0.2 H locs hP hD hS ls (lv_sub hl [0, 1, 2, 3, 4] rfl)
end
section
/-! CornerDesk: its public methods -/
def cd_up (z bx by_ ap aq : Int) : Int := if z = 1 then bx else if z = 2 then by_ else ap * bx + aq * by_
theorem cd_up_b {z bx by_ ap aq : Int} (h1 : cd_b 1782 bx) (h2 : cd_b 1782 by_) (h3 : cd_b 9 ap) (h4 : cd_b 9 aq) : cd_b 32076 (cd_up z bx by_ ap aq) := by
  unfold cd_up
  split
  · exact cd_bW h1 (by decide)
  · split
    · exact cd_bW h2 (by decide)
    · exact cd_bA (cd_bM h3 h1) (cd_bM h4 h2)
theorem cd_gcd_b {z d : Int} (hd : cd_b 162 d) (h0 : 0 < d) : 0 < ((Nat.gcd z.natAbs d.natAbs : Nat) : Int) ∧ ((Nat.gcd z.natAbs d.natAbs : Nat) : Int) ≤ 162 := by
  have h1 : 0 < d.natAbs := by omega
  have h2 : 0 < Nat.gcd z.natAbs d.natAbs := Nat.gcd_pos_of_pos_right _ h1
  have h3 : Nat.gcd z.natAbs d.natAbs ≤ d.natAbs := Nat.gcd_le_right _ h1
  obtain ⟨h4, h5⟩ := hd
  omega
/-- how many of the first i numbers have a property -/
noncomputable def cd_cnt (P : Nat → Prop) : Nat → Nat
  | 0 => 0
  | i + 1 => cd_cnt P i + @ite Nat (P i) (Classical.propDecidable (P i)) 1 0
theorem cd_cnt_y {P : Nat → Prop} {i : Nat} (h : P i) : cd_cnt P (i + 1) = cd_cnt P i + 1 := by
  show cd_cnt P i + @ite Nat (P i) (Classical.propDecidable (P i)) 1 0 = _
  rw [if_pos h]
theorem cd_cnt_n {P : Nat → Prop} {i : Nat} (h : ¬ P i) : cd_cnt P (i + 1) = cd_cnt P i := by
  show cd_cnt P i + @ite Nat (P i) (Classical.propDecidable (P i)) 1 0 = _
  rw [if_neg h]
  rfl
theorem cd_cnt_le (P : Nat → Prop) (i : Nat) : cd_cnt P i ≤ i := by
  induction i with
  | zero => exact Nat.le_refl 0
  | succ i ih =>
    by_cases h : P i
    · rw [cd_cnt_y h]
      omega
    · rw [cd_cnt_n h]
      omega
theorem cd_cnt_eq {P P' : Nat → Prop} {i : Nat} (h : ∀ j, j < i → (P j ↔ P' j)) : cd_cnt P i = cd_cnt P' i := by
  induction i with
  | zero => rfl
  | succ i ih =>
    have e := ih (fun j hj => h j (by omega))
    by_cases hp : P i
    · rw [cd_cnt_y hp, cd_cnt_y ((h i (by omega)).mp hp), e]
    · rw [cd_cnt_n hp, cd_cnt_n (fun q => hp ((h i (by omega)).mpr q)), e]
/-- the condition k is spare among the n: every point that meets the others meets it -/
def cd_spare (a b c : Nat → Int) (n k : Nat) : Prop := ∀ X Y W : Int, cd_feas a b c (cd_S n (k : Int)) X Y W → cd_sat (a k) (b k) (c k) X Y W
def cd_has (a b c : Nat → Int) (n k : Nat) : Prop := (∀ X Y W : Int, ¬ cd_feas a b c (cd_S n (k : Int)) X Y W) ∨ ∃ X Y W : Int, cd_opt a b c (cd_S n (k : Int)) (a k) (b k) X Y W ∧ cd_corn a b c (cd_S n (k : Int)) X Y W
theorem cd_spare_y {a b c : Nat → Int} {n k : Nat} {x y w : Int} (ho : cd_opt a b c (cd_S n (k : Int)) (a k) (b k) x y w) (hs : cd_sat (a k) (b k) (c k) x y w) : cd_spare a b c n k := by
  intro X Y W hF
  have h1 := ho.2 X Y W hF
  have hw := ho.1.1
  have hW := hF.1
  unfold cd_sat at hs ⊢
  have h2 : (a k * X + b k * Y) * w ≤ (a k * x + b k * y) * W := by
    rcases Int.lt_or_le ((a k * x + b k * y) * W) ((a k * X + b k * Y) * w) with q | q
    · exact absurd (Or.inl q) h1
    · exact q
  have h3 : (a k * x + b k * y) * W ≤ (c k * w) * W := Int.mul_le_mul_of_nonneg_right hs (Int.le_of_lt hW)
  have h4 : (c k * w) * W = w * (c k * W) := by grind
  have h5 : (a k * X + b k * Y) * w = w * (a k * X + b k * Y) := Int.mul_comm _ _
  exact Int.le_of_mul_le_mul_left (a := w) (by omega) hw
def cd_fa0 : Nat → Int := cd_u (cd_u (fun _ => 0) 0 1) 1 (-1)
def cd_fb0 : Nat → Int := cd_u (cd_u (fun _ => 0) 2 1) 3 (-1)
def cd_fc0 : Nat → Int := cd_u (cd_u (cd_u (cd_u (fun _ => 0) 0 50) 1 50) 2 50) 3 50
def cd_fl0 : Nat → Nat := cd_un (fun _ => 0) 0 4
set_option maxHeartbeats 4000000 in
set_option maxRecDepth 100000 in
/-- the constructor: four new arrays, the frame's four conditions -/
theorem xd_init (l : Launch) (dC : Nat → ClassId) (dI : Nat → Nat → Nat) (dA : ClassId) (o0 sz : Nat) : Met l yX0_init (ws_ yX0_init cX0_init 2 none) ({ frames := 1, cells := 4, slots := 50, locals := 12 }) (va_Pc [.ref o0] (cd_W1 (dC, dI) vwCl [(dA, .int)] [(o0, .inr (0, [.int (cd_I 0), .null, .null, .null, .int (cd_I 0), .null, .long (cd_L 0), .long (cd_L 0), .long (cd_L 0), .int (cd_I 0), .int (cd_I 0), .long (cd_L 0), .long (cd_L 0), .long (cd_L 0), .long (cd_L 0), .long (cd_L 0), .long (cd_L 0), .int (cd_I 0), .long (cd_L 0), .long (cd_L 0), .long (cd_L 0), .int (cd_I 0), .int (cd_I 0)]))] sz)) (va_Qv (fun (u : Nat × Nat × Nat × Nat) => True) (cd_B (dC, dI) vwCl (va_A [(o0, .inr (0, [.int (cd_I 0), .null, .null, .null, .int (cd_I 0), .null, .long (cd_L 0), .long (cd_L 0), .long (cd_L 0), .int (cd_I 0), .int (cd_I 0), .long (cd_L 0), .long (cd_L 0), .long (cd_L 0), .long (cd_L 0), .long (cd_L 0), .long (cd_L 0), .int (cd_I 0), .long (cd_L 0), .long (cd_L 0), .long (cd_L 0), .int (cd_I 0), .int (cd_I 0)]))] sz) (fun u : Nat × Nat × Nat × Nat => cd_D dA o0 u.1 u.2.1 u.2.2.1 u.2.2.2 4 1 cd_fa0 cd_fb0 cd_fc0 cd_fl0 0 0 0 0 0 0 0 0 0 0 0 0 0 0 0 0 0)) (va_A [(o0, .inr (0, [.int (cd_I 0), .null, .null, .null, .int (cd_I 0), .null, .long (cd_L 0), .long (cd_L 0), .long (cd_L 0), .int (cd_I 0), .int (cd_I 0), .long (cd_L 0), .long (cd_L 0), .long (cd_L 0), .long (cd_L 0), .long (cd_L 0), .long (cd_L 0), .int (cd_I 0), .long (cd_L 0), .long (cd_L 0), .long (cd_L 0), .int (cd_I 0), .int (cd_I 0)]))] sz)) 4 50 (va_A [(o0, .inr (0, [.int (cd_I 0), .null, .null, .null, .int (cd_I 0), .null, .long (cd_L 0), .long (cd_L 0), .long (cd_L 0), .int (cd_I 0), .int (cd_I 0), .long (cd_L 0), .long (cd_L 0), .long (cd_L 0), .long (cd_L 0), .long (cd_L 0), .long (cd_L 0), .int (cd_I 0), .long (cd_L 0), .long (cd_L 0), .long (cd_L 0), .int (cd_I 0), .int (cd_I 0)]))] sz) := by
  refine Met.ofW (cc := cX0_init) (maxL := 2) (ret := none) (by decide) rfl ?_
  intro p e s m args below meth c s₁ B hml hv
  obtain ⟨rfl, hsz, hP, hK, hD0⟩ := hv
  have hx := B.exec
  have hb := B.bytes
  have hr := B.returns
  have hts := atoms_spec (ws := (ws_ yX0_init cX0_init 2 none)) B.pre
  have hts : ∀ w ∈ lw_all, w.before _ s = true := fun w h => hts w (List.mem_cons_of_mem _ h)
  have hown : s.vm.findClass RX0 = some m.cls := findClass_of_methodNamed B.named
  have hlocks := B.notSynchronized
  have hini : meth.name = "<init>" := (name_of_methodNamed B.named B.method).1
  subst hsz
  have hD := hD0.self (sz := s.heap.size)
  generalize hAe : va_A [(o0, .inr (0, [.int (cd_I 0), .null, .null, .null, .int (cd_I 0), .null, .long (cd_L 0), .long (cd_L 0), .long (cd_L 0), .int (cd_I 0), .int (cd_I 0), .long (cd_L 0), .long (cd_L 0), .long (cd_L 0), .long (cd_L 0), .long (cd_L 0), .long (cd_L 0), .int (cd_I 0), .long (cd_L 0), .long (cd_L 0), .long (cd_L 0), .int (cd_I 0), .int (cd_I 0)]))] s.heap.size = A at hD ⊢
  have hA : ∀ q : Nat, s.heap.size ≤ q → A q := fun q h => by rw [← hAe]; exact Or.inr h
  have hS : va_S A s.heap s.heap [] := va_S.rf
  have hl := lv_entry ([.ref o0]) (n := 2) (Nat.le_of_ble_eq_true rfl)
  rw [lg_entry_eq]
  generalize (lg_sl ([.ref o0]) ++ List.replicate (2 - (lg_sl ([.ref o0])).length) Slot.unset).toArray = ls at hl ⊢
  have hl : lv_has ls 2 [(0, .ref o0)] := hl
  have hP : va_P (dC, dI) vwCl [(o0, .inr (0, [.int (cd_I 0), .null, .null, .null, .int (cd_I 0), .null, .long (cd_L 0), .long (cd_L 0), .long (cd_L 0), .int (cd_I 0), .int (cd_I 0), .long (cd_L 0), .long (cd_L 0), .long (cd_L 0), .long (cd_L 0), .long (cd_L 0), .long (cd_L 0), .int (cd_I 0), .long (cd_L 0), .long (cd_L 0), .long (cd_L 0), .int (cd_I 0), .int (cd_I 0)]))] s.heap := hP
  have hD : va_D A [(o0, .inr (0, [.int (cd_I 0), .null, .null, .null, .int (cd_I 0), .null, .long (cd_L 0), .long (cd_L 0), .long (cd_L 0), .int (cd_I 0), .int (cd_I 0), .long (cd_L 0), .long (cd_L 0), .long (cd_L 0), .long (cd_L 0), .long (cd_L 0), .long (cd_L 0), .int (cd_I 0), .long (cd_L 0), .long (cd_L 0), .long (cd_L 0), .int (cd_I 0), .int (cd_I 0)]))] := hD
  refine lv_aload_n hx hb dX0_init_0 rfl (lv_at hl 0 rfl) ?_
  refine W.objInit hx hb hown (hts _ q26) (hts _ q27) (hts _ q28) rfl (by rw [hml]; exact hl.1) rfl dX0_init_1 (Nat.le_of_ble_eq_true rfl) (Nat.le_of_ble_eq_true rfl) ?_
  refine W.eq (g2 := F0 m 4 ls []) rfl ?_
  refine lv_aload_n hx hb dX0_init_4 rfl (lv_at hl 0 rfl) ?_
  refine lv_bipush (v := cd_I 14) hx hb dX0_init_5 (by decide) ?_
  refine va_newa (atype := .int) (a0 := (14, .inl (cd_c (fun _ => 0)))) (N' := 14) (ty := .int) hx hb (hts _ q99) rfl hK hP hD hS hA (fun cA => by rw [← cd_c0]; rfl) (by decide) (by decide) (by decide) (Nat.le_of_ble_eq_true rfl) (Nat.le_of_ble_eq_true rfl) dX0_init_7 (fun q1 cA H hK hP hD hS => ?_)
  have eA : dA = cA := Option.some.inj ((hK.2 0 _ rfl).2.symm.trans (hK.2 1 _ rfl).2)
  subst eA
  have hK : va_K (dC, dI) vwCl [(dA, .int)] s := hK.sub [0] rfl
  have hP : va_P (dC, dI) vwCl [(o0, .inr (0, [.int (cd_I 0), .null, .null, .null, .int (cd_I 0), .null, .long (cd_L 0), .long (cd_L 0), .long (cd_L 0), .int (cd_I 0), .int (cd_I 0), .long (cd_L 0), .long (cd_L 0), .long (cd_L 0), .long (cd_L 0), .long (cd_L 0), .long (cd_L 0), .int (cd_I 0), .long (cd_L 0), .long (cd_L 0), .long (cd_L 0), .int (cd_I 0), .int (cd_I 0)])), (q1, .inl (dA, 14, .inl (cd_c (fun _ => 0))))] H := hP
  have hD : va_D A [(o0, .inr (0, [.int (cd_I 0), .null, .null, .null, .int (cd_I 0), .null, .long (cd_L 0), .long (cd_L 0), .long (cd_L 0), .int (cd_I 0), .int (cd_I 0), .long (cd_L 0), .long (cd_L 0), .long (cd_L 0), .long (cd_L 0), .long (cd_L 0), .long (cd_L 0), .int (cd_I 0), .long (cd_L 0), .long (cd_L 0), .long (cd_L 0), .int (cd_I 0), .int (cd_I 0)])), (q1, .inl (dA, 14, .inl (cd_c (fun _ => 0))))] := hD
  refine cd_putF0 (v := .ref q1) (ty := .array .int) hx hb hts hown hK hP hD hS 0 rfl 1 (by decide) q30 rfl rfl hini rfl rfl rfl (Nat.le_of_ble_eq_true rfl) dX0_init_9 (fun H locs hP hD hS => ?_)
  have hP : va_P (dC, dI) vwCl [(o0, .inr (0, [.int (cd_I 0), .ref q1, .null, .null, .int (cd_I 0), .null, .long (cd_L 0), .long (cd_L 0), .long (cd_L 0), .int (cd_I 0), .int (cd_I 0), .long (cd_L 0), .long (cd_L 0), .long (cd_L 0), .long (cd_L 0), .long (cd_L 0), .long (cd_L 0), .int (cd_I 0), .long (cd_L 0), .long (cd_L 0), .long (cd_L 0), .int (cd_I 0), .int (cd_I 0)])), (q1, .inl (dA, 14, .inl (cd_c (fun _ => 0))))] H := hP
  have hD : va_D A [(o0, .inr (0, [.int (cd_I 0), .ref q1, .null, .null, .int (cd_I 0), .null, .long (cd_L 0), .long (cd_L 0), .long (cd_L 0), .int (cd_I 0), .int (cd_I 0), .long (cd_L 0), .long (cd_L 0), .long (cd_L 0), .long (cd_L 0), .long (cd_L 0), .long (cd_L 0), .int (cd_I 0), .long (cd_L 0), .long (cd_L 0), .long (cd_L 0), .int (cd_I 0), .int (cd_I 0)])), (q1, .inl (dA, 14, .inl (cd_c (fun _ => 0))))] := hD
  refine lv_aload_n hx hb dX0_init_12 rfl (lv_at hl 0 rfl) ?_
  refine lv_bipush (v := cd_I 14) hx hb dX0_init_13 (by decide) ?_
  refine va_newa (atype := .int) (a0 := (14, .inl (cd_c (fun _ => 0)))) (N' := 14) (ty := .int) hx hb (hts _ q99) rfl hK hP hD hS hA (fun cA => by rw [← cd_c0]; rfl) (by decide) (by decide) (by decide) (Nat.le_of_ble_eq_true rfl) (Nat.le_of_ble_eq_true rfl) dX0_init_15 (fun q2 cA H hK hP hD hS => ?_)
  have eA : dA = cA := Option.some.inj ((hK.2 0 _ rfl).2.symm.trans (hK.2 1 _ rfl).2)
  subst eA
  have hK : va_K (dC, dI) vwCl [(dA, .int)] s := hK.sub [0] rfl
  have hP : va_P (dC, dI) vwCl [(o0, .inr (0, [.int (cd_I 0), .ref q1, .null, .null, .int (cd_I 0), .null, .long (cd_L 0), .long (cd_L 0), .long (cd_L 0), .int (cd_I 0), .int (cd_I 0), .long (cd_L 0), .long (cd_L 0), .long (cd_L 0), .long (cd_L 0), .long (cd_L 0), .long (cd_L 0), .int (cd_I 0), .long (cd_L 0), .long (cd_L 0), .long (cd_L 0), .int (cd_I 0), .int (cd_I 0)])), (q1, .inl (dA, 14, .inl (cd_c (fun _ => 0)))), (q2, .inl (dA, 14, .inl (cd_c (fun _ => 0))))] H := hP
  have hD : va_D A [(o0, .inr (0, [.int (cd_I 0), .ref q1, .null, .null, .int (cd_I 0), .null, .long (cd_L 0), .long (cd_L 0), .long (cd_L 0), .int (cd_I 0), .int (cd_I 0), .long (cd_L 0), .long (cd_L 0), .long (cd_L 0), .long (cd_L 0), .long (cd_L 0), .long (cd_L 0), .int (cd_I 0), .long (cd_L 0), .long (cd_L 0), .long (cd_L 0), .int (cd_I 0), .int (cd_I 0)])), (q1, .inl (dA, 14, .inl (cd_c (fun _ => 0)))), (q2, .inl (dA, 14, .inl (cd_c (fun _ => 0))))] := hD
  refine cd_putF0 (v := .ref q2) (ty := .array .int) hx hb hts hown hK hP hD hS 0 rfl 2 (by decide) q31 rfl rfl hini rfl rfl rfl (Nat.le_of_ble_eq_true rfl) dX0_init_17 (fun H locs hP hD hS => ?_)
  have hP : va_P (dC, dI) vwCl [(o0, .inr (0, [.int (cd_I 0), .ref q1, .ref q2, .null, .int (cd_I 0), .null, .long (cd_L 0), .long (cd_L 0), .long (cd_L 0), .int (cd_I 0), .int (cd_I 0), .long (cd_L 0), .long (cd_L 0), .long (cd_L 0), .long (cd_L 0), .long (cd_L 0), .long (cd_L 0), .int (cd_I 0), .long (cd_L 0), .long (cd_L 0), .long (cd_L 0), .int (cd_I 0), .int (cd_I 0)])), (q1, .inl (dA, 14, .inl (cd_c (fun _ => 0)))), (q2, .inl (dA, 14, .inl (cd_c (fun _ => 0))))] H := hP
  have hD : va_D A [(o0, .inr (0, [.int (cd_I 0), .ref q1, .ref q2, .null, .int (cd_I 0), .null, .long (cd_L 0), .long (cd_L 0), .long (cd_L 0), .int (cd_I 0), .int (cd_I 0), .long (cd_L 0), .long (cd_L 0), .long (cd_L 0), .long (cd_L 0), .long (cd_L 0), .long (cd_L 0), .int (cd_I 0), .long (cd_L 0), .long (cd_L 0), .long (cd_L 0), .int (cd_I 0), .int (cd_I 0)])), (q1, .inl (dA, 14, .inl (cd_c (fun _ => 0)))), (q2, .inl (dA, 14, .inl (cd_c (fun _ => 0))))] := hD
  refine lv_aload_n hx hb dX0_init_20 rfl (lv_at hl 0 rfl) ?_
  refine lv_bipush (v := cd_I 14) hx hb dX0_init_21 (by decide) ?_
  refine va_newa (atype := .int) (a0 := (14, .inl (cd_c (fun _ => 0)))) (N' := 14) (ty := .int) hx hb (hts _ q99) rfl hK hP hD hS hA (fun cA => by rw [← cd_c0]; rfl) (by decide) (by decide) (by decide) (Nat.le_of_ble_eq_true rfl) (Nat.le_of_ble_eq_true rfl) dX0_init_23 (fun q3 cA H hK hP hD hS => ?_)
  have eA : dA = cA := Option.some.inj ((hK.2 0 _ rfl).2.symm.trans (hK.2 1 _ rfl).2)
  subst eA
  have hK : va_K (dC, dI) vwCl [(dA, .int)] s := hK.sub [0] rfl
  have hP : va_P (dC, dI) vwCl [(o0, .inr (0, [.int (cd_I 0), .ref q1, .ref q2, .null, .int (cd_I 0), .null, .long (cd_L 0), .long (cd_L 0), .long (cd_L 0), .int (cd_I 0), .int (cd_I 0), .long (cd_L 0), .long (cd_L 0), .long (cd_L 0), .long (cd_L 0), .long (cd_L 0), .long (cd_L 0), .int (cd_I 0), .long (cd_L 0), .long (cd_L 0), .long (cd_L 0), .int (cd_I 0), .int (cd_I 0)])), (q1, .inl (dA, 14, .inl (cd_c (fun _ => 0)))), (q2, .inl (dA, 14, .inl (cd_c (fun _ => 0)))), (q3, .inl (dA, 14, .inl (cd_c (fun _ => 0))))] H := hP
  have hD : va_D A [(o0, .inr (0, [.int (cd_I 0), .ref q1, .ref q2, .null, .int (cd_I 0), .null, .long (cd_L 0), .long (cd_L 0), .long (cd_L 0), .int (cd_I 0), .int (cd_I 0), .long (cd_L 0), .long (cd_L 0), .long (cd_L 0), .long (cd_L 0), .long (cd_L 0), .long (cd_L 0), .int (cd_I 0), .long (cd_L 0), .long (cd_L 0), .long (cd_L 0), .int (cd_I 0), .int (cd_I 0)])), (q1, .inl (dA, 14, .inl (cd_c (fun _ => 0)))), (q2, .inl (dA, 14, .inl (cd_c (fun _ => 0)))), (q3, .inl (dA, 14, .inl (cd_c (fun _ => 0))))] := hD
  refine cd_putF0 (v := .ref q3) (ty := .array .int) hx hb hts hown hK hP hD hS 0 rfl 3 (by decide) q32 rfl rfl hini rfl rfl rfl (Nat.le_of_ble_eq_true rfl) dX0_init_25 (fun H locs hP hD hS => ?_)
  have hP : va_P (dC, dI) vwCl [(o0, .inr (0, [.int (cd_I 0), .ref q1, .ref q2, .ref q3, .int (cd_I 0), .null, .long (cd_L 0), .long (cd_L 0), .long (cd_L 0), .int (cd_I 0), .int (cd_I 0), .long (cd_L 0), .long (cd_L 0), .long (cd_L 0), .long (cd_L 0), .long (cd_L 0), .long (cd_L 0), .int (cd_I 0), .long (cd_L 0), .long (cd_L 0), .long (cd_L 0), .int (cd_I 0), .int (cd_I 0)])), (q1, .inl (dA, 14, .inl (cd_c (fun _ => 0)))), (q2, .inl (dA, 14, .inl (cd_c (fun _ => 0)))), (q3, .inl (dA, 14, .inl (cd_c (fun _ => 0))))] H := hP
  have hD : va_D A [(o0, .inr (0, [.int (cd_I 0), .ref q1, .ref q2, .ref q3, .int (cd_I 0), .null, .long (cd_L 0), .long (cd_L 0), .long (cd_L 0), .int (cd_I 0), .int (cd_I 0), .long (cd_L 0), .long (cd_L 0), .long (cd_L 0), .long (cd_L 0), .long (cd_L 0), .long (cd_L 0), .int (cd_I 0), .long (cd_L 0), .long (cd_L 0), .long (cd_L 0), .int (cd_I 0), .int (cd_I 0)])), (q1, .inl (dA, 14, .inl (cd_c (fun _ => 0)))), (q2, .inl (dA, 14, .inl (cd_c (fun _ => 0)))), (q3, .inl (dA, 14, .inl (cd_c (fun _ => 0))))] := hD
  refine lv_aload_n hx hb dX0_init_28 rfl (lv_at hl 0 rfl) ?_
  refine lv_bipush (v := cd_I 8) hx hb dX0_init_29 (by decide) ?_
  refine va_newa (atype := .int) (a0 := (8, .inl (cd_n (fun _ => 0)))) (N' := 8) (ty := .int) hx hb (hts _ q99) rfl hK hP hD hS hA (fun cA => by rw [← cd_n0]; rfl) (by decide) (by decide) (by decide) (Nat.le_of_ble_eq_true rfl) (Nat.le_of_ble_eq_true rfl) dX0_init_31 (fun q4 cA H hK hP hD hS => ?_)
  have eA : dA = cA := Option.some.inj ((hK.2 0 _ rfl).2.symm.trans (hK.2 1 _ rfl).2)
  subst eA
  have hK : va_K (dC, dI) vwCl [(dA, .int)] s := hK.sub [0] rfl
  have hP : va_P (dC, dI) vwCl [(o0, .inr (0, [.int (cd_I 0), .ref q1, .ref q2, .ref q3, .int (cd_I 0), .null, .long (cd_L 0), .long (cd_L 0), .long (cd_L 0), .int (cd_I 0), .int (cd_I 0), .long (cd_L 0), .long (cd_L 0), .long (cd_L 0), .long (cd_L 0), .long (cd_L 0), .long (cd_L 0), .int (cd_I 0), .long (cd_L 0), .long (cd_L 0), .long (cd_L 0), .int (cd_I 0), .int (cd_I 0)])), (q1, .inl (dA, 14, .inl (cd_c (fun _ => 0)))), (q2, .inl (dA, 14, .inl (cd_c (fun _ => 0)))), (q3, .inl (dA, 14, .inl (cd_c (fun _ => 0)))), (q4, .inl (dA, 8, .inl (cd_n (fun _ => 0))))] H := hP
  have hD : va_D A [(o0, .inr (0, [.int (cd_I 0), .ref q1, .ref q2, .ref q3, .int (cd_I 0), .null, .long (cd_L 0), .long (cd_L 0), .long (cd_L 0), .int (cd_I 0), .int (cd_I 0), .long (cd_L 0), .long (cd_L 0), .long (cd_L 0), .long (cd_L 0), .long (cd_L 0), .long (cd_L 0), .int (cd_I 0), .long (cd_L 0), .long (cd_L 0), .long (cd_L 0), .int (cd_I 0), .int (cd_I 0)])), (q1, .inl (dA, 14, .inl (cd_c (fun _ => 0)))), (q2, .inl (dA, 14, .inl (cd_c (fun _ => 0)))), (q3, .inl (dA, 14, .inl (cd_c (fun _ => 0)))), (q4, .inl (dA, 8, .inl (cd_n (fun _ => 0))))] := hD
  refine cd_putF0 (v := .ref q4) (ty := .array .int) hx hb hts hown hK hP hD hS 0 rfl 5 (by decide) q34 rfl rfl hini rfl rfl rfl (Nat.le_of_ble_eq_true rfl) dX0_init_33 (fun H locs hP hD hS => ?_)
  have hP : va_P (dC, dI) vwCl [(o0, .inr (0, [.int (cd_I 0), .ref q1, .ref q2, .ref q3, .int (cd_I 0), .ref q4, .long (cd_L 0), .long (cd_L 0), .long (cd_L 0), .int (cd_I 0), .int (cd_I 0), .long (cd_L 0), .long (cd_L 0), .long (cd_L 0), .long (cd_L 0), .long (cd_L 0), .long (cd_L 0), .int (cd_I 0), .long (cd_L 0), .long (cd_L 0), .long (cd_L 0), .int (cd_I 0), .int (cd_I 0)])), (q1, .inl (dA, 14, .inl (cd_c (fun _ => 0)))), (q2, .inl (dA, 14, .inl (cd_c (fun _ => 0)))), (q3, .inl (dA, 14, .inl (cd_c (fun _ => 0)))), (q4, .inl (dA, 8, .inl (cd_n (fun _ => 0))))] H := hP
  have hD : va_D A [(o0, .inr (0, [.int (cd_I 0), .ref q1, .ref q2, .ref q3, .int (cd_I 0), .ref q4, .long (cd_L 0), .long (cd_L 0), .long (cd_L 0), .int (cd_I 0), .int (cd_I 0), .long (cd_L 0), .long (cd_L 0), .long (cd_L 0), .long (cd_L 0), .long (cd_L 0), .long (cd_L 0), .int (cd_I 0), .long (cd_L 0), .long (cd_L 0), .long (cd_L 0), .int (cd_I 0), .int (cd_I 0)])), (q1, .inl (dA, 14, .inl (cd_c (fun _ => 0)))), (q2, .inl (dA, 14, .inl (cd_c (fun _ => 0)))), (q3, .inl (dA, 14, .inl (cd_c (fun _ => 0)))), (q4, .inl (dA, 8, .inl (cd_n (fun _ => 0))))] := hD
  refine lv_aload_n hx hb dX0_init_36 rfl (lv_at hl 0 rfl) ?_
  refine cd_get0 (v := .ref q1) hx hb hts hown hK hP 0 rfl 1 (by decide) q30 rfl rfl dX0_init_37 ?_
  refine lv_iconst (v := cd_I 0) hx hb dX0_init_40 rfl ?_
  refine lv_iconst (v := cd_I 1) hx hb dX0_init_41 rfl ?_
  refine cd_iast (k := 0) (v := 1) hx hb hK hP hD hS 1 0 rfl rfl (by decide) (by decide) dX0_init_42 (fun H locs hP hD hS => ?_)
  have hP : va_P (dC, dI) vwCl [(o0, .inr (0, [.int (cd_I 0), .ref q1, .ref q2, .ref q3, .int (cd_I 0), .ref q4, .long (cd_L 0), .long (cd_L 0), .long (cd_L 0), .int (cd_I 0), .int (cd_I 0), .long (cd_L 0), .long (cd_L 0), .long (cd_L 0), .long (cd_L 0), .long (cd_L 0), .long (cd_L 0), .int (cd_I 0), .long (cd_L 0), .long (cd_L 0), .long (cd_L 0), .int (cd_I 0), .int (cd_I 0)])), (q1, .inl (dA, 14, .inl (cd_c (cd_u (fun _ => 0) 0 1)))), (q2, .inl (dA, 14, .inl (cd_c (fun _ => 0)))), (q3, .inl (dA, 14, .inl (cd_c (fun _ => 0)))), (q4, .inl (dA, 8, .inl (cd_n (fun _ => 0))))] H := hP
  have hD : va_D A [(o0, .inr (0, [.int (cd_I 0), .ref q1, .ref q2, .ref q3, .int (cd_I 0), .ref q4, .long (cd_L 0), .long (cd_L 0), .long (cd_L 0), .int (cd_I 0), .int (cd_I 0), .long (cd_L 0), .long (cd_L 0), .long (cd_L 0), .long (cd_L 0), .long (cd_L 0), .long (cd_L 0), .int (cd_I 0), .long (cd_L 0), .long (cd_L 0), .long (cd_L 0), .int (cd_I 0), .int (cd_I 0)])), (q1, .inl (dA, 14, .inl (cd_c (cd_u (fun _ => 0) 0 1)))), (q2, .inl (dA, 14, .inl (cd_c (fun _ => 0)))), (q3, .inl (dA, 14, .inl (cd_c (fun _ => 0)))), (q4, .inl (dA, 8, .inl (cd_n (fun _ => 0))))] := hD
  refine lv_aload_n hx hb dX0_init_43 rfl (lv_at hl 0 rfl) ?_
  refine cd_get0 (v := .ref q1) hx hb hts hown hK hP 0 rfl 1 (by decide) q30 rfl rfl dX0_init_44 ?_
  refine lv_iconst (v := cd_I 1) hx hb dX0_init_47 rfl ?_
  refine lv_iconst (v := cd_I (-1)) hx hb dX0_init_48 rfl ?_
  refine cd_iast (k := 1) (v := (-1)) hx hb hK hP hD hS 1 0 rfl rfl (by decide) (by decide) dX0_init_49 (fun H locs hP hD hS => ?_)
  have hP : va_P (dC, dI) vwCl [(o0, .inr (0, [.int (cd_I 0), .ref q1, .ref q2, .ref q3, .int (cd_I 0), .ref q4, .long (cd_L 0), .long (cd_L 0), .long (cd_L 0), .int (cd_I 0), .int (cd_I 0), .long (cd_L 0), .long (cd_L 0), .long (cd_L 0), .long (cd_L 0), .long (cd_L 0), .long (cd_L 0), .int (cd_I 0), .long (cd_L 0), .long (cd_L 0), .long (cd_L 0), .int (cd_I 0), .int (cd_I 0)])), (q1, .inl (dA, 14, .inl (cd_c (cd_u (cd_u (fun _ => 0) 0 1) 1 (-1))))), (q2, .inl (dA, 14, .inl (cd_c (fun _ => 0)))), (q3, .inl (dA, 14, .inl (cd_c (fun _ => 0)))), (q4, .inl (dA, 8, .inl (cd_n (fun _ => 0))))] H := hP
  have hD : va_D A [(o0, .inr (0, [.int (cd_I 0), .ref q1, .ref q2, .ref q3, .int (cd_I 0), .ref q4, .long (cd_L 0), .long (cd_L 0), .long (cd_L 0), .int (cd_I 0), .int (cd_I 0), .long (cd_L 0), .long (cd_L 0), .long (cd_L 0), .long (cd_L 0), .long (cd_L 0), .long (cd_L 0), .int (cd_I 0), .long (cd_L 0), .long (cd_L 0), .long (cd_L 0), .int (cd_I 0), .int (cd_I 0)])), (q1, .inl (dA, 14, .inl (cd_c (cd_u (cd_u (fun _ => 0) 0 1) 1 (-1))))), (q2, .inl (dA, 14, .inl (cd_c (fun _ => 0)))), (q3, .inl (dA, 14, .inl (cd_c (fun _ => 0)))), (q4, .inl (dA, 8, .inl (cd_n (fun _ => 0))))] := hD
  refine lv_aload_n hx hb dX0_init_50 rfl (lv_at hl 0 rfl) ?_
  refine cd_get0 (v := .ref q2) hx hb hts hown hK hP 0 rfl 2 (by decide) q31 rfl rfl dX0_init_51 ?_
  refine lv_iconst (v := cd_I 2) hx hb dX0_init_54 rfl ?_
  refine lv_iconst (v := cd_I 1) hx hb dX0_init_55 rfl ?_
  refine cd_iast (k := 2) (v := 1) hx hb hK hP hD hS 2 0 rfl rfl (by decide) (by decide) dX0_init_56 (fun H locs hP hD hS => ?_)
  have hP : va_P (dC, dI) vwCl [(o0, .inr (0, [.int (cd_I 0), .ref q1, .ref q2, .ref q3, .int (cd_I 0), .ref q4, .long (cd_L 0), .long (cd_L 0), .long (cd_L 0), .int (cd_I 0), .int (cd_I 0), .long (cd_L 0), .long (cd_L 0), .long (cd_L 0), .long (cd_L 0), .long (cd_L 0), .long (cd_L 0), .int (cd_I 0), .long (cd_L 0), .long (cd_L 0), .long (cd_L 0), .int (cd_I 0), .int (cd_I 0)])), (q1, .inl (dA, 14, .inl (cd_c (cd_u (cd_u (fun _ => 0) 0 1) 1 (-1))))), (q2, .inl (dA, 14, .inl (cd_c (cd_u (fun _ => 0) 2 1)))), (q3, .inl (dA, 14, .inl (cd_c (fun _ => 0)))), (q4, .inl (dA, 8, .inl (cd_n (fun _ => 0))))] H := hP
  have hD : va_D A [(o0, .inr (0, [.int (cd_I 0), .ref q1, .ref q2, .ref q3, .int (cd_I 0), .ref q4, .long (cd_L 0), .long (cd_L 0), .long (cd_L 0), .int (cd_I 0), .int (cd_I 0), .long (cd_L 0), .long (cd_L 0), .long (cd_L 0), .long (cd_L 0), .long (cd_L 0), .long (cd_L 0), .int (cd_I 0), .long (cd_L 0), .long (cd_L 0), .long (cd_L 0), .int (cd_I 0), .int (cd_I 0)])), (q1, .inl (dA, 14, .inl (cd_c (cd_u (cd_u (fun _ => 0) 0 1) 1 (-1))))), (q2, .inl (dA, 14, .inl (cd_c (cd_u (fun _ => 0) 2 1)))), (q3, .inl (dA, 14, .inl (cd_c (fun _ => 0)))), (q4, .inl (dA, 8, .inl (cd_n (fun _ => 0))))] := hD
  refine lv_aload_n hx hb dX0_init_57 rfl (lv_at hl 0 rfl) ?_
  refine cd_get0 (v := .ref q2) hx hb hts hown hK hP 0 rfl 2 (by decide) q31 rfl rfl dX0_init_58 ?_
  refine lv_iconst (v := cd_I 3) hx hb dX0_init_61 rfl ?_
  refine lv_iconst (v := cd_I (-1)) hx hb dX0_init_62 rfl ?_
  refine cd_iast (k := 3) (v := (-1)) hx hb hK hP hD hS 2 0 rfl rfl (by decide) (by decide) dX0_init_63 (fun H locs hP hD hS => ?_)
  have hP : va_P (dC, dI) vwCl [(o0, .inr (0, [.int (cd_I 0), .ref q1, .ref q2, .ref q3, .int (cd_I 0), .ref q4, .long (cd_L 0), .long (cd_L 0), .long (cd_L 0), .int (cd_I 0), .int (cd_I 0), .long (cd_L 0), .long (cd_L 0), .long (cd_L 0), .long (cd_L 0), .long (cd_L 0), .long (cd_L 0), .int (cd_I 0), .long (cd_L 0), .long (cd_L 0), .long (cd_L 0), .int (cd_I 0), .int (cd_I 0)])), (q1, .inl (dA, 14, .inl (cd_c (cd_u (cd_u (fun _ => 0) 0 1) 1 (-1))))), (q2, .inl (dA, 14, .inl (cd_c (cd_u (cd_u (fun _ => 0) 2 1) 3 (-1))))), (q3, .inl (dA, 14, .inl (cd_c (fun _ => 0)))), (q4, .inl (dA, 8, .inl (cd_n (fun _ => 0))))] H := hP
  have hD : va_D A [(o0, .inr (0, [.int (cd_I 0), .ref q1, .ref q2, .ref q3, .int (cd_I 0), .ref q4, .long (cd_L 0), .long (cd_L 0), .long (cd_L 0), .int (cd_I 0), .int (cd_I 0), .long (cd_L 0), .long (cd_L 0), .long (cd_L 0), .long (cd_L 0), .long (cd_L 0), .long (cd_L 0), .int (cd_I 0), .long (cd_L 0), .long (cd_L 0), .long (cd_L 0), .int (cd_I 0), .int (cd_I 0)])), (q1, .inl (dA, 14, .inl (cd_c (cd_u (cd_u (fun _ => 0) 0 1) 1 (-1))))), (q2, .inl (dA, 14, .inl (cd_c (cd_u (cd_u (fun _ => 0) 2 1) 3 (-1))))), (q3, .inl (dA, 14, .inl (cd_c (fun _ => 0)))), (q4, .inl (dA, 8, .inl (cd_n (fun _ => 0))))] := hD
  refine lv_iconst (v := cd_I 0) hx hb dX0_init_64 rfl ?_
  refine lv_istore_n (lv' := [(1, .int (cd_I 0)), (0, .ref o0)]) hx hb dX0_init_65 rfl hl (by decide) rfl (fun ls hl => ?_)
  refine lv_iload_n hx hb dX0_init_66 rfl (lv_at hl 0 rfl) ?_
  refine lv_iconst (v := cd_I 4) hx hb dX0_init_67 rfl ?_
  refine cd_icmp_ge (tgt := 85) hx hb ⟨by decide, by decide⟩ ⟨by decide, by decide⟩ dX0_init_68 (by decide) (fun c_1 => absurd c_1 (by decide)) (fun c_1 => ?_)
  refine lv_aload_n hx hb dX0_init_71 rfl (lv_at hl 1 rfl) ?_
  refine cd_get0 (v := .ref q3) hx hb hts hown hK hP 0 rfl 3 (by decide) q32 rfl rfl dX0_init_72 ?_
  refine lv_iload_n hx hb dX0_init_75 rfl (lv_at hl 0 rfl) ?_
  refine lv_bipush (v := cd_I 50) hx hb dX0_init_76 (by decide) ?_
  refine cd_iast (k := 0) (v := 50) hx hb hK hP hD hS 3 0 rfl rfl (by decide) (by decide) dX0_init_78 (fun H locs hP hD hS => ?_)
  have hP : va_P (dC, dI) vwCl [(o0, .inr (0, [.int (cd_I 0), .ref q1, .ref q2, .ref q3, .int (cd_I 0), .ref q4, .long (cd_L 0), .long (cd_L 0), .long (cd_L 0), .int (cd_I 0), .int (cd_I 0), .long (cd_L 0), .long (cd_L 0), .long (cd_L 0), .long (cd_L 0), .long (cd_L 0), .long (cd_L 0), .int (cd_I 0), .long (cd_L 0), .long (cd_L 0), .long (cd_L 0), .int (cd_I 0), .int (cd_I 0)])), (q1, .inl (dA, 14, .inl (cd_c (cd_u (cd_u (fun _ => 0) 0 1) 1 (-1))))), (q2, .inl (dA, 14, .inl (cd_c (cd_u (cd_u (fun _ => 0) 2 1) 3 (-1))))), (q3, .inl (dA, 14, .inl (cd_c (cd_u (fun _ => 0) 0 50)))), (q4, .inl (dA, 8, .inl (cd_n (fun _ => 0))))] H := hP
  have hD : va_D A [(o0, .inr (0, [.int (cd_I 0), .ref q1, .ref q2, .ref q3, .int (cd_I 0), .ref q4, .long (cd_L 0), .long (cd_L 0), .long (cd_L 0), .int (cd_I 0), .int (cd_I 0), .long (cd_L 0), .long (cd_L 0), .long (cd_L 0), .long (cd_L 0), .long (cd_L 0), .long (cd_L 0), .int (cd_I 0), .long (cd_L 0), .long (cd_L 0), .long (cd_L 0), .int (cd_I 0), .int (cd_I 0)])), (q1, .inl (dA, 14, .inl (cd_c (cd_u (cd_u (fun _ => 0) 0 1) 1 (-1))))), (q2, .inl (dA, 14, .inl (cd_c (cd_u (cd_u (fun _ => 0) 2 1) 3 (-1))))), (q3, .inl (dA, 14, .inl (cd_c (cd_u (fun _ => 0) 0 50)))), (q4, .inl (dA, 8, .inl (cd_n (fun _ => 0))))] := hD
  refine cd_iinc (x := 0) (lv' := [(1, .int (cd_I 1)), (0, .ref o0)]) hx hb dX0_init_79 hl (k := 0) rfl (by decide) rfl (fun ls hl => ?_)
  refine lv_goto (tgt := 66) hx hb dX0_init_82 (by decide) ?_
  refine lv_iload_n hx hb dX0_init_66 rfl (lv_at hl 0 rfl) ?_
  refine lv_iconst (v := cd_I 4) hx hb dX0_init_67 rfl ?_
  refine cd_icmp_ge (tgt := 85) hx hb ⟨by decide, by decide⟩ ⟨by decide, by decide⟩ dX0_init_68 (by decide) (fun c_2 => absurd c_2 (by decide)) (fun c_2 => ?_)
  refine lv_aload_n hx hb dX0_init_71 rfl (lv_at hl 1 rfl) ?_
  refine cd_get0 (v := .ref q3) hx hb hts hown hK hP 0 rfl 3 (by decide) q32 rfl rfl dX0_init_72 ?_
  refine lv_iload_n hx hb dX0_init_75 rfl (lv_at hl 0 rfl) ?_
  refine lv_bipush (v := cd_I 50) hx hb dX0_init_76 (by decide) ?_
  refine cd_iast (k := 1) (v := 50) hx hb hK hP hD hS 3 0 rfl rfl (by decide) (by decide) dX0_init_78 (fun H locs hP hD hS => ?_)
  have hP : va_P (dC, dI) vwCl [(o0, .inr (0, [.int (cd_I 0), .ref q1, .ref q2, .ref q3, .int (cd_I 0), .ref q4, .long (cd_L 0), .long (cd_L 0), .long (cd_L 0), .int (cd_I 0), .int (cd_I 0), .long (cd_L 0), .long (cd_L 0), .long (cd_L 0), .long (cd_L 0), .long (cd_L 0), .long (cd_L 0), .int (cd_I 0), .long (cd_L 0), .long (cd_L 0), .long (cd_L 0), .int (cd_I 0), .int (cd_I 0)])), (q1, .inl (dA, 14, .inl (cd_c (cd_u (cd_u (fun _ => 0) 0 1) 1 (-1))))), (q2, .inl (dA, 14, .inl (cd_c (cd_u (cd_u (fun _ => 0) 2 1) 3 (-1))))), (q3, .inl (dA, 14, .inl (cd_c (cd_u (cd_u (fun _ => 0) 0 50) 1 50)))), (q4, .inl (dA, 8, .inl (cd_n (fun _ => 0))))] H := hP
  have hD : va_D A [(o0, .inr (0, [.int (cd_I 0), .ref q1, .ref q2, .ref q3, .int (cd_I 0), .ref q4, .long (cd_L 0), .long (cd_L 0), .long (cd_L 0), .int (cd_I 0), .int (cd_I 0), .long (cd_L 0), .long (cd_L 0), .long (cd_L 0), .long (cd_L 0), .long (cd_L 0), .long (cd_L 0), .int (cd_I 0), .long (cd_L 0), .long (cd_L 0), .long (cd_L 0), .int (cd_I 0), .int (cd_I 0)])), (q1, .inl (dA, 14, .inl (cd_c (cd_u (cd_u (fun _ => 0) 0 1) 1 (-1))))), (q2, .inl (dA, 14, .inl (cd_c (cd_u (cd_u (fun _ => 0) 2 1) 3 (-1))))), (q3, .inl (dA, 14, .inl (cd_c (cd_u (cd_u (fun _ => 0) 0 50) 1 50)))), (q4, .inl (dA, 8, .inl (cd_n (fun _ => 0))))] := hD
  refine cd_iinc (x := 1) (lv' := [(1, .int (cd_I 2)), (0, .ref o0)]) hx hb dX0_init_79 hl (k := 0) rfl (by decide) rfl (fun ls hl => ?_)
  refine lv_goto (tgt := 66) hx hb dX0_init_82 (by decide) ?_
  refine lv_iload_n hx hb dX0_init_66 rfl (lv_at hl 0 rfl) ?_
  refine lv_iconst (v := cd_I 4) hx hb dX0_init_67 rfl ?_
  refine cd_icmp_ge (tgt := 85) hx hb ⟨by decide, by decide⟩ ⟨by decide, by decide⟩ dX0_init_68 (by decide) (fun c_3 => absurd c_3 (by decide)) (fun c_3 => ?_)
  refine lv_aload_n hx hb dX0_init_71 rfl (lv_at hl 1 rfl) ?_
  refine cd_get0 (v := .ref q3) hx hb hts hown hK hP 0 rfl 3 (by decide) q32 rfl rfl dX0_init_72 ?_
  refine lv_iload_n hx hb dX0_init_75 rfl (lv_at hl 0 rfl) ?_
  refine lv_bipush (v := cd_I 50) hx hb dX0_init_76 (by decide) ?_
  refine cd_iast (k := 2) (v := 50) hx hb hK hP hD hS 3 0 rfl rfl (by decide) (by decide) dX0_init_78 (fun H locs hP hD hS => ?_)
  have hP : va_P (dC, dI) vwCl [(o0, .inr (0, [.int (cd_I 0), .ref q1, .ref q2, .ref q3, .int (cd_I 0), .ref q4, .long (cd_L 0), .long (cd_L 0), .long (cd_L 0), .int (cd_I 0), .int (cd_I 0), .long (cd_L 0), .long (cd_L 0), .long (cd_L 0), .long (cd_L 0), .long (cd_L 0), .long (cd_L 0), .int (cd_I 0), .long (cd_L 0), .long (cd_L 0), .long (cd_L 0), .int (cd_I 0), .int (cd_I 0)])), (q1, .inl (dA, 14, .inl (cd_c (cd_u (cd_u (fun _ => 0) 0 1) 1 (-1))))), (q2, .inl (dA, 14, .inl (cd_c (cd_u (cd_u (fun _ => 0) 2 1) 3 (-1))))), (q3, .inl (dA, 14, .inl (cd_c (cd_u (cd_u (cd_u (fun _ => 0) 0 50) 1 50) 2 50)))), (q4, .inl (dA, 8, .inl (cd_n (fun _ => 0))))] H := hP
  have hD : va_D A [(o0, .inr (0, [.int (cd_I 0), .ref q1, .ref q2, .ref q3, .int (cd_I 0), .ref q4, .long (cd_L 0), .long (cd_L 0), .long (cd_L 0), .int (cd_I 0), .int (cd_I 0), .long (cd_L 0), .long (cd_L 0), .long (cd_L 0), .long (cd_L 0), .long (cd_L 0), .long (cd_L 0), .int (cd_I 0), .long (cd_L 0), .long (cd_L 0), .long (cd_L 0), .int (cd_I 0), .int (cd_I 0)])), (q1, .inl (dA, 14, .inl (cd_c (cd_u (cd_u (fun _ => 0) 0 1) 1 (-1))))), (q2, .inl (dA, 14, .inl (cd_c (cd_u (cd_u (fun _ => 0) 2 1) 3 (-1))))), (q3, .inl (dA, 14, .inl (cd_c (cd_u (cd_u (cd_u (fun _ => 0) 0 50) 1 50) 2 50)))), (q4, .inl (dA, 8, .inl (cd_n (fun _ => 0))))] := hD
  refine cd_iinc (x := 2) (lv' := [(1, .int (cd_I 3)), (0, .ref o0)]) hx hb dX0_init_79 hl (k := 0) rfl (by decide) rfl (fun ls hl => ?_)
  refine lv_goto (tgt := 66) hx hb dX0_init_82 (by decide) ?_
  refine lv_iload_n hx hb dX0_init_66 rfl (lv_at hl 0 rfl) ?_
  refine lv_iconst (v := cd_I 4) hx hb dX0_init_67 rfl ?_
  refine cd_icmp_ge (tgt := 85) hx hb ⟨by decide, by decide⟩ ⟨by decide, by decide⟩ dX0_init_68 (by decide) (fun c_4 => absurd c_4 (by decide)) (fun c_4 => ?_)
  refine lv_aload_n hx hb dX0_init_71 rfl (lv_at hl 1 rfl) ?_
  refine cd_get0 (v := .ref q3) hx hb hts hown hK hP 0 rfl 3 (by decide) q32 rfl rfl dX0_init_72 ?_
  refine lv_iload_n hx hb dX0_init_75 rfl (lv_at hl 0 rfl) ?_
  refine lv_bipush (v := cd_I 50) hx hb dX0_init_76 (by decide) ?_
  refine cd_iast (k := 3) (v := 50) hx hb hK hP hD hS 3 0 rfl rfl (by decide) (by decide) dX0_init_78 (fun H locs hP hD hS => ?_)
  have hP : va_P (dC, dI) vwCl [(o0, .inr (0, [.int (cd_I 0), .ref q1, .ref q2, .ref q3, .int (cd_I 0), .ref q4, .long (cd_L 0), .long (cd_L 0), .long (cd_L 0), .int (cd_I 0), .int (cd_I 0), .long (cd_L 0), .long (cd_L 0), .long (cd_L 0), .long (cd_L 0), .long (cd_L 0), .long (cd_L 0), .int (cd_I 0), .long (cd_L 0), .long (cd_L 0), .long (cd_L 0), .int (cd_I 0), .int (cd_I 0)])), (q1, .inl (dA, 14, .inl (cd_c (cd_u (cd_u (fun _ => 0) 0 1) 1 (-1))))), (q2, .inl (dA, 14, .inl (cd_c (cd_u (cd_u (fun _ => 0) 2 1) 3 (-1))))), (q3, .inl (dA, 14, .inl (cd_c (cd_u (cd_u (cd_u (cd_u (fun _ => 0) 0 50) 1 50) 2 50) 3 50)))), (q4, .inl (dA, 8, .inl (cd_n (fun _ => 0))))] H := hP
  have hD : va_D A [(o0, .inr (0, [.int (cd_I 0), .ref q1, .ref q2, .ref q3, .int (cd_I 0), .ref q4, .long (cd_L 0), .long (cd_L 0), .long (cd_L 0), .int (cd_I 0), .int (cd_I 0), .long (cd_L 0), .long (cd_L 0), .long (cd_L 0), .long (cd_L 0), .long (cd_L 0), .long (cd_L 0), .int (cd_I 0), .long (cd_L 0), .long (cd_L 0), .long (cd_L 0), .int (cd_I 0), .int (cd_I 0)])), (q1, .inl (dA, 14, .inl (cd_c (cd_u (cd_u (fun _ => 0) 0 1) 1 (-1))))), (q2, .inl (dA, 14, .inl (cd_c (cd_u (cd_u (fun _ => 0) 2 1) 3 (-1))))), (q3, .inl (dA, 14, .inl (cd_c (cd_u (cd_u (cd_u (cd_u (fun _ => 0) 0 50) 1 50) 2 50) 3 50)))), (q4, .inl (dA, 8, .inl (cd_n (fun _ => 0))))] := hD
  refine cd_iinc (x := 3) (lv' := [(1, .int (cd_I 4)), (0, .ref o0)]) hx hb dX0_init_79 hl (k := 0) rfl (by decide) rfl (fun ls hl => ?_)
  refine lv_goto (tgt := 66) hx hb dX0_init_82 (by decide) ?_
  refine lv_iload_n hx hb dX0_init_66 rfl (lv_at hl 0 rfl) ?_
  refine lv_iconst (v := cd_I 4) hx hb dX0_init_67 rfl ?_
  refine cd_icmp_ge (tgt := 85) hx hb ⟨by decide, by decide⟩ ⟨by decide, by decide⟩ dX0_init_68 (by decide) (fun c_5 => ?_) (fun c_5 => absurd c_5 (by decide))
  refine lv_aload_n hx hb dX0_init_85 rfl (lv_at hl 1 rfl) ?_
  refine lv_iconst (v := cd_I 4) hx hb dX0_init_86 rfl ?_
  refine cd_put0 (v := .int (cd_I 4)) (ty := .int) hx hb hts hown hK hP hD hS 0 rfl 0 (by decide) q29 rfl rfl rfl rfl rfl (Nat.le_of_ble_eq_true rfl) dX0_init_87 (fun H locs hP hD hS => ?_)
  have hP : va_P (dC, dI) vwCl [(o0, .inr (0, [.int (cd_I 4), .ref q1, .ref q2, .ref q3, .int (cd_I 0), .ref q4, .long (cd_L 0), .long (cd_L 0), .long (cd_L 0), .int (cd_I 0), .int (cd_I 0), .long (cd_L 0), .long (cd_L 0), .long (cd_L 0), .long (cd_L 0), .long (cd_L 0), .long (cd_L 0), .int (cd_I 0), .long (cd_L 0), .long (cd_L 0), .long (cd_L 0), .int (cd_I 0), .int (cd_I 0)])), (q1, .inl (dA, 14, .inl (cd_c (cd_u (cd_u (fun _ => 0) 0 1) 1 (-1))))), (q2, .inl (dA, 14, .inl (cd_c (cd_u (cd_u (fun _ => 0) 2 1) 3 (-1))))), (q3, .inl (dA, 14, .inl (cd_c (cd_u (cd_u (cd_u (cd_u (fun _ => 0) 0 50) 1 50) 2 50) 3 50)))), (q4, .inl (dA, 8, .inl (cd_n (fun _ => 0))))] H := hP
  have hD : va_D A [(o0, .inr (0, [.int (cd_I 4), .ref q1, .ref q2, .ref q3, .int (cd_I 0), .ref q4, .long (cd_L 0), .long (cd_L 0), .long (cd_L 0), .int (cd_I 0), .int (cd_I 0), .long (cd_L 0), .long (cd_L 0), .long (cd_L 0), .long (cd_L 0), .long (cd_L 0), .long (cd_L 0), .int (cd_I 0), .long (cd_L 0), .long (cd_L 0), .long (cd_L 0), .int (cd_I 0), .int (cd_I 0)])), (q1, .inl (dA, 14, .inl (cd_c (cd_u (cd_u (fun _ => 0) 0 1) 1 (-1))))), (q2, .inl (dA, 14, .inl (cd_c (cd_u (cd_u (fun _ => 0) 2 1) 3 (-1))))), (q3, .inl (dA, 14, .inl (cd_c (cd_u (cd_u (cd_u (cd_u (fun _ => 0) 0 50) 1 50) 2 50) 3 50)))), (q4, .inl (dA, 8, .inl (cd_n (fun _ => 0))))] := hD
  refine lv_aload_n hx hb dX0_init_90 rfl (lv_at hl 1 rfl) ?_
  refine lv_iconst (v := cd_I 1) hx hb dX0_init_91 rfl ?_
  refine cd_put0 (v := .int (cd_I 1)) (ty := .int) hx hb hts hown hK hP hD hS 0 rfl 4 (by decide) q33 rfl rfl rfl rfl rfl (Nat.le_of_ble_eq_true rfl) dX0_init_92 (fun H locs hP hD hS => ?_)
  have hP : va_P (dC, dI) vwCl [(o0, .inr (0, [.int (cd_I 4), .ref q1, .ref q2, .ref q3, .int (cd_I 1), .ref q4, .long (cd_L 0), .long (cd_L 0), .long (cd_L 0), .int (cd_I 0), .int (cd_I 0), .long (cd_L 0), .long (cd_L 0), .long (cd_L 0), .long (cd_L 0), .long (cd_L 0), .long (cd_L 0), .int (cd_I 0), .long (cd_L 0), .long (cd_L 0), .long (cd_L 0), .int (cd_I 0), .int (cd_I 0)])), (q1, .inl (dA, 14, .inl (cd_c (cd_u (cd_u (fun _ => 0) 0 1) 1 (-1))))), (q2, .inl (dA, 14, .inl (cd_c (cd_u (cd_u (fun _ => 0) 2 1) 3 (-1))))), (q3, .inl (dA, 14, .inl (cd_c (cd_u (cd_u (cd_u (cd_u (fun _ => 0) 0 50) 1 50) 2 50) 3 50)))), (q4, .inl (dA, 8, .inl (cd_n (fun _ => 0))))] H := hP
  have hD : va_D A [(o0, .inr (0, [.int (cd_I 4), .ref q1, .ref q2, .ref q3, .int (cd_I 1), .ref q4, .long (cd_L 0), .long (cd_L 0), .long (cd_L 0), .int (cd_I 0), .int (cd_I 0), .long (cd_L 0), .long (cd_L 0), .long (cd_L 0), .long (cd_L 0), .long (cd_L 0), .long (cd_L 0), .int (cd_I 0), .long (cd_L 0), .long (cd_L 0), .long (cd_L 0), .int (cd_I 0), .int (cd_I 0)])), (q1, .inl (dA, 14, .inl (cd_c (cd_u (cd_u (fun _ => 0) 0 1) 1 (-1))))), (q2, .inl (dA, 14, .inl (cd_c (cd_u (cd_u (fun _ => 0) 2 1) 3 (-1))))), (q3, .inl (dA, 14, .inl (cd_c (cd_u (cd_u (cd_u (cd_u (fun _ => 0) 0 50) 1 50) 2 50) 3 50)))), (q4, .inl (dA, 8, .inl (cd_n (fun _ => 0))))] := hD
  refine lv_aload_n hx hb dX0_init_95 rfl (lv_at hl 1 rfl) ?_
  refine cd_get0 (v := .ref q4) hx hb hts hown hK hP 0 rfl 5 (by decide) q34 rfl rfl dX0_init_96 ?_
  refine lv_iconst (v := cd_I 0) hx hb dX0_init_99 rfl ?_
  refine lv_iconst (v := cd_I 4) hx hb dX0_init_100 rfl ?_
  refine cd_iastn (k := 0) (v := 4) hx hb hK hP hD hS 4 0 rfl rfl (by decide) (by decide) dX0_init_101 (fun H locs hP hD hS => ?_)
  have hP : va_P (dC, dI) vwCl [(o0, .inr (0, [.int (cd_I 4), .ref q1, .ref q2, .ref q3, .int (cd_I 1), .ref q4, .long (cd_L 0), .long (cd_L 0), .long (cd_L 0), .int (cd_I 0), .int (cd_I 0), .long (cd_L 0), .long (cd_L 0), .long (cd_L 0), .long (cd_L 0), .long (cd_L 0), .long (cd_L 0), .int (cd_I 0), .long (cd_L 0), .long (cd_L 0), .long (cd_L 0), .int (cd_I 0), .int (cd_I 0)])), (q1, .inl (dA, 14, .inl (cd_c (cd_u (cd_u (fun _ => 0) 0 1) 1 (-1))))), (q2, .inl (dA, 14, .inl (cd_c (cd_u (cd_u (fun _ => 0) 2 1) 3 (-1))))), (q3, .inl (dA, 14, .inl (cd_c (cd_u (cd_u (cd_u (cd_u (fun _ => 0) 0 50) 1 50) 2 50) 3 50)))), (q4, .inl (dA, 8, .inl (cd_n (cd_un (fun _ => 0) 0 4))))] H := hP
  have hD : va_D A [(o0, .inr (0, [.int (cd_I 4), .ref q1, .ref q2, .ref q3, .int (cd_I 1), .ref q4, .long (cd_L 0), .long (cd_L 0), .long (cd_L 0), .int (cd_I 0), .int (cd_I 0), .long (cd_L 0), .long (cd_L 0), .long (cd_L 0), .long (cd_L 0), .long (cd_L 0), .long (cd_L 0), .int (cd_I 0), .long (cd_L 0), .long (cd_L 0), .long (cd_L 0), .int (cd_I 0), .int (cd_I 0)])), (q1, .inl (dA, 14, .inl (cd_c (cd_u (cd_u (fun _ => 0) 0 1) 1 (-1))))), (q2, .inl (dA, 14, .inl (cd_c (cd_u (cd_u (fun _ => 0) 2 1) 3 (-1))))), (q3, .inl (dA, 14, .inl (cd_c (cd_u (cd_u (cd_u (cd_u (fun _ => 0) 0 50) 1 50) 2 50) 3 50)))), (q4, .inl (dA, 8, .inl (cd_n (cd_un (fun _ => 0) 0 4))))] := hD
  refine W.widen (k := 4) (n := 50) (Nat.le_of_ble_eq_true rfl) (Nat.le_of_ble_eq_true rfl) ?_
  exact W.vret hx hb hr (fun t ht hW => ⟨⟨(q1, q2, q3, q4), rfl, trivial, ⟨by rw [ht]; exact hP, hD⟩⟩, hS.F ht⟩) hS.2.2 dX0_init_102

set_option maxHeartbeats 4000000 in
set_option maxRecDepth 100000 in
/-- add -/
theorem xd_add (l : Launch) (dC : Nat → ClassId) (dI : Nat → Nat → Nat) (dA : ClassId) (o0 o1 o2 o3 o4 n lv : Nat) (fa fb fc : Nat → Int) (fl : Nat → Nat) (x y w hL hH lx ly lw gx gy gw rm bx by_ bw ap aq : Int) (sz : Nat) (a b d : Int) (ha : cd_R32 a) (hb1 : cd_R32 b) (hd : cd_R32 d) (hn : n ≤ 14) : Met l yX0_add (ws_ yX0_add cX0_add 4 (some .int)) ({ frames := 1, cells := 0, slots := 0, locals := 23 }) (va_Pc [.ref o0, .int (cd_I a), .int (cd_I b), .int (cd_I d)] (cd_W1 (dC, dI) vwCl [(dA, .int)] (cd_D dA o0 o1 o2 o3 o4 n lv fa fb fc fl x y w hL hH lx ly lw gx gy gw rm bx by_ bw ap aq) sz)) (va_Qi (fun (r : Int32) (u : Nat × (Nat → Int) × (Nat → Int) × (Nat → Int)) => (r = cd_I (-1) ∧ (u.1 = n ∧ u.2.1 = fa ∧ u.2.2.1 = fb ∧ u.2.2.2 = fc) ∧ (¬ cd_cond a b d ∨ 14 ≤ n)) ∨ (r = cd_I ((n : Int) + 1 - 4) ∧ (u.1 = n + 1 ∧ u.2.1 = cd_u fa n a ∧ u.2.2.1 = cd_u fb n b ∧ u.2.2.2 = cd_u fc n d) ∧ cd_cond a b d ∧ n < 14)) (cd_B (dC, dI) vwCl (va_A (cd_D dA o0 o1 o2 o3 o4 n lv fa fb fc fl x y w hL hH lx ly lw gx gy gw rm bx by_ bw ap aq) sz) (fun u : Nat × (Nat → Int) × (Nat → Int) × (Nat → Int) => (cd_D dA o0 o1 o2 o3 o4 u.1 lv u.2.1 u.2.2.1 u.2.2.2 fl x y w hL hH lx ly lw gx gy gw rm bx by_ bw ap aq))) (va_A (cd_D dA o0 o1 o2 o3 o4 n lv fa fb fc fl x y w hL hH lx ly lw gx gy gw rm bx by_ bw ap aq) sz)) 0 0 (va_A (cd_D dA o0 o1 o2 o3 o4 n lv fa fb fc fl x y w hL hH lx ly lw gx gy gw rm bx by_ bw ap aq) sz) := by
  refine Met.ofW (cc := cX0_add) (maxL := 4) (ret := (some .int)) (by decide) rfl ?_
  intro p e s m args below meth c s₁ B hml hv
  obtain ⟨rfl, hsz, hP, hK, hD0⟩ := hv
  have hx := B.exec
  have hb := B.bytes
  have hr := B.returns
  have hts := atoms_spec (ws := (ws_ yX0_add cX0_add 4 (some .int))) B.pre
  have hts : ∀ w ∈ lw_all, w.before _ s = true := fun w h => hts w (List.mem_cons_of_mem _ h)
  have hown : s.vm.findClass RX0 = some m.cls := findClass_of_methodNamed B.named
  have hlocks := B.notSynchronized
  subst hsz
  have hD := hD0.self (sz := s.heap.size)
  generalize hAe : va_A (cd_D dA o0 o1 o2 o3 o4 n lv fa fb fc fl x y w hL hH lx ly lw gx gy gw rm bx by_ bw ap aq) s.heap.size = A at hD ⊢
  have hA : ∀ q : Nat, s.heap.size ≤ q → A q := fun q h => by rw [← hAe]; exact Or.inr h
  have hS : va_S A s.heap s.heap [] := va_S.rf
  have hl := lv_entry ([.ref o0, .int (cd_I a), .int (cd_I b), .int (cd_I d)]) (n := 4) (Nat.le_of_ble_eq_true rfl)
  rw [lg_entry_eq]
  generalize (lg_sl ([.ref o0, .int (cd_I a), .int (cd_I b), .int (cd_I d)]) ++ List.replicate (4 - (lg_sl ([.ref o0, .int (cd_I a), .int (cd_I b), .int (cd_I d)])).length) Slot.unset).toArray = ls at hl ⊢
  have hl : lv_has ls 4 [(0, .ref o0), (1, .int (cd_I a)), (2, .int (cd_I b)), (3, .int (cd_I d))] := hl
  have hP : va_P (dC, dI) vwCl [(o0, .inr (0, [.int (cd_I ((n : Nat) : Int)), .ref o1, .ref o2, .ref o3, .int (cd_I ((lv : Nat) : Int)), .ref o4, .long (cd_L x), .long (cd_L y), .long (cd_L w), .int (cd_I hL), .int (cd_I hH), .long (cd_L lx), .long (cd_L ly), .long (cd_L lw), .long (cd_L gx), .long (cd_L gy), .long (cd_L gw), .int (cd_I rm), .long (cd_L bx), .long (cd_L by_), .long (cd_L bw), .int (cd_I ap), .int (cd_I aq)])), (o1, .inl (dA, 14, .inl (cd_c fa))), (o2, .inl (dA, 14, .inl (cd_c fb))), (o3, .inl (dA, 14, .inl (cd_c fc))), (o4, .inl (dA, 8, .inl (cd_n fl)))] s.heap := hP
  have hD : va_D A [(o0, .inr (0, [.int (cd_I ((n : Nat) : Int)), .ref o1, .ref o2, .ref o3, .int (cd_I ((lv : Nat) : Int)), .ref o4, .long (cd_L x), .long (cd_L y), .long (cd_L w), .int (cd_I hL), .int (cd_I hH), .long (cd_L lx), .long (cd_L ly), .long (cd_L lw), .long (cd_L gx), .long (cd_L gy), .long (cd_L gw), .int (cd_I rm), .long (cd_L bx), .long (cd_L by_), .long (cd_L bw), .int (cd_I ap), .int (cd_I aq)])), (o1, .inl (dA, 14, .inl (cd_c fa))), (o2, .inl (dA, 14, .inl (cd_c fb))), (o3, .inl (dA, 14, .inl (cd_c fc))), (o4, .inl (dA, 8, .inl (cd_n fl)))] := hD
  refine lv_iload_n hx hb dX0_add_0 rfl (lv_at hl 1 rfl) ?_
  refine lv_iload_n hx hb dX0_add_1 rfl (lv_at hl 2 rfl) ?_
  refine lv_iload_n hx hb dX0_add_2 rfl (lv_at hl 3 rfl) ?_
  refine cd_call0i (va_runS (As := [.int (cd_I a), .int (cd_I b), .int (cd_I d)]) (rest := []) ⟨hx, hb, hml, hown, hts⟩ (xd_isCondition l a b d ha hb1 hd) (va_cwS 3 hts (lw_S q104 q105 q19 q106) rfl rfl rfl (by decide +kernel) ⟨Nat.le_of_ble_eq_true rfl, Nat.le_of_ble_eq_true rfl⟩) ⟨cd_blT, cd_prT⟩ rfl rfl hl.1 rfl (lv_room (Nat.le_of_ble_eq_true rfl)) dX0_add_3 ⟨Nat.le_of_ble_eq_true rfl, Nat.le_of_ble_eq_true rfl⟩) hP hS (fun r H locs hq hP hS => ?_)
  rcases hq with ⟨rfl, hcd⟩ | ⟨rfl, hcd⟩
  · refine cd_if_eq (tgt := 18) hx hb ⟨by decide, by decide⟩ dX0_add_6 (by decide) (fun c_1 => absurd c_1 (by decide)) (fun c_1 => ?_)
    refine lv_aload_n hx hb dX0_add_9 rfl (lv_at hl 0 rfl) ?_
    refine cd_get0 (v := .int (cd_I ((n : Nat) : Int))) hx hb hts hown hK hP 0 rfl 0 (by decide) q29 rfl rfl dX0_add_10 ?_
    refine lv_bipush (v := cd_I 14) hx hb dX0_add_13 (by decide) ?_
    refine cd_icmp_lt (tgt := 20) hx hb ⟨by omega, by omega⟩ ⟨by decide, by decide⟩ dX0_add_15 (by decide) (fun c_2 => ?_) (fun c_2 => ?_)
    · refine lv_aload_n hx hb dX0_add_20 rfl (lv_at hl 0 rfl) ?_
      refine cd_get0 (v := .ref o1) hx hb hts hown hK hP 0 rfl 1 (by decide) q30 rfl rfl dX0_add_21 ?_
      refine lv_aload_n hx hb dX0_add_24 rfl (lv_at hl 0 rfl) ?_
      refine cd_get0 (v := .int (cd_I ((n : Nat) : Int))) hx hb hts hown hK hP 0 rfl 0 (by decide) q29 rfl rfl dX0_add_25 ?_
      refine lv_iload_n hx hb dX0_add_28 rfl (lv_at hl 1 rfl) ?_
      refine cd_iast (k := n) (v := a) hx hb hK hP hD hS 1 0 rfl rfl (by omega) (by decide) dX0_add_29 (fun H locs hP hD hS => ?_)
      have hP : va_P (dC, dI) vwCl [(o0, .inr (0, [.int (cd_I ((n : Nat) : Int)), .ref o1, .ref o2, .ref o3, .int (cd_I ((lv : Nat) : Int)), .ref o4, .long (cd_L x), .long (cd_L y), .long (cd_L w), .int (cd_I hL), .int (cd_I hH), .long (cd_L lx), .long (cd_L ly), .long (cd_L lw), .long (cd_L gx), .long (cd_L gy), .long (cd_L gw), .int (cd_I rm), .long (cd_L bx), .long (cd_L by_), .long (cd_L bw), .int (cd_I ap), .int (cd_I aq)])), (o1, .inl (dA, 14, .inl (cd_c (cd_u fa n a)))), (o2, .inl (dA, 14, .inl (cd_c fb))), (o3, .inl (dA, 14, .inl (cd_c fc))), (o4, .inl (dA, 8, .inl (cd_n fl)))] H := hP
      have hD : va_D A [(o0, .inr (0, [.int (cd_I ((n : Nat) : Int)), .ref o1, .ref o2, .ref o3, .int (cd_I ((lv : Nat) : Int)), .ref o4, .long (cd_L x), .long (cd_L y), .long (cd_L w), .int (cd_I hL), .int (cd_I hH), .long (cd_L lx), .long (cd_L ly), .long (cd_L lw), .long (cd_L gx), .long (cd_L gy), .long (cd_L gw), .int (cd_I rm), .long (cd_L bx), .long (cd_L by_), .long (cd_L bw), .int (cd_I ap), .int (cd_I aq)])), (o1, .inl (dA, 14, .inl (cd_c (cd_u fa n a)))), (o2, .inl (dA, 14, .inl (cd_c fb))), (o3, .inl (dA, 14, .inl (cd_c fc))), (o4, .inl (dA, 8, .inl (cd_n fl)))] := hD
      refine lv_aload_n hx hb dX0_add_30 rfl (lv_at hl 0 rfl) ?_
      refine cd_get0 (v := .ref o2) hx hb hts hown hK hP 0 rfl 2 (by decide) q31 rfl rfl dX0_add_31 ?_
      refine lv_aload_n hx hb dX0_add_34 rfl (lv_at hl 0 rfl) ?_
      refine cd_get0 (v := .int (cd_I ((n : Nat) : Int))) hx hb hts hown hK hP 0 rfl 0 (by decide) q29 rfl rfl dX0_add_35 ?_
      refine lv_iload_n hx hb dX0_add_38 rfl (lv_at hl 2 rfl) ?_
      refine cd_iast (k := n) (v := b) hx hb hK hP hD hS 2 0 rfl rfl (by omega) (by decide) dX0_add_39 (fun H locs hP hD hS => ?_)
      have hP : va_P (dC, dI) vwCl [(o0, .inr (0, [.int (cd_I ((n : Nat) : Int)), .ref o1, .ref o2, .ref o3, .int (cd_I ((lv : Nat) : Int)), .ref o4, .long (cd_L x), .long (cd_L y), .long (cd_L w), .int (cd_I hL), .int (cd_I hH), .long (cd_L lx), .long (cd_L ly), .long (cd_L lw), .long (cd_L gx), .long (cd_L gy), .long (cd_L gw), .int (cd_I rm), .long (cd_L bx), .long (cd_L by_), .long (cd_L bw), .int (cd_I ap), .int (cd_I aq)])), (o1, .inl (dA, 14, .inl (cd_c (cd_u fa n a)))), (o2, .inl (dA, 14, .inl (cd_c (cd_u fb n b)))), (o3, .inl (dA, 14, .inl (cd_c fc))), (o4, .inl (dA, 8, .inl (cd_n fl)))] H := hP
      have hD : va_D A [(o0, .inr (0, [.int (cd_I ((n : Nat) : Int)), .ref o1, .ref o2, .ref o3, .int (cd_I ((lv : Nat) : Int)), .ref o4, .long (cd_L x), .long (cd_L y), .long (cd_L w), .int (cd_I hL), .int (cd_I hH), .long (cd_L lx), .long (cd_L ly), .long (cd_L lw), .long (cd_L gx), .long (cd_L gy), .long (cd_L gw), .int (cd_I rm), .long (cd_L bx), .long (cd_L by_), .long (cd_L bw), .int (cd_I ap), .int (cd_I aq)])), (o1, .inl (dA, 14, .inl (cd_c (cd_u fa n a)))), (o2, .inl (dA, 14, .inl (cd_c (cd_u fb n b)))), (o3, .inl (dA, 14, .inl (cd_c fc))), (o4, .inl (dA, 8, .inl (cd_n fl)))] := hD
      refine lv_aload_n hx hb dX0_add_40 rfl (lv_at hl 0 rfl) ?_
      refine cd_get0 (v := .ref o3) hx hb hts hown hK hP 0 rfl 3 (by decide) q32 rfl rfl dX0_add_41 ?_
      refine lv_aload_n hx hb dX0_add_44 rfl (lv_at hl 0 rfl) ?_
      refine cd_get0 (v := .int (cd_I ((n : Nat) : Int))) hx hb hts hown hK hP 0 rfl 0 (by decide) q29 rfl rfl dX0_add_45 ?_
      refine lv_iload_n hx hb dX0_add_48 rfl (lv_at hl 3 rfl) ?_
      refine cd_iast (k := n) (v := d) hx hb hK hP hD hS 3 0 rfl rfl (by omega) (by decide) dX0_add_49 (fun H locs hP hD hS => ?_)
      have hP : va_P (dC, dI) vwCl [(o0, .inr (0, [.int (cd_I ((n : Nat) : Int)), .ref o1, .ref o2, .ref o3, .int (cd_I ((lv : Nat) : Int)), .ref o4, .long (cd_L x), .long (cd_L y), .long (cd_L w), .int (cd_I hL), .int (cd_I hH), .long (cd_L lx), .long (cd_L ly), .long (cd_L lw), .long (cd_L gx), .long (cd_L gy), .long (cd_L gw), .int (cd_I rm), .long (cd_L bx), .long (cd_L by_), .long (cd_L bw), .int (cd_I ap), .int (cd_I aq)])), (o1, .inl (dA, 14, .inl (cd_c (cd_u fa n a)))), (o2, .inl (dA, 14, .inl (cd_c (cd_u fb n b)))), (o3, .inl (dA, 14, .inl (cd_c (cd_u fc n d)))), (o4, .inl (dA, 8, .inl (cd_n fl)))] H := hP
      have hD : va_D A [(o0, .inr (0, [.int (cd_I ((n : Nat) : Int)), .ref o1, .ref o2, .ref o3, .int (cd_I ((lv : Nat) : Int)), .ref o4, .long (cd_L x), .long (cd_L y), .long (cd_L w), .int (cd_I hL), .int (cd_I hH), .long (cd_L lx), .long (cd_L ly), .long (cd_L lw), .long (cd_L gx), .long (cd_L gy), .long (cd_L gw), .int (cd_I rm), .long (cd_L bx), .long (cd_L by_), .long (cd_L bw), .int (cd_I ap), .int (cd_I aq)])), (o1, .inl (dA, 14, .inl (cd_c (cd_u fa n a)))), (o2, .inl (dA, 14, .inl (cd_c (cd_u fb n b)))), (o3, .inl (dA, 14, .inl (cd_c (cd_u fc n d)))), (o4, .inl (dA, 8, .inl (cd_n fl)))] := hD
      refine lv_aload_n hx hb dX0_add_50 rfl (lv_at hl 0 rfl) ?_
      refine lv_dup hx hb dX0_add_51 rfl ?_
      refine cd_get0 (v := .int (cd_I ((n : Nat) : Int))) hx hb hts hown hK hP 0 rfl 0 (by decide) q29 rfl rfl dX0_add_52 ?_
      refine lv_iconst (v := cd_I 1) hx hb dX0_add_55 rfl ?_
      refine cd_iadd hx hb dX0_add_56 ?_
      refine cd_put0 (v := .int (cd_I (((n : Nat) : Int) + 1))) (ty := .int) hx hb hts hown hK hP hD hS 0 rfl 0 (by decide) q29 rfl rfl rfl rfl rfl (Nat.le_of_ble_eq_true rfl) dX0_add_57 (fun H locs hP hD hS => ?_)
      have hP : va_P (dC, dI) vwCl [(o0, .inr (0, [.int (cd_I (((n : Nat) : Int) + 1)), .ref o1, .ref o2, .ref o3, .int (cd_I ((lv : Nat) : Int)), .ref o4, .long (cd_L x), .long (cd_L y), .long (cd_L w), .int (cd_I hL), .int (cd_I hH), .long (cd_L lx), .long (cd_L ly), .long (cd_L lw), .long (cd_L gx), .long (cd_L gy), .long (cd_L gw), .int (cd_I rm), .long (cd_L bx), .long (cd_L by_), .long (cd_L bw), .int (cd_I ap), .int (cd_I aq)])), (o1, .inl (dA, 14, .inl (cd_c (cd_u fa n a)))), (o2, .inl (dA, 14, .inl (cd_c (cd_u fb n b)))), (o3, .inl (dA, 14, .inl (cd_c (cd_u fc n d)))), (o4, .inl (dA, 8, .inl (cd_n fl)))] H := hP
      have hD : va_D A [(o0, .inr (0, [.int (cd_I (((n : Nat) : Int) + 1)), .ref o1, .ref o2, .ref o3, .int (cd_I ((lv : Nat) : Int)), .ref o4, .long (cd_L x), .long (cd_L y), .long (cd_L w), .int (cd_I hL), .int (cd_I hH), .long (cd_L lx), .long (cd_L ly), .long (cd_L lw), .long (cd_L gx), .long (cd_L gy), .long (cd_L gw), .int (cd_I rm), .long (cd_L bx), .long (cd_L by_), .long (cd_L bw), .int (cd_I ap), .int (cd_I aq)])), (o1, .inl (dA, 14, .inl (cd_c (cd_u fa n a)))), (o2, .inl (dA, 14, .inl (cd_c (cd_u fb n b)))), (o3, .inl (dA, 14, .inl (cd_c (cd_u fc n d)))), (o4, .inl (dA, 8, .inl (cd_n fl)))] := hD
      refine lv_aload_n hx hb dX0_add_60 rfl (lv_at hl 0 rfl) ?_
      refine cd_get0 (v := .int (cd_I (((n : Nat) : Int) + 1))) hx hb hts hown hK hP 0 rfl 0 (by decide) q29 rfl rfl dX0_add_61 ?_
      refine lv_iconst (v := cd_I 4) hx hb dX0_add_64 rfl ?_
      refine cd_isub hx hb dX0_add_65 ?_
      exact W.iret (v := cd_I ((((n : Nat) : Int) + 1) - 4)) hx hb hr (fun t ht hW => ⟨⟨cd_I ((((n : Nat) : Int) + 1) - 4), (n + 1, (cd_u fa n a), (cd_u fb n b), (cd_u fc n d)), rfl, Or.inr ⟨rfl, ⟨rfl, rfl, rfl, rfl⟩, hcd, by omega⟩, ⟨by rw [ht]; exact hP, hD⟩⟩, hS.F ht⟩) hS.2.2 dX0_add_66
    · refine lv_iconst (v := cd_I (-1)) hx hb dX0_add_18 rfl ?_
      exact W.iret (v := cd_I (-1)) hx hb hr (fun t ht hW => ⟨⟨cd_I (-1), (n, fa, fb, fc), rfl, Or.inl ⟨rfl, ⟨rfl, rfl, rfl, rfl⟩, by first | exact Or.inl hcd | (right; omega)⟩, ⟨by rw [ht]; exact hP, hD⟩⟩, hS.F ht⟩) hS.2.2 dX0_add_19
  · refine cd_if_eq (tgt := 18) hx hb ⟨by decide, by decide⟩ dX0_add_6 (by decide) (fun c_3 => ?_) (fun c_3 => absurd c_3 (by decide))
    refine lv_iconst (v := cd_I (-1)) hx hb dX0_add_18 rfl ?_
    exact W.iret (v := cd_I (-1)) hx hb hr (fun t ht hW => ⟨⟨cd_I (-1), (n, fa, fb, fc), rfl, Or.inl ⟨rfl, ⟨rfl, rfl, rfl, rfl⟩, by first | exact Or.inl hcd | (right; omega)⟩, ⟨by rw [ht]; exact hP, hD⟩⟩, hS.F ht⟩) hS.2.2 dX0_add_19

set_option maxHeartbeats 4000000 in
set_option maxRecDepth 100000 in
/-- push -/
theorem xd_push (l : Launch) (dC : Nat → ClassId) (dI : Nat → Nat → Nat) (dA : ClassId) (o0 o1 o2 o3 o4 n lv : Nat) (fa fb fc : Nat → Int) (fl : Nat → Nat) (x y w hL hH lx ly lw gx gy gw rm bx by_ bw ap aq : Int) (sz : Nat) (hlv : lv ≤ 8) : Met l yX0_push (ws_ yX0_push cX0_push 1 (some .int)) ({ frames := 0, cells := 0, slots := 0, locals := 0 }) (va_Pc [.ref o0] (cd_W1 (dC, dI) vwCl [(dA, .int)] (cd_D dA o0 o1 o2 o3 o4 n lv fa fb fc fl x y w hL hH lx ly lw gx gy gw rm bx by_ bw ap aq) sz)) (va_Qi (fun (r : Int32) (u : Nat × (Nat → Nat)) => (r = cd_I (-1) ∧ (u.1 = lv ∧ u.2 = fl) ∧ 8 ≤ lv) ∨ (r = cd_I ((lv : Int) + 1) ∧ (u.1 = lv + 1 ∧ u.2 = cd_un fl lv n) ∧ lv < 8)) (cd_B (dC, dI) vwCl (va_A (cd_D dA o0 o1 o2 o3 o4 n lv fa fb fc fl x y w hL hH lx ly lw gx gy gw rm bx by_ bw ap aq) sz) (fun u : Nat × (Nat → Nat) => (cd_D dA o0 o1 o2 o3 o4 n u.1 fa fb fc u.2 x y w hL hH lx ly lw gx gy gw rm bx by_ bw ap aq))) (va_A (cd_D dA o0 o1 o2 o3 o4 n lv fa fb fc fl x y w hL hH lx ly lw gx gy gw rm bx by_ bw ap aq) sz)) 0 0 (va_A (cd_D dA o0 o1 o2 o3 o4 n lv fa fb fc fl x y w hL hH lx ly lw gx gy gw rm bx by_ bw ap aq) sz) := by
  refine Met.ofW (cc := cX0_push) (maxL := 1) (ret := (some .int)) (by decide) rfl ?_
  intro p e s m args below meth c s₁ B hml hv
  obtain ⟨rfl, hsz, hP, hK, hD0⟩ := hv
  have hx := B.exec
  have hb := B.bytes
  have hr := B.returns
  have hts := atoms_spec (ws := (ws_ yX0_push cX0_push 1 (some .int))) B.pre
  have hts : ∀ w ∈ lw_all, w.before _ s = true := fun w h => hts w (List.mem_cons_of_mem _ h)
  have hown : s.vm.findClass RX0 = some m.cls := findClass_of_methodNamed B.named
  have hlocks := B.notSynchronized
  subst hsz
  have hD := hD0.self (sz := s.heap.size)
  generalize hAe : va_A (cd_D dA o0 o1 o2 o3 o4 n lv fa fb fc fl x y w hL hH lx ly lw gx gy gw rm bx by_ bw ap aq) s.heap.size = A at hD ⊢
  have hA : ∀ q : Nat, s.heap.size ≤ q → A q := fun q h => by rw [← hAe]; exact Or.inr h
  have hS : va_S A s.heap s.heap [] := va_S.rf
  have hl := lv_entry ([.ref o0]) (n := 1) (Nat.le_of_ble_eq_true rfl)
  rw [lg_entry_eq]
  generalize (lg_sl ([.ref o0]) ++ List.replicate (1 - (lg_sl ([.ref o0])).length) Slot.unset).toArray = ls at hl ⊢
  have hl : lv_has ls 1 [(0, .ref o0)] := hl
  have hP : va_P (dC, dI) vwCl [(o0, .inr (0, [.int (cd_I ((n : Nat) : Int)), .ref o1, .ref o2, .ref o3, .int (cd_I ((lv : Nat) : Int)), .ref o4, .long (cd_L x), .long (cd_L y), .long (cd_L w), .int (cd_I hL), .int (cd_I hH), .long (cd_L lx), .long (cd_L ly), .long (cd_L lw), .long (cd_L gx), .long (cd_L gy), .long (cd_L gw), .int (cd_I rm), .long (cd_L bx), .long (cd_L by_), .long (cd_L bw), .int (cd_I ap), .int (cd_I aq)])), (o1, .inl (dA, 14, .inl (cd_c fa))), (o2, .inl (dA, 14, .inl (cd_c fb))), (o3, .inl (dA, 14, .inl (cd_c fc))), (o4, .inl (dA, 8, .inl (cd_n fl)))] s.heap := hP
  have hD : va_D A [(o0, .inr (0, [.int (cd_I ((n : Nat) : Int)), .ref o1, .ref o2, .ref o3, .int (cd_I ((lv : Nat) : Int)), .ref o4, .long (cd_L x), .long (cd_L y), .long (cd_L w), .int (cd_I hL), .int (cd_I hH), .long (cd_L lx), .long (cd_L ly), .long (cd_L lw), .long (cd_L gx), .long (cd_L gy), .long (cd_L gw), .int (cd_I rm), .long (cd_L bx), .long (cd_L by_), .long (cd_L bw), .int (cd_I ap), .int (cd_I aq)])), (o1, .inl (dA, 14, .inl (cd_c fa))), (o2, .inl (dA, 14, .inl (cd_c fb))), (o3, .inl (dA, 14, .inl (cd_c fc))), (o4, .inl (dA, 8, .inl (cd_n fl)))] := hD
  refine lv_aload_n hx hb dX0_push_0 rfl (lv_at hl 0 rfl) ?_
  refine cd_get0 (v := .int (cd_I ((lv : Nat) : Int))) hx hb hts hown hK hP 0 rfl 4 (by decide) q33 rfl rfl dX0_push_1 ?_
  refine lv_bipush (v := cd_I 8) hx hb dX0_push_4 (by decide) ?_
  refine cd_icmp_lt (tgt := 11) hx hb ⟨by omega, by omega⟩ ⟨by decide, by decide⟩ dX0_push_6 (by decide) (fun c_1 => ?_) (fun c_1 => ?_)
  · refine lv_aload_n hx hb dX0_push_11 rfl (lv_at hl 0 rfl) ?_
    refine cd_get0 (v := .ref o4) hx hb hts hown hK hP 0 rfl 5 (by decide) q34 rfl rfl dX0_push_12 ?_
    refine lv_aload_n hx hb dX0_push_15 rfl (lv_at hl 0 rfl) ?_
    refine cd_get0 (v := .int (cd_I ((lv : Nat) : Int))) hx hb hts hown hK hP 0 rfl 4 (by decide) q33 rfl rfl dX0_push_16 ?_
    refine lv_aload_n hx hb dX0_push_19 rfl (lv_at hl 0 rfl) ?_
    refine cd_get0 (v := .int (cd_I ((n : Nat) : Int))) hx hb hts hown hK hP 0 rfl 0 (by decide) q29 rfl rfl dX0_push_20 ?_
    refine cd_iastn (k := lv) (v := n) hx hb hK hP hD hS 4 0 rfl rfl (by omega) (by decide) dX0_push_23 (fun H locs hP hD hS => ?_)
    have hP : va_P (dC, dI) vwCl [(o0, .inr (0, [.int (cd_I ((n : Nat) : Int)), .ref o1, .ref o2, .ref o3, .int (cd_I ((lv : Nat) : Int)), .ref o4, .long (cd_L x), .long (cd_L y), .long (cd_L w), .int (cd_I hL), .int (cd_I hH), .long (cd_L lx), .long (cd_L ly), .long (cd_L lw), .long (cd_L gx), .long (cd_L gy), .long (cd_L gw), .int (cd_I rm), .long (cd_L bx), .long (cd_L by_), .long (cd_L bw), .int (cd_I ap), .int (cd_I aq)])), (o1, .inl (dA, 14, .inl (cd_c fa))), (o2, .inl (dA, 14, .inl (cd_c fb))), (o3, .inl (dA, 14, .inl (cd_c fc))), (o4, .inl (dA, 8, .inl (cd_n (cd_un fl lv n))))] H := hP
    have hD : va_D A [(o0, .inr (0, [.int (cd_I ((n : Nat) : Int)), .ref o1, .ref o2, .ref o3, .int (cd_I ((lv : Nat) : Int)), .ref o4, .long (cd_L x), .long (cd_L y), .long (cd_L w), .int (cd_I hL), .int (cd_I hH), .long (cd_L lx), .long (cd_L ly), .long (cd_L lw), .long (cd_L gx), .long (cd_L gy), .long (cd_L gw), .int (cd_I rm), .long (cd_L bx), .long (cd_L by_), .long (cd_L bw), .int (cd_I ap), .int (cd_I aq)])), (o1, .inl (dA, 14, .inl (cd_c fa))), (o2, .inl (dA, 14, .inl (cd_c fb))), (o3, .inl (dA, 14, .inl (cd_c fc))), (o4, .inl (dA, 8, .inl (cd_n (cd_un fl lv n))))] := hD
    refine lv_aload_n hx hb dX0_push_24 rfl (lv_at hl 0 rfl) ?_
    refine lv_dup hx hb dX0_push_25 rfl ?_
    refine cd_get0 (v := .int (cd_I ((lv : Nat) : Int))) hx hb hts hown hK hP 0 rfl 4 (by decide) q33 rfl rfl dX0_push_26 ?_
    refine lv_iconst (v := cd_I 1) hx hb dX0_push_29 rfl ?_
    refine cd_iadd hx hb dX0_push_30 ?_
    refine cd_put0 (v := .int (cd_I (((lv : Nat) : Int) + 1))) (ty := .int) hx hb hts hown hK hP hD hS 0 rfl 4 (by decide) q33 rfl rfl rfl rfl rfl (Nat.le_of_ble_eq_true rfl) dX0_push_31 (fun H locs hP hD hS => ?_)
    have hP : va_P (dC, dI) vwCl [(o0, .inr (0, [.int (cd_I ((n : Nat) : Int)), .ref o1, .ref o2, .ref o3, .int (cd_I (((lv : Nat) : Int) + 1)), .ref o4, .long (cd_L x), .long (cd_L y), .long (cd_L w), .int (cd_I hL), .int (cd_I hH), .long (cd_L lx), .long (cd_L ly), .long (cd_L lw), .long (cd_L gx), .long (cd_L gy), .long (cd_L gw), .int (cd_I rm), .long (cd_L bx), .long (cd_L by_), .long (cd_L bw), .int (cd_I ap), .int (cd_I aq)])), (o1, .inl (dA, 14, .inl (cd_c fa))), (o2, .inl (dA, 14, .inl (cd_c fb))), (o3, .inl (dA, 14, .inl (cd_c fc))), (o4, .inl (dA, 8, .inl (cd_n (cd_un fl lv n))))] H := hP
    have hD : va_D A [(o0, .inr (0, [.int (cd_I ((n : Nat) : Int)), .ref o1, .ref o2, .ref o3, .int (cd_I (((lv : Nat) : Int) + 1)), .ref o4, .long (cd_L x), .long (cd_L y), .long (cd_L w), .int (cd_I hL), .int (cd_I hH), .long (cd_L lx), .long (cd_L ly), .long (cd_L lw), .long (cd_L gx), .long (cd_L gy), .long (cd_L gw), .int (cd_I rm), .long (cd_L bx), .long (cd_L by_), .long (cd_L bw), .int (cd_I ap), .int (cd_I aq)])), (o1, .inl (dA, 14, .inl (cd_c fa))), (o2, .inl (dA, 14, .inl (cd_c fb))), (o3, .inl (dA, 14, .inl (cd_c fc))), (o4, .inl (dA, 8, .inl (cd_n (cd_un fl lv n))))] := hD
    refine lv_aload_n hx hb dX0_push_34 rfl (lv_at hl 0 rfl) ?_
    refine cd_get0 (v := .int (cd_I (((lv : Nat) : Int) + 1))) hx hb hts hown hK hP 0 rfl 4 (by decide) q33 rfl rfl dX0_push_35 ?_
    exact W.iret (v := cd_I (((lv : Nat) : Int) + 1)) hx hb hr (fun t ht hW => ⟨⟨cd_I (((lv : Nat) : Int) + 1), (lv + 1, (cd_un fl lv n)), rfl, Or.inr ⟨rfl, ⟨rfl, rfl⟩, by omega⟩, ⟨by rw [ht]; exact hP, hD⟩⟩, hS.F ht⟩) hS.2.2 dX0_push_38
  · refine lv_iconst (v := cd_I (-1)) hx hb dX0_push_9 rfl ?_
    exact W.iret (v := cd_I (-1)) hx hb hr (fun t ht hW => ⟨⟨cd_I (-1), (lv, fl), rfl, Or.inl ⟨rfl, ⟨rfl, rfl⟩, by omega⟩, ⟨by rw [ht]; exact hP, hD⟩⟩, hS.F ht⟩) hS.2.2 dX0_push_10

set_option maxHeartbeats 4000000 in
set_option maxRecDepth 100000 in
/-- pop -/
theorem xd_pop (l : Launch) (dC : Nat → ClassId) (dI : Nat → Nat → Nat) (dA : ClassId) (o0 o1 o2 o3 o4 n lv : Nat) (fa fb fc : Nat → Int) (fl : Nat → Nat) (x y w hL hH lx ly lw gx gy gw rm bx by_ bw ap aq : Int) (sz : Nat) (hlv : lv ≤ 8) : Met l yX0_pop (ws_ yX0_pop cX0_pop 1 (some .int)) ({ frames := 0, cells := 0, slots := 0, locals := 0 }) (va_Pc [.ref o0] (cd_W1 (dC, dI) vwCl [(dA, .int)] (cd_D dA o0 o1 o2 o3 o4 n lv fa fb fc fl x y w hL hH lx ly lw gx gy gw rm bx by_ bw ap aq) sz)) (va_Qi (fun (r : Int32) (u : Nat × Nat) => (r = cd_I (-1) ∧ (u.1 = n ∧ u.2 = lv) ∧ lv ≤ 1) ∨ (r = cd_I (((fl (lv - 1) : Nat) : Int) - 4) ∧ (u.1 = fl (lv - 1) ∧ u.2 = lv - 1) ∧ 1 < lv)) (cd_B (dC, dI) vwCl (va_A (cd_D dA o0 o1 o2 o3 o4 n lv fa fb fc fl x y w hL hH lx ly lw gx gy gw rm bx by_ bw ap aq) sz) (fun u : Nat × Nat => (cd_D dA o0 o1 o2 o3 o4 u.1 u.2 fa fb fc fl x y w hL hH lx ly lw gx gy gw rm bx by_ bw ap aq))) (va_A (cd_D dA o0 o1 o2 o3 o4 n lv fa fb fc fl x y w hL hH lx ly lw gx gy gw rm bx by_ bw ap aq) sz)) 0 0 (va_A (cd_D dA o0 o1 o2 o3 o4 n lv fa fb fc fl x y w hL hH lx ly lw gx gy gw rm bx by_ bw ap aq) sz) := by
  refine Met.ofW (cc := cX0_pop) (maxL := 1) (ret := (some .int)) (by decide) rfl ?_
  intro p e s m args below meth c s₁ B hml hv
  obtain ⟨rfl, hsz, hP, hK, hD0⟩ := hv
  have hx := B.exec
  have hb := B.bytes
  have hr := B.returns
  have hts := atoms_spec (ws := (ws_ yX0_pop cX0_pop 1 (some .int))) B.pre
  have hts : ∀ w ∈ lw_all, w.before _ s = true := fun w h => hts w (List.mem_cons_of_mem _ h)
  have hown : s.vm.findClass RX0 = some m.cls := findClass_of_methodNamed B.named
  have hlocks := B.notSynchronized
  subst hsz
  have hD := hD0.self (sz := s.heap.size)
  generalize hAe : va_A (cd_D dA o0 o1 o2 o3 o4 n lv fa fb fc fl x y w hL hH lx ly lw gx gy gw rm bx by_ bw ap aq) s.heap.size = A at hD ⊢
  have hA : ∀ q : Nat, s.heap.size ≤ q → A q := fun q h => by rw [← hAe]; exact Or.inr h
  have hS : va_S A s.heap s.heap [] := va_S.rf
  have hl := lv_entry ([.ref o0]) (n := 1) (Nat.le_of_ble_eq_true rfl)
  rw [lg_entry_eq]
  generalize (lg_sl ([.ref o0]) ++ List.replicate (1 - (lg_sl ([.ref o0])).length) Slot.unset).toArray = ls at hl ⊢
  have hl : lv_has ls 1 [(0, .ref o0)] := hl
  have hP : va_P (dC, dI) vwCl [(o0, .inr (0, [.int (cd_I ((n : Nat) : Int)), .ref o1, .ref o2, .ref o3, .int (cd_I ((lv : Nat) : Int)), .ref o4, .long (cd_L x), .long (cd_L y), .long (cd_L w), .int (cd_I hL), .int (cd_I hH), .long (cd_L lx), .long (cd_L ly), .long (cd_L lw), .long (cd_L gx), .long (cd_L gy), .long (cd_L gw), .int (cd_I rm), .long (cd_L bx), .long (cd_L by_), .long (cd_L bw), .int (cd_I ap), .int (cd_I aq)])), (o1, .inl (dA, 14, .inl (cd_c fa))), (o2, .inl (dA, 14, .inl (cd_c fb))), (o3, .inl (dA, 14, .inl (cd_c fc))), (o4, .inl (dA, 8, .inl (cd_n fl)))] s.heap := hP
  have hD : va_D A [(o0, .inr (0, [.int (cd_I ((n : Nat) : Int)), .ref o1, .ref o2, .ref o3, .int (cd_I ((lv : Nat) : Int)), .ref o4, .long (cd_L x), .long (cd_L y), .long (cd_L w), .int (cd_I hL), .int (cd_I hH), .long (cd_L lx), .long (cd_L ly), .long (cd_L lw), .long (cd_L gx), .long (cd_L gy), .long (cd_L gw), .int (cd_I rm), .long (cd_L bx), .long (cd_L by_), .long (cd_L bw), .int (cd_I ap), .int (cd_I aq)])), (o1, .inl (dA, 14, .inl (cd_c fa))), (o2, .inl (dA, 14, .inl (cd_c fb))), (o3, .inl (dA, 14, .inl (cd_c fc))), (o4, .inl (dA, 8, .inl (cd_n fl)))] := hD
  refine lv_aload_n hx hb dX0_pop_0 rfl (lv_at hl 0 rfl) ?_
  refine cd_get0 (v := .int (cd_I ((lv : Nat) : Int))) hx hb hts hown hK hP 0 rfl 4 (by decide) q33 rfl rfl dX0_pop_1 ?_
  refine lv_iconst (v := cd_I 1) hx hb dX0_pop_4 rfl ?_
  refine cd_icmp_gt (tgt := 10) hx hb ⟨by omega, by omega⟩ ⟨by decide, by decide⟩ dX0_pop_5 (by decide) (fun c_1 => ?_) (fun c_1 => ?_)
  · refine lv_aload_n hx hb dX0_pop_10 rfl (lv_at hl 0 rfl) ?_
    refine lv_dup hx hb dX0_pop_11 rfl ?_
    refine cd_get0 (v := .int (cd_I ((lv : Nat) : Int))) hx hb hts hown hK hP 0 rfl 4 (by decide) q33 rfl rfl dX0_pop_12 ?_
    refine lv_iconst (v := cd_I 1) hx hb dX0_pop_15 rfl ?_
    refine cd_isub hx hb dX0_pop_16 ?_
    refine cd_toI (y := ((lv - 1 : Nat) : Int)) (by omega) ?_
    refine cd_put0 (v := .int (cd_I ((lv - 1 : Nat) : Int))) (ty := .int) hx hb hts hown hK hP hD hS 0 rfl 4 (by decide) q33 rfl rfl rfl rfl rfl (Nat.le_of_ble_eq_true rfl) dX0_pop_17 (fun H locs hP hD hS => ?_)
    have hP : va_P (dC, dI) vwCl [(o0, .inr (0, [.int (cd_I ((n : Nat) : Int)), .ref o1, .ref o2, .ref o3, .int (cd_I ((lv - 1 : Nat) : Int)), .ref o4, .long (cd_L x), .long (cd_L y), .long (cd_L w), .int (cd_I hL), .int (cd_I hH), .long (cd_L lx), .long (cd_L ly), .long (cd_L lw), .long (cd_L gx), .long (cd_L gy), .long (cd_L gw), .int (cd_I rm), .long (cd_L bx), .long (cd_L by_), .long (cd_L bw), .int (cd_I ap), .int (cd_I aq)])), (o1, .inl (dA, 14, .inl (cd_c fa))), (o2, .inl (dA, 14, .inl (cd_c fb))), (o3, .inl (dA, 14, .inl (cd_c fc))), (o4, .inl (dA, 8, .inl (cd_n fl)))] H := hP
    have hD : va_D A [(o0, .inr (0, [.int (cd_I ((n : Nat) : Int)), .ref o1, .ref o2, .ref o3, .int (cd_I ((lv - 1 : Nat) : Int)), .ref o4, .long (cd_L x), .long (cd_L y), .long (cd_L w), .int (cd_I hL), .int (cd_I hH), .long (cd_L lx), .long (cd_L ly), .long (cd_L lw), .long (cd_L gx), .long (cd_L gy), .long (cd_L gw), .int (cd_I rm), .long (cd_L bx), .long (cd_L by_), .long (cd_L bw), .int (cd_I ap), .int (cd_I aq)])), (o1, .inl (dA, 14, .inl (cd_c fa))), (o2, .inl (dA, 14, .inl (cd_c fb))), (o3, .inl (dA, 14, .inl (cd_c fc))), (o4, .inl (dA, 8, .inl (cd_n fl)))] := hD
    refine lv_aload_n hx hb dX0_pop_20 rfl (lv_at hl 0 rfl) ?_
    refine lv_aload_n hx hb dX0_pop_21 rfl (lv_at hl 0 rfl) ?_
    refine cd_get0 (v := .ref o4) hx hb hts hown hK hP 0 rfl 5 (by decide) q34 rfl rfl dX0_pop_22 ?_
    refine lv_aload_n hx hb dX0_pop_25 rfl (lv_at hl 0 rfl) ?_
    refine cd_get0 (v := .int (cd_I ((lv - 1 : Nat) : Int))) hx hb hts hown hK hP 0 rfl 4 (by decide) q33 rfl rfl dX0_pop_26 ?_
    refine cd_ialdn (k := (lv - 1)) hx hb hK hP 4 0 rfl rfl (by omega) (by decide) dX0_pop_29 ?_
    refine cd_put0 (v := .int (cd_I ((fl (lv - 1) : Nat) : Int))) (ty := .int) hx hb hts hown hK hP hD hS 0 rfl 0 (by decide) q29 rfl rfl rfl rfl rfl (Nat.le_of_ble_eq_true rfl) dX0_pop_30 (fun H locs hP hD hS => ?_)
    have hP : va_P (dC, dI) vwCl [(o0, .inr (0, [.int (cd_I ((fl (lv - 1) : Nat) : Int)), .ref o1, .ref o2, .ref o3, .int (cd_I ((lv - 1 : Nat) : Int)), .ref o4, .long (cd_L x), .long (cd_L y), .long (cd_L w), .int (cd_I hL), .int (cd_I hH), .long (cd_L lx), .long (cd_L ly), .long (cd_L lw), .long (cd_L gx), .long (cd_L gy), .long (cd_L gw), .int (cd_I rm), .long (cd_L bx), .long (cd_L by_), .long (cd_L bw), .int (cd_I ap), .int (cd_I aq)])), (o1, .inl (dA, 14, .inl (cd_c fa))), (o2, .inl (dA, 14, .inl (cd_c fb))), (o3, .inl (dA, 14, .inl (cd_c fc))), (o4, .inl (dA, 8, .inl (cd_n fl)))] H := hP
    have hD : va_D A [(o0, .inr (0, [.int (cd_I ((fl (lv - 1) : Nat) : Int)), .ref o1, .ref o2, .ref o3, .int (cd_I ((lv - 1 : Nat) : Int)), .ref o4, .long (cd_L x), .long (cd_L y), .long (cd_L w), .int (cd_I hL), .int (cd_I hH), .long (cd_L lx), .long (cd_L ly), .long (cd_L lw), .long (cd_L gx), .long (cd_L gy), .long (cd_L gw), .int (cd_I rm), .long (cd_L bx), .long (cd_L by_), .long (cd_L bw), .int (cd_I ap), .int (cd_I aq)])), (o1, .inl (dA, 14, .inl (cd_c fa))), (o2, .inl (dA, 14, .inl (cd_c fb))), (o3, .inl (dA, 14, .inl (cd_c fc))), (o4, .inl (dA, 8, .inl (cd_n fl)))] := hD
    refine lv_aload_n hx hb dX0_pop_33 rfl (lv_at hl 0 rfl) ?_
    refine cd_get0 (v := .int (cd_I ((fl (lv - 1) : Nat) : Int))) hx hb hts hown hK hP 0 rfl 0 (by decide) q29 rfl rfl dX0_pop_34 ?_
    refine lv_iconst (v := cd_I 4) hx hb dX0_pop_37 rfl ?_
    refine cd_isub hx hb dX0_pop_38 ?_
    exact W.iret (v := cd_I (((fl (lv - 1) : Nat) : Int) - 4)) hx hb hr (fun t ht hW => ⟨⟨cd_I (((fl (lv - 1) : Nat) : Int) - 4), (fl (lv - 1), lv - 1), rfl, Or.inr ⟨rfl, ⟨rfl, rfl⟩, by omega⟩, ⟨by rw [ht]; exact hP, hD⟩⟩, hS.F ht⟩) hS.2.2 dX0_pop_39
  · refine lv_iconst (v := cd_I (-1)) hx hb dX0_pop_8 rfl ?_
    exact W.iret (v := cd_I (-1)) hx hb hr (fun t ht hW => ⟨⟨cd_I (-1), (n, lv), rfl, Or.inl ⟨rfl, ⟨rfl, rfl⟩, by omega⟩, ⟨by rw [ht]; exact hP, hD⟩⟩, hS.F ht⟩) hS.2.2 dX0_pop_9

set_option maxHeartbeats 4000000 in
set_option maxRecDepth 100000 in
/-- possible -/
theorem xd_possible (l : Launch) (dC : Nat → ClassId) (dI : Nat → Nat → Nat) (dA : ClassId) (o0 o1 o2 o3 o4 n lv : Nat) (fa fb fc : Nat → Int) (fl : Nat → Nat) (x y w hL hH lx ly lw gx gy gw rm bx by_ bw ap aq : Int) (sz : Nat) (hok : cd_ok fa fb fc n) : Met l yX0_possible (ws_ yX0_possible cX0_possible 1 (some .int)) ({ frames := 5, cells := 0, slots := 0, locals := 130 }) (va_Pc [.ref o0] (cd_W1 (dC, dI) vwCl [(dA, .int)] (cd_D dA o0 o1 o2 o3 o4 n lv fa fb fc fl x y w hL hH lx ly lw gx gy gw rm bx by_ bw ap aq) sz)) (va_Qi (fun (r : Int32) (u : Int × Int × Int × Int × Int × Int × Int × Int × Int × Int × Int) => (r = cd_I 1 ∧ cd_opt fa fb fc (cd_S n (-1)) 0 0 u.1 u.2.1 u.2.2.1 ∧ cd_corn fa fb fc (cd_S n (-1)) u.1 u.2.1 u.2.2.1) ∨ (r = cd_I 0 ∧ ∀ X Y W : Int, ¬ cd_feas fa fb fc (cd_S n (-1)) X Y W)) (cd_B (dC, dI) vwCl (va_A (cd_D dA o0 o1 o2 o3 o4 n lv fa fb fc fl x y w hL hH lx ly lw gx gy gw rm bx by_ bw ap aq) sz) (fun u : Int × Int × Int × Int × Int × Int × Int × Int × Int × Int × Int => (cd_D dA o0 o1 o2 o3 o4 n lv fa fb fc fl u.1 u.2.1 u.2.2.1 u.2.2.2.1 u.2.2.2.2.1 u.2.2.2.2.2.1 u.2.2.2.2.2.2.1 u.2.2.2.2.2.2.2.1 u.2.2.2.2.2.2.2.2.1 u.2.2.2.2.2.2.2.2.2.1 u.2.2.2.2.2.2.2.2.2.2 rm bx by_ bw ap aq))) (va_A (cd_D dA o0 o1 o2 o3 o4 n lv fa fb fc fl x y w hL hH lx ly lw gx gy gw rm bx by_ bw ap aq) sz)) 0 0 (va_A (cd_D dA o0 o1 o2 o3 o4 n lv fa fb fc fl x y w hL hH lx ly lw gx gy gw rm bx by_ bw ap aq) sz) := by
  refine Met.ofW (cc := cX0_possible) (maxL := 1) (ret := (some .int)) (by decide) rfl ?_
  intro p e s m args below meth c s₁ B hml hv
  obtain ⟨rfl, hsz, hP, hK, hD0⟩ := hv
  have hx := B.exec
  have hb := B.bytes
  have hr := B.returns
  have hts := atoms_spec (ws := (ws_ yX0_possible cX0_possible 1 (some .int))) B.pre
  have hts : ∀ w ∈ lw_all, w.before _ s = true := fun w h => hts w (List.mem_cons_of_mem _ h)
  have hown : s.vm.findClass RX0 = some m.cls := findClass_of_methodNamed B.named
  have hlocks := B.notSynchronized
  subst hsz
  have hD := hD0.self (sz := s.heap.size)
  generalize hAe : va_A (cd_D dA o0 o1 o2 o3 o4 n lv fa fb fc fl x y w hL hH lx ly lw gx gy gw rm bx by_ bw ap aq) s.heap.size = A at hD ⊢
  have hA : ∀ q : Nat, s.heap.size ≤ q → A q := fun q h => by rw [← hAe]; exact Or.inr h
  have hS : va_S A s.heap s.heap [] := va_S.rf
  have hl := lv_entry ([.ref o0]) (n := 1) (Nat.le_of_ble_eq_true rfl)
  rw [lg_entry_eq]
  generalize (lg_sl ([.ref o0]) ++ List.replicate (1 - (lg_sl ([.ref o0])).length) Slot.unset).toArray = ls at hl ⊢
  have hl : lv_has ls 1 [(0, .ref o0)] := hl
  have hP : va_P (dC, dI) vwCl [(o0, .inr (0, [.int (cd_I ((n : Nat) : Int)), .ref o1, .ref o2, .ref o3, .int (cd_I ((lv : Nat) : Int)), .ref o4, .long (cd_L x), .long (cd_L y), .long (cd_L w), .int (cd_I hL), .int (cd_I hH), .long (cd_L lx), .long (cd_L ly), .long (cd_L lw), .long (cd_L gx), .long (cd_L gy), .long (cd_L gw), .int (cd_I rm), .long (cd_L bx), .long (cd_L by_), .long (cd_L bw), .int (cd_I ap), .int (cd_I aq)])), (o1, .inl (dA, 14, .inl (cd_c fa))), (o2, .inl (dA, 14, .inl (cd_c fb))), (o3, .inl (dA, 14, .inl (cd_c fc))), (o4, .inl (dA, 8, .inl (cd_n fl)))] s.heap := hP
  have hD : va_D A [(o0, .inr (0, [.int (cd_I ((n : Nat) : Int)), .ref o1, .ref o2, .ref o3, .int (cd_I ((lv : Nat) : Int)), .ref o4, .long (cd_L x), .long (cd_L y), .long (cd_L w), .int (cd_I hL), .int (cd_I hH), .long (cd_L lx), .long (cd_L ly), .long (cd_L lw), .long (cd_L gx), .long (cd_L gy), .long (cd_L gw), .int (cd_I rm), .long (cd_L bx), .long (cd_L by_), .long (cd_L bw), .int (cd_I ap), .int (cd_I aq)])), (o1, .inl (dA, 14, .inl (cd_c fa))), (o2, .inl (dA, 14, .inl (cd_c fb))), (o3, .inl (dA, 14, .inl (cd_c fc))), (o4, .inl (dA, 8, .inl (cd_n fl)))] := hD
  refine lv_aload_n hx hb dX0_possible_0 rfl (lv_at hl 0 rfl) ?_
  refine lv_iconst (v := cd_I 0) hx hb dX0_possible_1 rfl ?_
  refine lv_iconst (v := cd_I 0) hx hb dX0_possible_2 rfl ?_
  refine lv_iconst (v := cd_I (-1)) hx hb dX0_possible_3 rfl ?_
  refine cd_call1i (va_runV (As := [.int (cd_I 0), .int (cd_I 0), .int (cd_I (-1))]) (rest := []) ⟨hx, hb, hml, hown, hts⟩ (xd_solve l dC dI dA o0 o1 o2 o3 o4 n lv fa fb fc fl x y w hL hH lx ly lw gx gy gw rm bx by_ bw ap aq s.heap.size 0 0 (-1) hok ⟨by decide, by decide⟩ ⟨by decide, by decide⟩ (Or.inl rfl)) (cwV 3 hts (lw_V q119 q121 qs0 q19 q122) rfl rfl rfl (by decide +kernel) ⟨Nat.le_of_ble_eq_true rfl, Nat.le_of_ble_eq_true rfl⟩) ⟨cd_bl1, va_recv hK hP (ci := 0) (q0 := 0) rfl rfl, cd_pr1 hP hK hD⟩ rfl rfl hl.1 rfl (lv_room (Nat.le_of_ble_eq_true rfl)) dX0_possible_4 ⟨Nat.le_of_ble_eq_true rfl, Nat.le_of_ble_eq_true rfl⟩) hD hS hA (fun r u H locs hq hP hD hS => ?_)
  obtain ⟨u1, u2, u3, u4, u5, u6, u7, u8, u9, u10, u11⟩ := u
  have hP : va_P (dC, dI) vwCl [(o0, .inr (0, [.int (cd_I ((n : Nat) : Int)), .ref o1, .ref o2, .ref o3, .int (cd_I ((lv : Nat) : Int)), .ref o4, .long (cd_L u1), .long (cd_L u2), .long (cd_L u3), .int (cd_I u4), .int (cd_I u5), .long (cd_L u6), .long (cd_L u7), .long (cd_L u8), .long (cd_L u9), .long (cd_L u10), .long (cd_L u11), .int (cd_I rm), .long (cd_L bx), .long (cd_L by_), .long (cd_L bw), .int (cd_I ap), .int (cd_I aq)])), (o1, .inl (dA, 14, .inl (cd_c fa))), (o2, .inl (dA, 14, .inl (cd_c fb))), (o3, .inl (dA, 14, .inl (cd_c fc))), (o4, .inl (dA, 8, .inl (cd_n fl)))] H := hP
  have hD : va_D A [(o0, .inr (0, [.int (cd_I ((n : Nat) : Int)), .ref o1, .ref o2, .ref o3, .int (cd_I ((lv : Nat) : Int)), .ref o4, .long (cd_L u1), .long (cd_L u2), .long (cd_L u3), .int (cd_I u4), .int (cd_I u5), .long (cd_L u6), .long (cd_L u7), .long (cd_L u8), .long (cd_L u9), .long (cd_L u10), .long (cd_L u11), .int (cd_I rm), .long (cd_L bx), .long (cd_L by_), .long (cd_L bw), .int (cd_I ap), .int (cd_I aq)])), (o1, .inl (dA, 14, .inl (cd_c fa))), (o2, .inl (dA, 14, .inl (cd_c fb))), (o3, .inl (dA, 14, .inl (cd_c fc))), (o4, .inl (dA, 8, .inl (cd_n fl)))] := hD
  have hq : (r = cd_I 1 ∧ cd_opt fa fb fc (cd_S n (-1)) 0 0 u1 u2 u3 ∧ cd_corn fa fb fc (cd_S n (-1)) u1 u2 u3) ∨ (r = cd_I 0 ∧ ∀ X Y W : Int, ¬ cd_feas fa fb fc (cd_S n (-1)) X Y W) := hq
  rcases hq with ⟨rfl, hopt, hcor⟩ | ⟨rfl, hno⟩
  · refine cd_if_eq (tgt := 14) hx hb ⟨by decide, by decide⟩ dX0_possible_7 (by decide) (fun c_1 => absurd c_1 (by decide)) (fun c_1 => ?_)
    refine lv_iconst (v := cd_I 1) hx hb dX0_possible_10 rfl ?_
    refine lv_goto (tgt := 15) hx hb dX0_possible_11 (by decide) ?_
    exact W.iret (v := cd_I 1) hx hb hr (fun t ht hW => ⟨⟨cd_I 1, (u1, u2, u3, u4, u5, u6, u7, u8, u9, u10, u11), rfl, Or.inl ⟨rfl, hopt, hcor⟩, ⟨by rw [ht]; exact hP, hD⟩⟩, hS.F ht⟩) hS.2.2 dX0_possible_15
  · refine cd_if_eq (tgt := 14) hx hb ⟨by decide, by decide⟩ dX0_possible_7 (by decide) (fun c_2 => ?_) (fun c_2 => absurd c_2 (by decide))
    refine lv_iconst (v := cd_I 0) hx hb dX0_possible_14 rfl ?_
    exact W.iret (v := cd_I 0) hx hb hr (fun t ht hW => ⟨⟨cd_I 0, (u1, u2, u3, u4, u5, u6, u7, u8, u9, u10, u11), rfl, Or.inr ⟨rfl, hno⟩, ⟨by rw [ht]; exact hP, hD⟩⟩, hS.F ht⟩) hS.2.2 dX0_possible_15

set_option maxHeartbeats 4000000 in
set_option maxRecDepth 100000 in
/-- best -/
theorem xd_best (l : Launch) (dC : Nat → ClassId) (dI : Nat → Nat → Nat) (dA : ClassId) (o0 o1 o2 o3 o4 n lv : Nat) (fa fb fc : Nat → Int) (fl : Nat → Nat) (x y w hL hH lx ly lw gx gy gw rm bx by_ bw ap aq : Int) (sz : Nat) (pp qq : Int) (hp : cd_R32 pp) (hq1 : cd_R32 qq) (hok : cd_ok fa fb fc n) : Met l yX0_best (ws_ yX0_best cX0_best 3 (some .int)) ({ frames := 5, cells := 0, slots := 0, locals := 130 }) (va_Pc [.ref o0, .int (cd_I pp), .int (cd_I qq)] (cd_W1 (dC, dI) vwCl [(dA, .int)] (cd_D dA o0 o1 o2 o3 o4 n lv fa fb fc fl x y w hL hH lx ly lw gx gy gw rm bx by_ bw ap aq) sz)) (va_Qi (fun (r : Int32) (u : Int × Int × Int × Int × Int × Int × Int × Int × Int × Int × Int × Int × Int × Int × Int × Int × Int) => (r = cd_I (-1) ∧ (u.2.2.2.2.2.2.2.2.2.2.2.1 = rm ∧ u.2.2.2.2.2.2.2.2.2.2.2.2.1 = bx ∧ u.2.2.2.2.2.2.2.2.2.2.2.2.2.1 = by_ ∧ u.2.2.2.2.2.2.2.2.2.2.2.2.2.2.1 = bw ∧ u.2.2.2.2.2.2.2.2.2.2.2.2.2.2.2.1 = ap ∧ u.2.2.2.2.2.2.2.2.2.2.2.2.2.2.2.2 = aq) ∧ ¬ (cd_b 9 pp ∧ cd_b 9 qq)) ∨ ((cd_b 9 pp ∧ cd_b 9 qq) ∧ r = cd_I 1 ∧ u.2.2.2.2.2.2.2.2.2.2.2.1 = 1 ∧ (u.2.2.2.2.2.2.2.2.2.2.2.2.2.2.2.1 = pp ∧ u.2.2.2.2.2.2.2.2.2.2.2.2.2.2.2.2 = qq) ∧ cd_opt fa fb fc (cd_S n (-1)) pp qq u.2.2.2.2.2.2.2.2.2.2.2.2.1 u.2.2.2.2.2.2.2.2.2.2.2.2.2.1 u.2.2.2.2.2.2.2.2.2.2.2.2.2.2.1 ∧ cd_corn fa fb fc (cd_S n (-1)) u.2.2.2.2.2.2.2.2.2.2.2.2.1 u.2.2.2.2.2.2.2.2.2.2.2.2.2.1 u.2.2.2.2.2.2.2.2.2.2.2.2.2.2.1) ∨ ((cd_b 9 pp ∧ cd_b 9 qq) ∧ r = cd_I 0 ∧ u.2.2.2.2.2.2.2.2.2.2.2.1 = 0 ∧ (u.2.2.2.2.2.2.2.2.2.2.2.2.1 = bx ∧ u.2.2.2.2.2.2.2.2.2.2.2.2.2.1 = by_ ∧ u.2.2.2.2.2.2.2.2.2.2.2.2.2.2.1 = bw ∧ u.2.2.2.2.2.2.2.2.2.2.2.2.2.2.2.1 = ap ∧ u.2.2.2.2.2.2.2.2.2.2.2.2.2.2.2.2 = aq) ∧ ∀ X Y W : Int, ¬ cd_feas fa fb fc (cd_S n (-1)) X Y W)) (cd_B (dC, dI) vwCl (va_A (cd_D dA o0 o1 o2 o3 o4 n lv fa fb fc fl x y w hL hH lx ly lw gx gy gw rm bx by_ bw ap aq) sz) (fun u : Int × Int × Int × Int × Int × Int × Int × Int × Int × Int × Int × Int × Int × Int × Int × Int × Int => (cd_D dA o0 o1 o2 o3 o4 n lv fa fb fc fl u.1 u.2.1 u.2.2.1 u.2.2.2.1 u.2.2.2.2.1 u.2.2.2.2.2.1 u.2.2.2.2.2.2.1 u.2.2.2.2.2.2.2.1 u.2.2.2.2.2.2.2.2.1 u.2.2.2.2.2.2.2.2.2.1 u.2.2.2.2.2.2.2.2.2.2.1 u.2.2.2.2.2.2.2.2.2.2.2.1 u.2.2.2.2.2.2.2.2.2.2.2.2.1 u.2.2.2.2.2.2.2.2.2.2.2.2.2.1 u.2.2.2.2.2.2.2.2.2.2.2.2.2.2.1 u.2.2.2.2.2.2.2.2.2.2.2.2.2.2.2.1 u.2.2.2.2.2.2.2.2.2.2.2.2.2.2.2.2))) (va_A (cd_D dA o0 o1 o2 o3 o4 n lv fa fb fc fl x y w hL hH lx ly lw gx gy gw rm bx by_ bw ap aq) sz)) 0 0 (va_A (cd_D dA o0 o1 o2 o3 o4 n lv fa fb fc fl x y w hL hH lx ly lw gx gy gw rm bx by_ bw ap aq) sz) := by
  refine Met.ofW (cc := cX0_best) (maxL := 3) (ret := (some .int)) (by decide) rfl ?_
  intro p e s m args below meth c s₁ B hml hv
  obtain ⟨rfl, hsz, hP, hK, hD0⟩ := hv
  have hx := B.exec
  have hb := B.bytes
  have hr := B.returns
  have hts := atoms_spec (ws := (ws_ yX0_best cX0_best 3 (some .int))) B.pre
  have hts : ∀ w ∈ lw_all, w.before _ s = true := fun w h => hts w (List.mem_cons_of_mem _ h)
  have hown : s.vm.findClass RX0 = some m.cls := findClass_of_methodNamed B.named
  have hlocks := B.notSynchronized
  subst hsz
  have hD := hD0.self (sz := s.heap.size)
  generalize hAe : va_A (cd_D dA o0 o1 o2 o3 o4 n lv fa fb fc fl x y w hL hH lx ly lw gx gy gw rm bx by_ bw ap aq) s.heap.size = A at hD ⊢
  have hA : ∀ q : Nat, s.heap.size ≤ q → A q := fun q h => by rw [← hAe]; exact Or.inr h
  have hS : va_S A s.heap s.heap [] := va_S.rf
  have hl := lv_entry ([.ref o0, .int (cd_I pp), .int (cd_I qq)]) (n := 3) (Nat.le_of_ble_eq_true rfl)
  rw [lg_entry_eq]
  generalize (lg_sl ([.ref o0, .int (cd_I pp), .int (cd_I qq)]) ++ List.replicate (3 - (lg_sl ([.ref o0, .int (cd_I pp), .int (cd_I qq)])).length) Slot.unset).toArray = ls at hl ⊢
  have hl : lv_has ls 3 [(0, .ref o0), (1, .int (cd_I pp)), (2, .int (cd_I qq))] := hl
  have hP : va_P (dC, dI) vwCl [(o0, .inr (0, [.int (cd_I ((n : Nat) : Int)), .ref o1, .ref o2, .ref o3, .int (cd_I ((lv : Nat) : Int)), .ref o4, .long (cd_L x), .long (cd_L y), .long (cd_L w), .int (cd_I hL), .int (cd_I hH), .long (cd_L lx), .long (cd_L ly), .long (cd_L lw), .long (cd_L gx), .long (cd_L gy), .long (cd_L gw), .int (cd_I rm), .long (cd_L bx), .long (cd_L by_), .long (cd_L bw), .int (cd_I ap), .int (cd_I aq)])), (o1, .inl (dA, 14, .inl (cd_c fa))), (o2, .inl (dA, 14, .inl (cd_c fb))), (o3, .inl (dA, 14, .inl (cd_c fc))), (o4, .inl (dA, 8, .inl (cd_n fl)))] s.heap := hP
  have hD : va_D A [(o0, .inr (0, [.int (cd_I ((n : Nat) : Int)), .ref o1, .ref o2, .ref o3, .int (cd_I ((lv : Nat) : Int)), .ref o4, .long (cd_L x), .long (cd_L y), .long (cd_L w), .int (cd_I hL), .int (cd_I hH), .long (cd_L lx), .long (cd_L ly), .long (cd_L lw), .long (cd_L gx), .long (cd_L gy), .long (cd_L gw), .int (cd_I rm), .long (cd_L bx), .long (cd_L by_), .long (cd_L bw), .int (cd_I ap), .int (cd_I aq)])), (o1, .inl (dA, 14, .inl (cd_c fa))), (o2, .inl (dA, 14, .inl (cd_c fb))), (o3, .inl (dA, 14, .inl (cd_c fc))), (o4, .inl (dA, 8, .inl (cd_n fl)))] := hD
  refine lv_iload_n hx hb dX0_best_0 rfl (lv_at hl 1 rfl) ?_
  refine lv_bipush (v := cd_I (-9)) hx hb dX0_best_1 (by decide) ?_
  refine cd_icmp_lt (tgt := 24) hx hb hp ⟨by decide, by decide⟩ dX0_best_3 (by decide) (fun c_1 => ?_) (fun c_1 => ?_)
  · refine lv_iconst (v := cd_I (-1)) hx hb dX0_best_24 rfl ?_
    exact W.iret (v := cd_I (-1)) hx hb hr (fun t ht hW => ⟨⟨cd_I (-1), (x, y, w, hL, hH, lx, ly, lw, gx, gy, gw, rm, bx, by_, bw, ap, aq), rfl, Or.inl ⟨rfl, ⟨rfl, rfl, rfl, rfl, rfl, rfl⟩, by rintro ⟨⟨z1, z2⟩, z3, z4⟩; omega⟩, ⟨by rw [ht]; exact hP, hD⟩⟩, hS.F ht⟩) hS.2.2 dX0_best_25
  · refine lv_iload_n hx hb dX0_best_6 rfl (lv_at hl 1 rfl) ?_
    refine lv_bipush (v := cd_I 9) hx hb dX0_best_7 (by decide) ?_
    refine cd_icmp_gt (tgt := 24) hx hb hp ⟨by decide, by decide⟩ dX0_best_9 (by decide) (fun c_2 => ?_) (fun c_2 => ?_)
    · refine lv_iconst (v := cd_I (-1)) hx hb dX0_best_24 rfl ?_
      exact W.iret (v := cd_I (-1)) hx hb hr (fun t ht hW => ⟨⟨cd_I (-1), (x, y, w, hL, hH, lx, ly, lw, gx, gy, gw, rm, bx, by_, bw, ap, aq), rfl, Or.inl ⟨rfl, ⟨rfl, rfl, rfl, rfl, rfl, rfl⟩, by rintro ⟨⟨z1, z2⟩, z3, z4⟩; omega⟩, ⟨by rw [ht]; exact hP, hD⟩⟩, hS.F ht⟩) hS.2.2 dX0_best_25
    · refine lv_iload_n hx hb dX0_best_12 rfl (lv_at hl 2 rfl) ?_
      refine lv_bipush (v := cd_I (-9)) hx hb dX0_best_13 (by decide) ?_
      refine cd_icmp_lt (tgt := 24) hx hb hq1 ⟨by decide, by decide⟩ dX0_best_15 (by decide) (fun c_3 => ?_) (fun c_3 => ?_)
      · refine lv_iconst (v := cd_I (-1)) hx hb dX0_best_24 rfl ?_
        exact W.iret (v := cd_I (-1)) hx hb hr (fun t ht hW => ⟨⟨cd_I (-1), (x, y, w, hL, hH, lx, ly, lw, gx, gy, gw, rm, bx, by_, bw, ap, aq), rfl, Or.inl ⟨rfl, ⟨rfl, rfl, rfl, rfl, rfl, rfl⟩, by rintro ⟨⟨z1, z2⟩, z3, z4⟩; omega⟩, ⟨by rw [ht]; exact hP, hD⟩⟩, hS.F ht⟩) hS.2.2 dX0_best_25
      · refine lv_iload_n hx hb dX0_best_18 rfl (lv_at hl 2 rfl) ?_
        refine lv_bipush (v := cd_I 9) hx hb dX0_best_19 (by decide) ?_
        refine cd_icmp_le (tgt := 26) hx hb hq1 ⟨by decide, by decide⟩ dX0_best_21 (by decide) (fun c_4 => ?_) (fun c_4 => ?_)
        · refine lv_aload_n hx hb dX0_best_26 rfl (lv_at hl 0 rfl) ?_
          refine lv_aload_n hx hb dX0_best_27 rfl (lv_at hl 0 rfl) ?_
          refine lv_iload_n hx hb dX0_best_28 rfl (lv_at hl 1 rfl) ?_
          refine lv_iload_n hx hb dX0_best_29 rfl (lv_at hl 2 rfl) ?_
          refine lv_iconst (v := cd_I (-1)) hx hb dX0_best_30 rfl ?_
          have hp9 : cd_b 9 pp := ⟨by omega, by omega⟩
          have hq9 : cd_b 9 qq := ⟨by omega, by omega⟩
          refine cd_call1i (va_runV (As := [.int (cd_I pp), .int (cd_I qq), .int (cd_I (-1))]) (rest := [.ref o0]) ⟨hx, hb, hml, hown, hts⟩ (xd_solve l dC dI dA o0 o1 o2 o3 o4 n lv fa fb fc fl x y w hL hH lx ly lw gx gy gw rm bx by_ bw ap aq s.heap.size pp qq (-1) hok hp9 hq9 (Or.inl rfl)) (cwV 3 hts (lw_V q119 q121 qs0 q19 q122) rfl rfl rfl (by decide +kernel) ⟨Nat.le_of_ble_eq_true rfl, Nat.le_of_ble_eq_true rfl⟩) ⟨cd_bl1, va_recv hK hP (ci := 0) (q0 := 0) rfl rfl, cd_pr1 hP hK hD⟩ rfl rfl hl.1 rfl (lv_room (Nat.le_of_ble_eq_true rfl)) dX0_best_31 ⟨Nat.le_of_ble_eq_true rfl, Nat.le_of_ble_eq_true rfl⟩) hD hS hA (fun r u H locs hq hP hD hS => ?_)
          obtain ⟨u1, u2, u3, u4, u5, u6, u7, u8, u9, u10, u11⟩ := u
          have hP : va_P (dC, dI) vwCl [(o0, .inr (0, [.int (cd_I ((n : Nat) : Int)), .ref o1, .ref o2, .ref o3, .int (cd_I ((lv : Nat) : Int)), .ref o4, .long (cd_L u1), .long (cd_L u2), .long (cd_L u3), .int (cd_I u4), .int (cd_I u5), .long (cd_L u6), .long (cd_L u7), .long (cd_L u8), .long (cd_L u9), .long (cd_L u10), .long (cd_L u11), .int (cd_I rm), .long (cd_L bx), .long (cd_L by_), .long (cd_L bw), .int (cd_I ap), .int (cd_I aq)])), (o1, .inl (dA, 14, .inl (cd_c fa))), (o2, .inl (dA, 14, .inl (cd_c fb))), (o3, .inl (dA, 14, .inl (cd_c fc))), (o4, .inl (dA, 8, .inl (cd_n fl)))] H := hP
          have hD : va_D A [(o0, .inr (0, [.int (cd_I ((n : Nat) : Int)), .ref o1, .ref o2, .ref o3, .int (cd_I ((lv : Nat) : Int)), .ref o4, .long (cd_L u1), .long (cd_L u2), .long (cd_L u3), .int (cd_I u4), .int (cd_I u5), .long (cd_L u6), .long (cd_L u7), .long (cd_L u8), .long (cd_L u9), .long (cd_L u10), .long (cd_L u11), .int (cd_I rm), .long (cd_L bx), .long (cd_L by_), .long (cd_L bw), .int (cd_I ap), .int (cd_I aq)])), (o1, .inl (dA, 14, .inl (cd_c fa))), (o2, .inl (dA, 14, .inl (cd_c fb))), (o3, .inl (dA, 14, .inl (cd_c fc))), (o4, .inl (dA, 8, .inl (cd_n fl)))] := hD
          have hq : (r = cd_I 1 ∧ cd_opt fa fb fc (cd_S n (-1)) pp qq u1 u2 u3 ∧ cd_corn fa fb fc (cd_S n (-1)) u1 u2 u3) ∨ (r = cd_I 0 ∧ ∀ X Y W : Int, ¬ cd_feas fa fb fc (cd_S n (-1)) X Y W) := hq
          rcases hq with ⟨rfl, hopt, hcor⟩ | ⟨rfl, hno⟩
          · refine cd_put0 (v := .int (cd_I 1)) (ty := .boolean) hx hb hts hown hK hP hD hS 0 rfl 17 (by decide) q46 rfl rfl rfl rfl rfl (Nat.le_of_ble_eq_true rfl) dX0_best_34 (fun H locs hP hD hS => ?_)
            have hP : va_P (dC, dI) vwCl [(o0, .inr (0, [.int (cd_I ((n : Nat) : Int)), .ref o1, .ref o2, .ref o3, .int (cd_I ((lv : Nat) : Int)), .ref o4, .long (cd_L u1), .long (cd_L u2), .long (cd_L u3), .int (cd_I u4), .int (cd_I u5), .long (cd_L u6), .long (cd_L u7), .long (cd_L u8), .long (cd_L u9), .long (cd_L u10), .long (cd_L u11), .int (cd_I 1), .long (cd_L bx), .long (cd_L by_), .long (cd_L bw), .int (cd_I ap), .int (cd_I aq)])), (o1, .inl (dA, 14, .inl (cd_c fa))), (o2, .inl (dA, 14, .inl (cd_c fb))), (o3, .inl (dA, 14, .inl (cd_c fc))), (o4, .inl (dA, 8, .inl (cd_n fl)))] H := hP
            have hD : va_D A [(o0, .inr (0, [.int (cd_I ((n : Nat) : Int)), .ref o1, .ref o2, .ref o3, .int (cd_I ((lv : Nat) : Int)), .ref o4, .long (cd_L u1), .long (cd_L u2), .long (cd_L u3), .int (cd_I u4), .int (cd_I u5), .long (cd_L u6), .long (cd_L u7), .long (cd_L u8), .long (cd_L u9), .long (cd_L u10), .long (cd_L u11), .int (cd_I 1), .long (cd_L bx), .long (cd_L by_), .long (cd_L bw), .int (cd_I ap), .int (cd_I aq)])), (o1, .inl (dA, 14, .inl (cd_c fa))), (o2, .inl (dA, 14, .inl (cd_c fb))), (o3, .inl (dA, 14, .inl (cd_c fc))), (o4, .inl (dA, 8, .inl (cd_n fl)))] := hD
            refine lv_aload_n hx hb dX0_best_37 rfl (lv_at hl 0 rfl) ?_
            refine cd_get0 (v := .int (cd_I 1)) hx hb hts hown hK hP 0 rfl 17 (by decide) q46 rfl rfl dX0_best_38 ?_
            refine cd_if_ne (tgt := 46) hx hb ⟨by decide, by decide⟩ dX0_best_41 (by decide) (fun c_5 => ?_) (fun c_5 => absurd c_5 (by decide))
            refine lv_aload_n hx hb dX0_best_46 rfl (lv_at hl 0 rfl) ?_
            refine lv_aload_n hx hb dX0_best_47 rfl (lv_at hl 0 rfl) ?_
            refine cd_get0 (v := .long (cd_L u1)) hx hb hts hown hK hP 0 rfl 6 (by decide) q35 rfl rfl dX0_best_48 ?_
            refine cd_put0 (v := .long (cd_L u1)) (ty := .long) hx hb hts hown hK hP hD hS 0 rfl 18 (by decide) q47 rfl rfl rfl rfl rfl (Nat.le_of_ble_eq_true rfl) dX0_best_51 (fun H locs hP hD hS => ?_)
            have hP : va_P (dC, dI) vwCl [(o0, .inr (0, [.int (cd_I ((n : Nat) : Int)), .ref o1, .ref o2, .ref o3, .int (cd_I ((lv : Nat) : Int)), .ref o4, .long (cd_L u1), .long (cd_L u2), .long (cd_L u3), .int (cd_I u4), .int (cd_I u5), .long (cd_L u6), .long (cd_L u7), .long (cd_L u8), .long (cd_L u9), .long (cd_L u10), .long (cd_L u11), .int (cd_I 1), .long (cd_L u1), .long (cd_L by_), .long (cd_L bw), .int (cd_I ap), .int (cd_I aq)])), (o1, .inl (dA, 14, .inl (cd_c fa))), (o2, .inl (dA, 14, .inl (cd_c fb))), (o3, .inl (dA, 14, .inl (cd_c fc))), (o4, .inl (dA, 8, .inl (cd_n fl)))] H := hP
            have hD : va_D A [(o0, .inr (0, [.int (cd_I ((n : Nat) : Int)), .ref o1, .ref o2, .ref o3, .int (cd_I ((lv : Nat) : Int)), .ref o4, .long (cd_L u1), .long (cd_L u2), .long (cd_L u3), .int (cd_I u4), .int (cd_I u5), .long (cd_L u6), .long (cd_L u7), .long (cd_L u8), .long (cd_L u9), .long (cd_L u10), .long (cd_L u11), .int (cd_I 1), .long (cd_L u1), .long (cd_L by_), .long (cd_L bw), .int (cd_I ap), .int (cd_I aq)])), (o1, .inl (dA, 14, .inl (cd_c fa))), (o2, .inl (dA, 14, .inl (cd_c fb))), (o3, .inl (dA, 14, .inl (cd_c fc))), (o4, .inl (dA, 8, .inl (cd_n fl)))] := hD
            refine lv_aload_n hx hb dX0_best_54 rfl (lv_at hl 0 rfl) ?_
            refine lv_aload_n hx hb dX0_best_55 rfl (lv_at hl 0 rfl) ?_
            refine cd_get0 (v := .long (cd_L u2)) hx hb hts hown hK hP 0 rfl 7 (by decide) q36 rfl rfl dX0_best_56 ?_
            refine cd_put0 (v := .long (cd_L u2)) (ty := .long) hx hb hts hown hK hP hD hS 0 rfl 19 (by decide) q48 rfl rfl rfl rfl rfl (Nat.le_of_ble_eq_true rfl) dX0_best_59 (fun H locs hP hD hS => ?_)
            have hP : va_P (dC, dI) vwCl [(o0, .inr (0, [.int (cd_I ((n : Nat) : Int)), .ref o1, .ref o2, .ref o3, .int (cd_I ((lv : Nat) : Int)), .ref o4, .long (cd_L u1), .long (cd_L u2), .long (cd_L u3), .int (cd_I u4), .int (cd_I u5), .long (cd_L u6), .long (cd_L u7), .long (cd_L u8), .long (cd_L u9), .long (cd_L u10), .long (cd_L u11), .int (cd_I 1), .long (cd_L u1), .long (cd_L u2), .long (cd_L bw), .int (cd_I ap), .int (cd_I aq)])), (o1, .inl (dA, 14, .inl (cd_c fa))), (o2, .inl (dA, 14, .inl (cd_c fb))), (o3, .inl (dA, 14, .inl (cd_c fc))), (o4, .inl (dA, 8, .inl (cd_n fl)))] H := hP
            have hD : va_D A [(o0, .inr (0, [.int (cd_I ((n : Nat) : Int)), .ref o1, .ref o2, .ref o3, .int (cd_I ((lv : Nat) : Int)), .ref o4, .long (cd_L u1), .long (cd_L u2), .long (cd_L u3), .int (cd_I u4), .int (cd_I u5), .long (cd_L u6), .long (cd_L u7), .long (cd_L u8), .long (cd_L u9), .long (cd_L u10), .long (cd_L u11), .int (cd_I 1), .long (cd_L u1), .long (cd_L u2), .long (cd_L bw), .int (cd_I ap), .int (cd_I aq)])), (o1, .inl (dA, 14, .inl (cd_c fa))), (o2, .inl (dA, 14, .inl (cd_c fb))), (o3, .inl (dA, 14, .inl (cd_c fc))), (o4, .inl (dA, 8, .inl (cd_n fl)))] := hD
            refine lv_aload_n hx hb dX0_best_62 rfl (lv_at hl 0 rfl) ?_
            refine lv_aload_n hx hb dX0_best_63 rfl (lv_at hl 0 rfl) ?_
            refine cd_get0 (v := .long (cd_L u3)) hx hb hts hown hK hP 0 rfl 8 (by decide) q37 rfl rfl dX0_best_64 ?_
            refine cd_put0 (v := .long (cd_L u3)) (ty := .long) hx hb hts hown hK hP hD hS 0 rfl 20 (by decide) q49 rfl rfl rfl rfl rfl (Nat.le_of_ble_eq_true rfl) dX0_best_67 (fun H locs hP hD hS => ?_)
            have hP : va_P (dC, dI) vwCl [(o0, .inr (0, [.int (cd_I ((n : Nat) : Int)), .ref o1, .ref o2, .ref o3, .int (cd_I ((lv : Nat) : Int)), .ref o4, .long (cd_L u1), .long (cd_L u2), .long (cd_L u3), .int (cd_I u4), .int (cd_I u5), .long (cd_L u6), .long (cd_L u7), .long (cd_L u8), .long (cd_L u9), .long (cd_L u10), .long (cd_L u11), .int (cd_I 1), .long (cd_L u1), .long (cd_L u2), .long (cd_L u3), .int (cd_I ap), .int (cd_I aq)])), (o1, .inl (dA, 14, .inl (cd_c fa))), (o2, .inl (dA, 14, .inl (cd_c fb))), (o3, .inl (dA, 14, .inl (cd_c fc))), (o4, .inl (dA, 8, .inl (cd_n fl)))] H := hP
            have hD : va_D A [(o0, .inr (0, [.int (cd_I ((n : Nat) : Int)), .ref o1, .ref o2, .ref o3, .int (cd_I ((lv : Nat) : Int)), .ref o4, .long (cd_L u1), .long (cd_L u2), .long (cd_L u3), .int (cd_I u4), .int (cd_I u5), .long (cd_L u6), .long (cd_L u7), .long (cd_L u8), .long (cd_L u9), .long (cd_L u10), .long (cd_L u11), .int (cd_I 1), .long (cd_L u1), .long (cd_L u2), .long (cd_L u3), .int (cd_I ap), .int (cd_I aq)])), (o1, .inl (dA, 14, .inl (cd_c fa))), (o2, .inl (dA, 14, .inl (cd_c fb))), (o3, .inl (dA, 14, .inl (cd_c fc))), (o4, .inl (dA, 8, .inl (cd_n fl)))] := hD
            refine lv_aload_n hx hb dX0_best_70 rfl (lv_at hl 0 rfl) ?_
            refine lv_iload_n hx hb dX0_best_71 rfl (lv_at hl 1 rfl) ?_
            refine cd_put0 (v := .int (cd_I pp)) (ty := .int) hx hb hts hown hK hP hD hS 0 rfl 21 (by decide) q50 rfl rfl rfl rfl rfl (Nat.le_of_ble_eq_true rfl) dX0_best_72 (fun H locs hP hD hS => ?_)
            have hP : va_P (dC, dI) vwCl [(o0, .inr (0, [.int (cd_I ((n : Nat) : Int)), .ref o1, .ref o2, .ref o3, .int (cd_I ((lv : Nat) : Int)), .ref o4, .long (cd_L u1), .long (cd_L u2), .long (cd_L u3), .int (cd_I u4), .int (cd_I u5), .long (cd_L u6), .long (cd_L u7), .long (cd_L u8), .long (cd_L u9), .long (cd_L u10), .long (cd_L u11), .int (cd_I 1), .long (cd_L u1), .long (cd_L u2), .long (cd_L u3), .int (cd_I pp), .int (cd_I aq)])), (o1, .inl (dA, 14, .inl (cd_c fa))), (o2, .inl (dA, 14, .inl (cd_c fb))), (o3, .inl (dA, 14, .inl (cd_c fc))), (o4, .inl (dA, 8, .inl (cd_n fl)))] H := hP
            have hD : va_D A [(o0, .inr (0, [.int (cd_I ((n : Nat) : Int)), .ref o1, .ref o2, .ref o3, .int (cd_I ((lv : Nat) : Int)), .ref o4, .long (cd_L u1), .long (cd_L u2), .long (cd_L u3), .int (cd_I u4), .int (cd_I u5), .long (cd_L u6), .long (cd_L u7), .long (cd_L u8), .long (cd_L u9), .long (cd_L u10), .long (cd_L u11), .int (cd_I 1), .long (cd_L u1), .long (cd_L u2), .long (cd_L u3), .int (cd_I pp), .int (cd_I aq)])), (o1, .inl (dA, 14, .inl (cd_c fa))), (o2, .inl (dA, 14, .inl (cd_c fb))), (o3, .inl (dA, 14, .inl (cd_c fc))), (o4, .inl (dA, 8, .inl (cd_n fl)))] := hD
            refine lv_aload_n hx hb dX0_best_75 rfl (lv_at hl 0 rfl) ?_
            refine lv_iload_n hx hb dX0_best_76 rfl (lv_at hl 2 rfl) ?_
            refine cd_put0 (v := .int (cd_I qq)) (ty := .int) hx hb hts hown hK hP hD hS 0 rfl 22 (by decide) q51 rfl rfl rfl rfl rfl (Nat.le_of_ble_eq_true rfl) dX0_best_77 (fun H locs hP hD hS => ?_)
            have hP : va_P (dC, dI) vwCl [(o0, .inr (0, [.int (cd_I ((n : Nat) : Int)), .ref o1, .ref o2, .ref o3, .int (cd_I ((lv : Nat) : Int)), .ref o4, .long (cd_L u1), .long (cd_L u2), .long (cd_L u3), .int (cd_I u4), .int (cd_I u5), .long (cd_L u6), .long (cd_L u7), .long (cd_L u8), .long (cd_L u9), .long (cd_L u10), .long (cd_L u11), .int (cd_I 1), .long (cd_L u1), .long (cd_L u2), .long (cd_L u3), .int (cd_I pp), .int (cd_I qq)])), (o1, .inl (dA, 14, .inl (cd_c fa))), (o2, .inl (dA, 14, .inl (cd_c fb))), (o3, .inl (dA, 14, .inl (cd_c fc))), (o4, .inl (dA, 8, .inl (cd_n fl)))] H := hP
            have hD : va_D A [(o0, .inr (0, [.int (cd_I ((n : Nat) : Int)), .ref o1, .ref o2, .ref o3, .int (cd_I ((lv : Nat) : Int)), .ref o4, .long (cd_L u1), .long (cd_L u2), .long (cd_L u3), .int (cd_I u4), .int (cd_I u5), .long (cd_L u6), .long (cd_L u7), .long (cd_L u8), .long (cd_L u9), .long (cd_L u10), .long (cd_L u11), .int (cd_I 1), .long (cd_L u1), .long (cd_L u2), .long (cd_L u3), .int (cd_I pp), .int (cd_I qq)])), (o1, .inl (dA, 14, .inl (cd_c fa))), (o2, .inl (dA, 14, .inl (cd_c fb))), (o3, .inl (dA, 14, .inl (cd_c fc))), (o4, .inl (dA, 8, .inl (cd_n fl)))] := hD
            refine lv_iconst (v := cd_I 1) hx hb dX0_best_80 rfl ?_
            exact W.iret (v := cd_I 1) hx hb hr (fun t ht hW => ⟨⟨cd_I 1, (u1, u2, u3, u4, u5, u6, u7, u8, u9, u10, u11, 1, u1, u2, u3, pp, qq), rfl, Or.inr (Or.inl ⟨⟨hp9, hq9⟩, rfl, rfl, ⟨rfl, rfl⟩, hopt, hcor⟩), ⟨by rw [ht]; exact hP, hD⟩⟩, hS.F ht⟩) hS.2.2 dX0_best_81
          · refine cd_put0 (v := .int (cd_I 0)) (ty := .boolean) hx hb hts hown hK hP hD hS 0 rfl 17 (by decide) q46 rfl rfl rfl rfl rfl (Nat.le_of_ble_eq_true rfl) dX0_best_34 (fun H locs hP hD hS => ?_)
            have hP : va_P (dC, dI) vwCl [(o0, .inr (0, [.int (cd_I ((n : Nat) : Int)), .ref o1, .ref o2, .ref o3, .int (cd_I ((lv : Nat) : Int)), .ref o4, .long (cd_L u1), .long (cd_L u2), .long (cd_L u3), .int (cd_I u4), .int (cd_I u5), .long (cd_L u6), .long (cd_L u7), .long (cd_L u8), .long (cd_L u9), .long (cd_L u10), .long (cd_L u11), .int (cd_I 0), .long (cd_L bx), .long (cd_L by_), .long (cd_L bw), .int (cd_I ap), .int (cd_I aq)])), (o1, .inl (dA, 14, .inl (cd_c fa))), (o2, .inl (dA, 14, .inl (cd_c fb))), (o3, .inl (dA, 14, .inl (cd_c fc))), (o4, .inl (dA, 8, .inl (cd_n fl)))] H := hP
            have hD : va_D A [(o0, .inr (0, [.int (cd_I ((n : Nat) : Int)), .ref o1, .ref o2, .ref o3, .int (cd_I ((lv : Nat) : Int)), .ref o4, .long (cd_L u1), .long (cd_L u2), .long (cd_L u3), .int (cd_I u4), .int (cd_I u5), .long (cd_L u6), .long (cd_L u7), .long (cd_L u8), .long (cd_L u9), .long (cd_L u10), .long (cd_L u11), .int (cd_I 0), .long (cd_L bx), .long (cd_L by_), .long (cd_L bw), .int (cd_I ap), .int (cd_I aq)])), (o1, .inl (dA, 14, .inl (cd_c fa))), (o2, .inl (dA, 14, .inl (cd_c fb))), (o3, .inl (dA, 14, .inl (cd_c fc))), (o4, .inl (dA, 8, .inl (cd_n fl)))] := hD
            refine lv_aload_n hx hb dX0_best_37 rfl (lv_at hl 0 rfl) ?_
            refine cd_get0 (v := .int (cd_I 0)) hx hb hts hown hK hP 0 rfl 17 (by decide) q46 rfl rfl dX0_best_38 ?_
            refine cd_if_ne (tgt := 46) hx hb ⟨by decide, by decide⟩ dX0_best_41 (by decide) (fun c_6 => absurd c_6 (by decide)) (fun c_6 => ?_)
            refine lv_iconst (v := cd_I 0) hx hb dX0_best_44 rfl ?_
            exact W.iret (v := cd_I 0) hx hb hr (fun t ht hW => ⟨⟨cd_I 0, (u1, u2, u3, u4, u5, u6, u7, u8, u9, u10, u11, 0, bx, by_, bw, ap, aq), rfl, Or.inr (Or.inr ⟨⟨hp9, hq9⟩, rfl, rfl, ⟨rfl, rfl, rfl, rfl, rfl⟩, hno⟩), ⟨by rw [ht]; exact hP, hD⟩⟩, hS.F ht⟩) hS.2.2 dX0_best_45
        · refine lv_iconst (v := cd_I (-1)) hx hb dX0_best_24 rfl ?_
          exact W.iret (v := cd_I (-1)) hx hb hr (fun t ht hW => ⟨⟨cd_I (-1), (x, y, w, hL, hH, lx, ly, lw, gx, gy, gw, rm, bx, by_, bw, ap, aq), rfl, Or.inl ⟨rfl, ⟨rfl, rfl, rfl, rfl, rfl, rfl⟩, by rintro ⟨⟨z1, z2⟩, z3, z4⟩; omega⟩, ⟨by rw [ht]; exact hP, hD⟩⟩, hS.F ht⟩) hS.2.2 dX0_best_25

set_option maxHeartbeats 4000000 in
set_option maxRecDepth 100000 in
/-- numerator -/
theorem xd_numerator (l : Launch) (dC : Nat → ClassId) (dI : Nat → Nat → Nat) (dA : ClassId) (o0 o1 o2 o3 o4 n lv : Nat) (fa fb fc : Nat → Int) (fl : Nat → Nat) (x y w hL hH lx ly lw gx gy gw rm bx by_ bw ap aq : Int) (z : Int) (hz : cd_R32 z) (hrm : rm = 0 ∨ (rm = 1 ∧ cd_b 1782 bx ∧ cd_b 1782 by_ ∧ cd_b 162 bw ∧ 0 < bw ∧ cd_b 9 ap ∧ cd_b 9 aq)) : Met l yX0_numerator (ws_ yX0_numerator cX0_numerator 4 (some .int)) ({ frames := 1, cells := 0, slots := 0, locals := 30 }) (va_Pc [.ref o0, .int (cd_I z)] (cd_W0 (dC, dI) vwCl [(dA, .int)] (cd_D dA o0 o1 o2 o3 o4 n lv fa fb fc fl x y w hL hH lx ly lw gx gy gw rm bx by_ bw ap aq))) (va_Qi (fun (r : Int32) (_ : Unit) => (r = cd_I 0 ∧ ¬ (rm = 1 ∧ 0 ≤ z ∧ z ≤ 2)) ∨ (r = cd_I (Int.tdiv (cd_up z bx by_ ap aq) ((Nat.gcd (cd_up z bx by_ ap aq).natAbs bw.natAbs : Nat) : Int)) ∧ (rm = 1 ∧ 0 ≤ z ∧ z ≤ 2))) (fun _ _ => True) (fun _ => False)) 0 0 (fun _ => False) := by
  refine Met.ofW (cc := cX0_numerator) (maxL := 4) (ret := (some .int)) (by decide) rfl ?_
  intro p e s m args below meth c s₁ B hml hv
  obtain ⟨rfl, hP, hK⟩ := hv
  have hx := B.exec
  have hb := B.bytes
  have hr := B.returns
  have hts := atoms_spec (ws := (ws_ yX0_numerator cX0_numerator 4 (some .int))) B.pre
  have hts : ∀ w ∈ lw_all, w.before _ s = true := fun w h => hts w (List.mem_cons_of_mem _ h)
  have hown : s.vm.findClass RX0 = some m.cls := findClass_of_methodNamed B.named
  have hlocks := B.notSynchronized
  have hS : va_S (fun _ => False) s.heap s.heap [] := va_S.rf
  have hl := lv_entry ([.ref o0, .int (cd_I z)]) (n := 4) (Nat.le_of_ble_eq_true rfl)
  rw [lg_entry_eq]
  generalize (lg_sl ([.ref o0, .int (cd_I z)]) ++ List.replicate (4 - (lg_sl ([.ref o0, .int (cd_I z)])).length) Slot.unset).toArray = ls at hl ⊢
  have hl : lv_has ls 4 [(0, .ref o0), (1, .int (cd_I z))] := hl
  have hP : va_P (dC, dI) vwCl [(o0, .inr (0, [.int (cd_I ((n : Nat) : Int)), .ref o1, .ref o2, .ref o3, .int (cd_I ((lv : Nat) : Int)), .ref o4, .long (cd_L x), .long (cd_L y), .long (cd_L w), .int (cd_I hL), .int (cd_I hH), .long (cd_L lx), .long (cd_L ly), .long (cd_L lw), .long (cd_L gx), .long (cd_L gy), .long (cd_L gw), .int (cd_I rm), .long (cd_L bx), .long (cd_L by_), .long (cd_L bw), .int (cd_I ap), .int (cd_I aq)])), (o1, .inl (dA, 14, .inl (cd_c fa))), (o2, .inl (dA, 14, .inl (cd_c fb))), (o3, .inl (dA, 14, .inl (cd_c fc))), (o4, .inl (dA, 8, .inl (cd_n fl)))] s.heap := hP
  rcases hrm with hrm | ⟨hrm, hbx, hby, hbw, hbw0, hap, haq⟩
  · subst hrm
    refine lv_aload_n hx hb dX0_numerator_0 rfl (lv_at hl 0 rfl) ?_
    refine cd_get0 (v := .int (cd_I 0)) hx hb hts hown hK hP 0 rfl 17 (by decide) q46 rfl rfl dX0_numerator_1 ?_
    refine cd_if_eq (tgt := 16) hx hb ⟨by decide, by decide⟩ dX0_numerator_4 (by decide) (fun c_1 => ?_) (fun c_1 => absurd c_1 (by decide))
    refine lv_iconst (v := cd_I 0) hx hb dX0_numerator_16 rfl ?_
    exact W.iret (v := cd_I 0) hx hb hr (fun t ht hW => ⟨⟨cd_I 0, (), rfl, Or.inl ⟨rfl, by omega⟩, trivial⟩, hS.F ht⟩) hS.2.2 dX0_numerator_17
  · subst hrm
    have hup : cd_b 32076 (cd_up z bx by_ ap aq) := cd_up_b hbx hby hap haq
    have hgc := cd_gcd_b (z := (cd_up z bx by_ ap aq)) hbw hbw0
    refine lv_aload_n hx hb dX0_numerator_0 rfl (lv_at hl 0 rfl) ?_
    refine cd_get0 (v := .int (cd_I 1)) hx hb hts hown hK hP 0 rfl 17 (by decide) q46 rfl rfl dX0_numerator_1 ?_
    refine cd_if_eq (tgt := 16) hx hb ⟨by decide, by decide⟩ dX0_numerator_4 (by decide) (fun c_2 => absurd c_2 (by decide)) (fun c_2 => ?_)
    refine lv_iload_n hx hb dX0_numerator_7 rfl (lv_at hl 1 rfl) ?_
    refine cd_if_lt (tgt := 16) hx hb hz dX0_numerator_8 (by decide) (fun c_3 => ?_) (fun c_3 => ?_)
    · refine lv_iconst (v := cd_I 0) hx hb dX0_numerator_16 rfl ?_
      exact W.iret (v := cd_I 0) hx hb hr (fun t ht hW => ⟨⟨cd_I 0, (), rfl, Or.inl ⟨rfl, by omega⟩, trivial⟩, hS.F ht⟩) hS.2.2 dX0_numerator_17
    · refine lv_iload_n hx hb dX0_numerator_11 rfl (lv_at hl 1 rfl) ?_
      refine lv_iconst (v := cd_I 2) hx hb dX0_numerator_12 rfl ?_
      refine cd_icmp_le (tgt := 18) hx hb hz ⟨by decide, by decide⟩ dX0_numerator_13 (by decide) (fun c_4 => ?_) (fun c_4 => ?_)
      · refine lv_aload_n hx hb dX0_numerator_18 rfl (lv_at hl 0 rfl) ?_
        refine lv_iload_n hx hb dX0_numerator_19 rfl (lv_at hl 1 rfl) ?_
        refine cd_call0l (va_runV (As := [.int (cd_I z)]) (rest := []) ⟨hx, hb, hml, hown, hts⟩ (xd_upper l dC dI dA o0 o1 o2 o3 o4 n lv fa fb fc fl x y w hL hH lx ly lw gx gy gw 1 bx by_ bw ap aq z hz hap haq) (cwV 1 hts (lw_V q161 q163 qs8 q19 q164) rfl rfl rfl (by decide +kernel) ⟨Nat.le_of_ble_eq_true rfl, Nat.le_of_ble_eq_true rfl⟩) ⟨cd_bl0, va_recv hK hP (ci := 0) (q0 := 0) rfl rfl, cd_pr0 hP hK⟩ rfl rfl hl.1 rfl (lv_room (Nat.le_of_ble_eq_true rfl)) dX0_numerator_20 ⟨Nat.le_of_ble_eq_true rfl, Nat.le_of_ble_eq_true rfl⟩) hP hS (fun r H locs hq hP hS => ?_)
        subst hq
        refine cd_toL (y := (cd_up z bx by_ ap aq)) rfl ?_
        refine lv_lstore_n (lv' := [(2, .long (cd_L (cd_up z bx by_ ap aq))), (0, .ref o0), (1, .int (cd_I z))]) hx hb dX0_numerator_23 rfl hl (by decide) rfl (fun ls hl => ?_)
        refine lv_lload_n hx hb dX0_numerator_24 rfl (lv_at hl 0 rfl) ?_
        refine lv_lload_n hx hb dX0_numerator_25 rfl (lv_at hl 0 rfl) ?_
        refine lv_aload_n hx hb dX0_numerator_26 rfl (lv_at hl 1 rfl) ?_
        refine cd_get0 (v := .long (cd_L bw)) hx hb hts hown hK hP 0 rfl 20 (by decide) q49 rfl rfl dX0_numerator_27 ?_
        refine cd_call0l (va_runS (As := [.long (cd_L (cd_up z bx by_ ap aq)), .long (cd_L bw)]) (rest := [.long (cd_L (cd_up z bx by_ ap aq))]) ⟨hx, hb, hml, hown, hts⟩ (xd_divisor l (cd_up z bx by_ ap aq) bw (cd_bW hup (by decide)) (cd_bW hbw (by decide)) hbw0) (va_cwS 2 hts (lw_S q165 q166 q19 q167) rfl rfl rfl (by decide +kernel) ⟨Nat.le_of_ble_eq_true rfl, Nat.le_of_ble_eq_true rfl⟩) ⟨cd_blT, cd_prT⟩ rfl rfl hl.1 rfl (lv_room (Nat.le_of_ble_eq_true rfl)) dX0_numerator_30 ⟨Nat.le_of_ble_eq_true rfl, Nat.le_of_ble_eq_true rfl⟩) hP hS (fun r H locs hq hP hS => ?_)
        subst hq
        refine cd_ldiv hx hb (cd_bR64 hup (by decide)) ⟨by omega, by omega⟩ hgc.1 dX0_numerator_33 ?_
        refine cd_l2i hx hb dX0_numerator_34 ?_
        exact W.iret (v := cd_I (Int.tdiv (cd_up z bx by_ ap aq) ((Nat.gcd (cd_up z bx by_ ap aq).natAbs bw.natAbs : Nat) : Int))) hx hb hr (fun t ht hW => ⟨⟨cd_I (Int.tdiv (cd_up z bx by_ ap aq) ((Nat.gcd (cd_up z bx by_ ap aq).natAbs bw.natAbs : Nat) : Int)), (), rfl, Or.inr ⟨rfl, rfl, by omega, by omega⟩, trivial⟩, hS.F ht⟩) hS.2.2 dX0_numerator_35
      · refine lv_iconst (v := cd_I 0) hx hb dX0_numerator_16 rfl ?_
        exact W.iret (v := cd_I 0) hx hb hr (fun t ht hW => ⟨⟨cd_I 0, (), rfl, Or.inl ⟨rfl, by omega⟩, trivial⟩, hS.F ht⟩) hS.2.2 dX0_numerator_17

set_option maxHeartbeats 4000000 in
set_option maxRecDepth 100000 in
/-- denominator -/
theorem xd_denominator (l : Launch) (dC : Nat → ClassId) (dI : Nat → Nat → Nat) (dA : ClassId) (o0 o1 o2 o3 o4 n lv : Nat) (fa fb fc : Nat → Int) (fl : Nat → Nat) (x y w hL hH lx ly lw gx gy gw rm bx by_ bw ap aq : Int) (z : Int) (hz : cd_R32 z) (hrm : rm = 0 ∨ (rm = 1 ∧ cd_b 1782 bx ∧ cd_b 1782 by_ ∧ cd_b 162 bw ∧ 0 < bw ∧ cd_b 9 ap ∧ cd_b 9 aq)) : Met l yX0_denominator (ws_ yX0_denominator cX0_denominator 4 (some .int)) ({ frames := 1, cells := 0, slots := 0, locals := 30 }) (va_Pc [.ref o0, .int (cd_I z)] (cd_W0 (dC, dI) vwCl [(dA, .int)] (cd_D dA o0 o1 o2 o3 o4 n lv fa fb fc fl x y w hL hH lx ly lw gx gy gw rm bx by_ bw ap aq))) (va_Qi (fun (r : Int32) (_ : Unit) => (r = cd_I 0 ∧ ¬ (rm = 1 ∧ 0 ≤ z ∧ z ≤ 2)) ∨ (r = cd_I (Int.tdiv bw ((Nat.gcd (cd_up z bx by_ ap aq).natAbs bw.natAbs : Nat) : Int)) ∧ (rm = 1 ∧ 0 ≤ z ∧ z ≤ 2))) (fun _ _ => True) (fun _ => False)) 0 0 (fun _ => False) := by
  refine Met.ofW (cc := cX0_denominator) (maxL := 4) (ret := (some .int)) (by decide) rfl ?_
  intro p e s m args below meth c s₁ B hml hv
  obtain ⟨rfl, hP, hK⟩ := hv
  have hx := B.exec
  have hb := B.bytes
  have hr := B.returns
  have hts := atoms_spec (ws := (ws_ yX0_denominator cX0_denominator 4 (some .int))) B.pre
  have hts : ∀ w ∈ lw_all, w.before _ s = true := fun w h => hts w (List.mem_cons_of_mem _ h)
  have hown : s.vm.findClass RX0 = some m.cls := findClass_of_methodNamed B.named
  have hlocks := B.notSynchronized
  have hS : va_S (fun _ => False) s.heap s.heap [] := va_S.rf
  have hl := lv_entry ([.ref o0, .int (cd_I z)]) (n := 4) (Nat.le_of_ble_eq_true rfl)
  rw [lg_entry_eq]
  generalize (lg_sl ([.ref o0, .int (cd_I z)]) ++ List.replicate (4 - (lg_sl ([.ref o0, .int (cd_I z)])).length) Slot.unset).toArray = ls at hl ⊢
  have hl : lv_has ls 4 [(0, .ref o0), (1, .int (cd_I z))] := hl
  have hP : va_P (dC, dI) vwCl [(o0, .inr (0, [.int (cd_I ((n : Nat) : Int)), .ref o1, .ref o2, .ref o3, .int (cd_I ((lv : Nat) : Int)), .ref o4, .long (cd_L x), .long (cd_L y), .long (cd_L w), .int (cd_I hL), .int (cd_I hH), .long (cd_L lx), .long (cd_L ly), .long (cd_L lw), .long (cd_L gx), .long (cd_L gy), .long (cd_L gw), .int (cd_I rm), .long (cd_L bx), .long (cd_L by_), .long (cd_L bw), .int (cd_I ap), .int (cd_I aq)])), (o1, .inl (dA, 14, .inl (cd_c fa))), (o2, .inl (dA, 14, .inl (cd_c fb))), (o3, .inl (dA, 14, .inl (cd_c fc))), (o4, .inl (dA, 8, .inl (cd_n fl)))] s.heap := hP
  rcases hrm with hrm | ⟨hrm, hbx, hby, hbw, hbw0, hap, haq⟩
  · subst hrm
    refine lv_aload_n hx hb dX0_denominator_0 rfl (lv_at hl 0 rfl) ?_
    refine cd_get0 (v := .int (cd_I 0)) hx hb hts hown hK hP 0 rfl 17 (by decide) q46 rfl rfl dX0_denominator_1 ?_
    refine cd_if_eq (tgt := 16) hx hb ⟨by decide, by decide⟩ dX0_denominator_4 (by decide) (fun c_1 => ?_) (fun c_1 => absurd c_1 (by decide))
    refine lv_iconst (v := cd_I 0) hx hb dX0_denominator_16 rfl ?_
    exact W.iret (v := cd_I 0) hx hb hr (fun t ht hW => ⟨⟨cd_I 0, (), rfl, Or.inl ⟨rfl, by omega⟩, trivial⟩, hS.F ht⟩) hS.2.2 dX0_denominator_17
  · subst hrm
    have hup : cd_b 32076 (cd_up z bx by_ ap aq) := cd_up_b hbx hby hap haq
    have hgc := cd_gcd_b (z := (cd_up z bx by_ ap aq)) hbw hbw0
    refine lv_aload_n hx hb dX0_denominator_0 rfl (lv_at hl 0 rfl) ?_
    refine cd_get0 (v := .int (cd_I 1)) hx hb hts hown hK hP 0 rfl 17 (by decide) q46 rfl rfl dX0_denominator_1 ?_
    refine cd_if_eq (tgt := 16) hx hb ⟨by decide, by decide⟩ dX0_denominator_4 (by decide) (fun c_2 => absurd c_2 (by decide)) (fun c_2 => ?_)
    refine lv_iload_n hx hb dX0_denominator_7 rfl (lv_at hl 1 rfl) ?_
    refine cd_if_lt (tgt := 16) hx hb hz dX0_denominator_8 (by decide) (fun c_3 => ?_) (fun c_3 => ?_)
    · refine lv_iconst (v := cd_I 0) hx hb dX0_denominator_16 rfl ?_
      exact W.iret (v := cd_I 0) hx hb hr (fun t ht hW => ⟨⟨cd_I 0, (), rfl, Or.inl ⟨rfl, by omega⟩, trivial⟩, hS.F ht⟩) hS.2.2 dX0_denominator_17
    · refine lv_iload_n hx hb dX0_denominator_11 rfl (lv_at hl 1 rfl) ?_
      refine lv_iconst (v := cd_I 2) hx hb dX0_denominator_12 rfl ?_
      refine cd_icmp_le (tgt := 18) hx hb hz ⟨by decide, by decide⟩ dX0_denominator_13 (by decide) (fun c_4 => ?_) (fun c_4 => ?_)
      · refine lv_aload_n hx hb dX0_denominator_18 rfl (lv_at hl 0 rfl) ?_
        refine lv_iload_n hx hb dX0_denominator_19 rfl (lv_at hl 1 rfl) ?_
        refine cd_call0l (va_runV (As := [.int (cd_I z)]) (rest := []) ⟨hx, hb, hml, hown, hts⟩ (xd_upper l dC dI dA o0 o1 o2 o3 o4 n lv fa fb fc fl x y w hL hH lx ly lw gx gy gw 1 bx by_ bw ap aq z hz hap haq) (cwV 1 hts (lw_V q161 q163 qs8 q19 q164) rfl rfl rfl (by decide +kernel) ⟨Nat.le_of_ble_eq_true rfl, Nat.le_of_ble_eq_true rfl⟩) ⟨cd_bl0, va_recv hK hP (ci := 0) (q0 := 0) rfl rfl, cd_pr0 hP hK⟩ rfl rfl hl.1 rfl (lv_room (Nat.le_of_ble_eq_true rfl)) dX0_denominator_20 ⟨Nat.le_of_ble_eq_true rfl, Nat.le_of_ble_eq_true rfl⟩) hP hS (fun r H locs hq hP hS => ?_)
        subst hq
        refine cd_toL (y := (cd_up z bx by_ ap aq)) rfl ?_
        refine lv_lstore_n (lv' := [(2, .long (cd_L (cd_up z bx by_ ap aq))), (0, .ref o0), (1, .int (cd_I z))]) hx hb dX0_denominator_23 rfl hl (by decide) rfl (fun ls hl => ?_)
        refine lv_aload_n hx hb dX0_denominator_24 rfl (lv_at hl 1 rfl) ?_
        refine cd_get0 (v := .long (cd_L bw)) hx hb hts hown hK hP 0 rfl 20 (by decide) q49 rfl rfl dX0_denominator_25 ?_
        refine lv_lload_n hx hb dX0_denominator_28 rfl (lv_at hl 0 rfl) ?_
        refine lv_aload_n hx hb dX0_denominator_29 rfl (lv_at hl 1 rfl) ?_
        refine cd_get0 (v := .long (cd_L bw)) hx hb hts hown hK hP 0 rfl 20 (by decide) q49 rfl rfl dX0_denominator_30 ?_
        refine cd_call0l (va_runS (As := [.long (cd_L (cd_up z bx by_ ap aq)), .long (cd_L bw)]) (rest := [.long (cd_L bw)]) ⟨hx, hb, hml, hown, hts⟩ (xd_divisor l (cd_up z bx by_ ap aq) bw (cd_bW hup (by decide)) (cd_bW hbw (by decide)) hbw0) (va_cwS 2 hts (lw_S q165 q166 q19 q167) rfl rfl rfl (by decide +kernel) ⟨Nat.le_of_ble_eq_true rfl, Nat.le_of_ble_eq_true rfl⟩) ⟨cd_blT, cd_prT⟩ rfl rfl hl.1 rfl (lv_room (Nat.le_of_ble_eq_true rfl)) dX0_denominator_33 ⟨Nat.le_of_ble_eq_true rfl, Nat.le_of_ble_eq_true rfl⟩) hP hS (fun r H locs hq hP hS => ?_)
        subst hq
        refine cd_ldiv hx hb (cd_bR64 hbw (by decide)) ⟨by omega, by omega⟩ hgc.1 dX0_denominator_36 ?_
        refine cd_l2i hx hb dX0_denominator_37 ?_
        exact W.iret (v := cd_I (Int.tdiv bw ((Nat.gcd (cd_up z bx by_ ap aq).natAbs bw.natAbs : Nat) : Int))) hx hb hr (fun t ht hW => ⟨⟨cd_I (Int.tdiv bw ((Nat.gcd (cd_up z bx by_ ap aq).natAbs bw.natAbs : Nat) : Int)), (), rfl, Or.inr ⟨rfl, rfl, by omega, by omega⟩, trivial⟩, hS.F ht⟩) hS.2.2 dX0_denominator_38
      · refine lv_iconst (v := cd_I 0) hx hb dX0_denominator_16 rfl ?_
        exact W.iret (v := cd_I 0) hx hb hr (fun t ht hW => ⟨⟨cd_I 0, (), rfl, Or.inl ⟨rfl, by omega⟩, trivial⟩, hS.F ht⟩) hS.2.2 dX0_denominator_17

set_option maxHeartbeats 4000000 in
set_option maxRecDepth 100000 in
/-- test -/
theorem xd_test (l : Launch) (dC : Nat → ClassId) (dI : Nat → Nat → Nat) (dA : ClassId) (o0 o1 o2 o3 o4 n lv : Nat) (fa fb fc : Nat → Int) (fl : Nat → Nat) (x y w hL hH lx ly lw gx gy gw rm bx by_ bw ap aq : Int) (a b d : Int) (ha : cd_R32 a) (hb1 : cd_R32 b) (hd : cd_R32 d) (hrm : rm = 0 ∨ (rm = 1 ∧ cd_b 1782 bx ∧ cd_b 1782 by_ ∧ cd_b 162 bw ∧ 0 < bw ∧ cd_b 9 ap ∧ cd_b 9 aq)) : Met l yX0_test (ws_ yX0_test cX0_test 6 (some .int)) ({ frames := 1, cells := 0, slots := 0, locals := 23 }) (va_Pc [.ref o0, .int (cd_I a), .int (cd_I b), .int (cd_I d)] (cd_W0 (dC, dI) vwCl [(dA, .int)] (cd_D dA o0 o1 o2 o3 o4 n lv fa fb fc fl x y w hL hH lx ly lw gx gy gw rm bx by_ bw ap aq))) (va_Qi (fun (r : Int32) (_ : Unit) => (r = cd_I (-1) ∧ ¬ (rm = 1 ∧ cd_cond a b d)) ∨ ((rm = 1 ∧ cd_cond a b d) ∧ ((r = cd_I 1 ∧ (a * bx + b * by_ - d * bw) = 0) ∨ (r = cd_I 2 ∧ (a * bx + b * by_ - d * bw) < 0) ∨ (r = cd_I 0 ∧ 0 < (a * bx + b * by_ - d * bw))))) (fun _ _ => True) (fun _ => False)) 0 0 (fun _ => False) := by
  refine Met.ofW (cc := cX0_test) (maxL := 6) (ret := (some .int)) (by decide) rfl ?_
  intro p e s m args below meth c s₁ B hml hv
  obtain ⟨rfl, hP, hK⟩ := hv
  have hx := B.exec
  have hb := B.bytes
  have hr := B.returns
  have hts := atoms_spec (ws := (ws_ yX0_test cX0_test 6 (some .int))) B.pre
  have hts : ∀ w ∈ lw_all, w.before _ s = true := fun w h => hts w (List.mem_cons_of_mem _ h)
  have hown : s.vm.findClass RX0 = some m.cls := findClass_of_methodNamed B.named
  have hlocks := B.notSynchronized
  have hS : va_S (fun _ => False) s.heap s.heap [] := va_S.rf
  have hl := lv_entry ([.ref o0, .int (cd_I a), .int (cd_I b), .int (cd_I d)]) (n := 6) (Nat.le_of_ble_eq_true rfl)
  rw [lg_entry_eq]
  generalize (lg_sl ([.ref o0, .int (cd_I a), .int (cd_I b), .int (cd_I d)]) ++ List.replicate (6 - (lg_sl ([.ref o0, .int (cd_I a), .int (cd_I b), .int (cd_I d)])).length) Slot.unset).toArray = ls at hl ⊢
  have hl : lv_has ls 6 [(0, .ref o0), (1, .int (cd_I a)), (2, .int (cd_I b)), (3, .int (cd_I d))] := hl
  have hP : va_P (dC, dI) vwCl [(o0, .inr (0, [.int (cd_I ((n : Nat) : Int)), .ref o1, .ref o2, .ref o3, .int (cd_I ((lv : Nat) : Int)), .ref o4, .long (cd_L x), .long (cd_L y), .long (cd_L w), .int (cd_I hL), .int (cd_I hH), .long (cd_L lx), .long (cd_L ly), .long (cd_L lw), .long (cd_L gx), .long (cd_L gy), .long (cd_L gw), .int (cd_I rm), .long (cd_L bx), .long (cd_L by_), .long (cd_L bw), .int (cd_I ap), .int (cd_I aq)])), (o1, .inl (dA, 14, .inl (cd_c fa))), (o2, .inl (dA, 14, .inl (cd_c fb))), (o3, .inl (dA, 14, .inl (cd_c fc))), (o4, .inl (dA, 8, .inl (cd_n fl)))] s.heap := hP
  rcases hrm with hrm | ⟨hrm, hbx, hby, hbw, hbw0, hap, haq⟩
  · subst hrm
    refine lv_aload_n hx hb dX0_test_0 rfl (lv_at hl 0 rfl) ?_
    refine cd_get0 (v := .int (cd_I 0)) hx hb hts hown hK hP 0 rfl 17 (by decide) q46 rfl rfl dX0_test_1 ?_
    refine cd_if_eq (tgt := 16) hx hb ⟨by decide, by decide⟩ dX0_test_4 (by decide) (fun c_1 => ?_) (fun c_1 => absurd c_1 (by decide))
    refine lv_iconst (v := cd_I (-1)) hx hb dX0_test_16 rfl ?_
    exact W.iret (v := cd_I (-1)) hx hb hr (fun t ht hW => ⟨⟨cd_I (-1), (), rfl, Or.inl ⟨rfl, fun q => absurd q.1 (by decide)⟩, trivial⟩, hS.F ht⟩) hS.2.2 dX0_test_17
  · subst hrm
    refine lv_aload_n hx hb dX0_test_0 rfl (lv_at hl 0 rfl) ?_
    refine cd_get0 (v := .int (cd_I 1)) hx hb hts hown hK hP 0 rfl 17 (by decide) q46 rfl rfl dX0_test_1 ?_
    refine cd_if_eq (tgt := 16) hx hb ⟨by decide, by decide⟩ dX0_test_4 (by decide) (fun c_2 => absurd c_2 (by decide)) (fun c_2 => ?_)
    refine lv_iload_n hx hb dX0_test_7 rfl (lv_at hl 1 rfl) ?_
    refine lv_iload_n hx hb dX0_test_8 rfl (lv_at hl 2 rfl) ?_
    refine lv_iload_n hx hb dX0_test_9 rfl (lv_at hl 3 rfl) ?_
    refine cd_call0i (va_runS (As := [.int (cd_I a), .int (cd_I b), .int (cd_I d)]) (rest := []) ⟨hx, hb, hml, hown, hts⟩ (xd_isCondition l a b d ha hb1 hd) (va_cwS 3 hts (lw_S q104 q105 q19 q106) rfl rfl rfl (by decide +kernel) ⟨Nat.le_of_ble_eq_true rfl, Nat.le_of_ble_eq_true rfl⟩) ⟨cd_blT, cd_prT⟩ rfl rfl hl.1 rfl (lv_room (Nat.le_of_ble_eq_true rfl)) dX0_test_10 ⟨Nat.le_of_ble_eq_true rfl, Nat.le_of_ble_eq_true rfl⟩) hP hS (fun r H locs hq hP hS => ?_)
    rcases hq with ⟨rfl, hcd⟩ | ⟨rfl, hcd⟩
    · refine cd_if_ne (tgt := 18) hx hb ⟨by decide, by decide⟩ dX0_test_13 (by decide) (fun c_3 => ?_) (fun c_3 => absurd c_3 (by decide))
      obtain ⟨⟨z1, z2, z3, z4, z5, z6⟩, z7⟩ := id hcd
      have h9a : cd_b 9 a := ⟨z1, z2⟩
      have h9b : cd_b 9 b := ⟨z3, z4⟩
      have h9d : cd_b 99 d := ⟨z5, z6⟩
      refine lv_iload_n hx hb dX0_test_18 rfl (lv_at hl 1 rfl) ?_
      refine cd_i2l hx hb ha dX0_test_19 ?_
      refine lv_aload_n hx hb dX0_test_20 rfl (lv_at hl 0 rfl) ?_
      refine cd_get0 (v := .long (cd_L bx)) hx hb hts hown hK hP 0 rfl 18 (by decide) q47 rfl rfl dX0_test_21 ?_
      refine cd_lmul hx hb dX0_test_24 ?_
      refine lv_iload_n hx hb dX0_test_25 rfl (lv_at hl 2 rfl) ?_
      refine cd_i2l hx hb hb1 dX0_test_26 ?_
      refine lv_aload_n hx hb dX0_test_27 rfl (lv_at hl 0 rfl) ?_
      refine cd_get0 (v := .long (cd_L by_)) hx hb hts hown hK hP 0 rfl 19 (by decide) q48 rfl rfl dX0_test_28 ?_
      refine cd_lmul hx hb dX0_test_31 ?_
      refine cd_ladd hx hb dX0_test_32 ?_
      refine lv_iload_n hx hb dX0_test_33 rfl (lv_at hl 3 rfl) ?_
      refine cd_i2l hx hb hd dX0_test_34 ?_
      refine lv_aload_n hx hb dX0_test_35 rfl (lv_at hl 0 rfl) ?_
      refine cd_get0 (v := .long (cd_L bw)) hx hb hts hown hK hP 0 rfl 20 (by decide) q49 rfl rfl dX0_test_36 ?_
      refine cd_lmul hx hb dX0_test_39 ?_
      refine cd_lsub hx hb dX0_test_40 ?_
      refine lv_lstore (lv' := [(4, .long (cd_L (((a * bx) + (b * by_)) - (d * bw)))), (0, .ref o0), (1, .int (cd_I a)), (2, .int (cd_I b)), (3, .int (cd_I d))]) hx hb dX0_test_41 hl (by decide) rfl (fun ls hl => ?_)
      refine lv_lload hx hb dX0_test_43 (lv_at hl 0 rfl) ?_
      refine lv_lconst (v := cd_L 0) hx hb dX0_test_45 (by decide) ?_
      refine cd_lcmp_ne (tgt := 54) hx hb (cd_bR64 (cd_bS (cd_bA (cd_bM h9a hbx) (cd_bM h9b hby)) (cd_bM h9d hbw)) (by decide)) ⟨by decide, by decide⟩ dX0_test_46 dX0_test_47 (by decide) (fun c_4 => ?_) (fun c_4 => ?_)
      · refine lv_lload hx hb dX0_test_54 (lv_at hl 0 rfl) ?_
        refine lv_lconst (v := cd_L 0) hx hb dX0_test_56 (by decide) ?_
        refine cd_lcmp_ge (tgt := 65) hx hb (cd_bR64 (cd_bS (cd_bA (cd_bM h9a hbx) (cd_bM h9b hby)) (cd_bM h9d hbw)) (by decide)) ⟨by decide, by decide⟩ dX0_test_57 dX0_test_58 (by decide) (fun c_5 => ?_) (fun c_5 => ?_)
        · refine lv_iconst (v := cd_I 0) hx hb dX0_test_65 rfl ?_
          exact W.iret (v := cd_I 0) hx hb hr (fun t ht hW => ⟨⟨cd_I 0, (), rfl, Or.inr ⟨⟨rfl, hcd⟩, Or.inr (Or.inr ⟨rfl, by omega⟩)⟩, trivial⟩, hS.F ht⟩) hS.2.2 dX0_test_66
        · refine lv_iconst (v := cd_I 2) hx hb dX0_test_61 rfl ?_
          refine lv_goto (tgt := 66) hx hb dX0_test_62 (by decide) ?_
          exact W.iret (v := cd_I 2) hx hb hr (fun t ht hW => ⟨⟨cd_I 2, (), rfl, Or.inr ⟨⟨rfl, hcd⟩, Or.inr (Or.inl ⟨rfl, by omega⟩)⟩, trivial⟩, hS.F ht⟩) hS.2.2 dX0_test_66
      · refine lv_iconst (v := cd_I 1) hx hb dX0_test_50 rfl ?_
        refine lv_goto (tgt := 66) hx hb dX0_test_51 (by decide) ?_
        exact W.iret (v := cd_I 1) hx hb hr (fun t ht hW => ⟨⟨cd_I 1, (), rfl, Or.inr ⟨⟨rfl, hcd⟩, Or.inl ⟨rfl, by omega⟩⟩, trivial⟩, hS.F ht⟩) hS.2.2 dX0_test_66
    · refine cd_if_ne (tgt := 18) hx hb ⟨by decide, by decide⟩ dX0_test_13 (by decide) (fun c_6 => absurd c_6 (by decide)) (fun c_6 => ?_)
      refine lv_iconst (v := cd_I (-1)) hx hb dX0_test_16 rfl ?_
      exact W.iret (v := cd_I (-1)) hx hb hr (fun t ht hW => ⟨⟨cd_I (-1), (), rfl, Or.inl ⟨rfl, fun q => hcd q.2⟩, trivial⟩, hS.F ht⟩) hS.2.2 dX0_test_17

set_option maxHeartbeats 4000000 in
set_option maxRecDepth 100000 in
/-- spare -/
theorem xd_spare (l : Launch) (dC : Nat → ClassId) (dI : Nat → Nat → Nat) (dA : ClassId) (o0 o1 o2 o3 o4 n lv : Nat) (fa fb fc : Nat → Int) (fl : Nat → Nat) (x y w hL hH lx ly lw gx gy gw rm bx by_ bw ap aq : Int) (sz : Nat) (hok : cd_ok fa fb fc n) : Met l yX0_spare (ws_ yX0_spare cX0_spare 4 (some .int)) ({ frames := 5, cells := 0, slots := 0, locals := 130 }) (va_Pc [.ref o0] (cd_W1 (dC, dI) vwCl [(dA, .int)] (cd_D dA o0 o1 o2 o3 o4 n lv fa fb fc fl x y w hL hH lx ly lw gx gy gw rm bx by_ bw ap aq) sz)) (va_Qi (fun (r : Int32) (u : Int × Int × Int × Int × Int × Int × Int × Int × Int × Int × Int) => r = cd_I ((cd_cnt (fun i => cd_spare fa fb fc n (i + 4)) (n - 4) : Nat) : Int) ∧ ∀ i, i + 4 < n → cd_has fa fb fc n (i + 4)) (cd_B (dC, dI) vwCl (va_A (cd_D dA o0 o1 o2 o3 o4 n lv fa fb fc fl x y w hL hH lx ly lw gx gy gw rm bx by_ bw ap aq) sz) (fun u : Int × Int × Int × Int × Int × Int × Int × Int × Int × Int × Int => (cd_D dA o0 o1 o2 o3 o4 n lv fa fb fc fl u.1 u.2.1 u.2.2.1 u.2.2.2.1 u.2.2.2.2.1 u.2.2.2.2.2.1 u.2.2.2.2.2.2.1 u.2.2.2.2.2.2.2.1 u.2.2.2.2.2.2.2.2.1 u.2.2.2.2.2.2.2.2.2.1 u.2.2.2.2.2.2.2.2.2.2 rm bx by_ bw ap aq))) (va_A (cd_D dA o0 o1 o2 o3 o4 n lv fa fb fc fl x y w hL hH lx ly lw gx gy gw rm bx by_ bw ap aq) sz)) 0 0 (va_A (cd_D dA o0 o1 o2 o3 o4 n lv fa fb fc fl x y w hL hH lx ly lw gx gy gw rm bx by_ bw ap aq) sz) := by
  refine Met.ofW (cc := cX0_spare) (maxL := 4) (ret := (some .int)) (by decide) rfl ?_
  intro p e s m args below meth c s₁ B hml hv
  obtain ⟨rfl, hsz, hP, hK, hD0⟩ := hv
  have hx := B.exec
  have hb := B.bytes
  have hr := B.returns
  have hts := atoms_spec (ws := (ws_ yX0_spare cX0_spare 4 (some .int))) B.pre
  have hts : ∀ w ∈ lw_all, w.before _ s = true := fun w h => hts w (List.mem_cons_of_mem _ h)
  have hown : s.vm.findClass RX0 = some m.cls := findClass_of_methodNamed B.named
  have hlocks := B.notSynchronized
  subst hsz
  have hD := hD0.self (sz := s.heap.size)
  generalize hAe : va_A (cd_D dA o0 o1 o2 o3 o4 n lv fa fb fc fl x y w hL hH lx ly lw gx gy gw rm bx by_ bw ap aq) s.heap.size = A at hD ⊢
  have hA : ∀ q : Nat, s.heap.size ≤ q → A q := fun q h => by rw [← hAe]; exact Or.inr h
  have hS : va_S A s.heap s.heap [] := va_S.rf
  have hl := lv_entry ([.ref o0]) (n := 4) (Nat.le_of_ble_eq_true rfl)
  rw [lg_entry_eq]
  generalize (lg_sl ([.ref o0]) ++ List.replicate (4 - (lg_sl ([.ref o0])).length) Slot.unset).toArray = ls at hl ⊢
  have hl : lv_has ls 4 [(0, .ref o0)] := hl
  have hP : va_P (dC, dI) vwCl [(o0, .inr (0, [.int (cd_I ((n : Nat) : Int)), .ref o1, .ref o2, .ref o3, .int (cd_I ((lv : Nat) : Int)), .ref o4, .long (cd_L x), .long (cd_L y), .long (cd_L w), .int (cd_I hL), .int (cd_I hH), .long (cd_L lx), .long (cd_L ly), .long (cd_L lw), .long (cd_L gx), .long (cd_L gy), .long (cd_L gw), .int (cd_I rm), .long (cd_L bx), .long (cd_L by_), .long (cd_L bw), .int (cd_I ap), .int (cd_I aq)])), (o1, .inl (dA, 14, .inl (cd_c fa))), (o2, .inl (dA, 14, .inl (cd_c fb))), (o3, .inl (dA, 14, .inl (cd_c fc))), (o4, .inl (dA, 8, .inl (cd_n fl)))] s.heap := hP
  have hD : va_D A [(o0, .inr (0, [.int (cd_I ((n : Nat) : Int)), .ref o1, .ref o2, .ref o3, .int (cd_I ((lv : Nat) : Int)), .ref o4, .long (cd_L x), .long (cd_L y), .long (cd_L w), .int (cd_I hL), .int (cd_I hH), .long (cd_L lx), .long (cd_L ly), .long (cd_L lw), .long (cd_L gx), .long (cd_L gy), .long (cd_L gw), .int (cd_I rm), .long (cd_L bx), .long (cd_L by_), .long (cd_L bw), .int (cd_I ap), .int (cd_I aq)])), (o1, .inl (dA, 14, .inl (cd_c fa))), (o2, .inl (dA, 14, .inl (cd_c fb))), (o3, .inl (dA, 14, .inl (cd_c fc))), (o4, .inl (dA, 8, .inl (cd_n fl)))] := hD
  have hn14 : n ≤ 14 := hok.1.2
  have hn4 : 4 ≤ n := hok.1.1
  have loop : ∀ (f i : Nat) (x y w hL hH lx ly lw gx gy gw : Int), i + 4 ≤ n → n + 1 ≤ i + 4 + f → (∀ i2, i2 < i → cd_has fa fb fc n (i2 + 4)) → ∀ (H : Heap) (locs : List Loc), va_P (dC, dI) vwCl (cd_D dA o0 o1 o2 o3 o4 n lv fa fb fc fl x y w hL hH lx ly lw gx gy gw rm bx by_ bw ap aq) H → va_D A (cd_D dA o0 o1 o2 o3 o4 n lv fa fb fc fl x y w hL hH lx ly lw gx gy gw rm bx by_ bw ap aq) → va_S A s.heap H locs → ∀ ls : Array Slot, lv_has ls 4 [(2, .int (cd_I ((i + 4 : Nat) : Int))), (1, .int (cd_I ((cd_cnt (fun i => cd_spare fa fb fc n (i + 4)) i : Nat) : Int))), (0, .ref o0)] → W p l e (headSpec (ws_ yX0_spare cX0_spare 4 (some .int)) ({ frames := 5, cells := 0, slots := 0, locals := 130 })).room s m ([.ref o0] : List Value).toArray below meth c H locs 0 0 (MQ below (va_Qi (fun (r : Int32) (u : Int × Int × Int × Int × Int × Int × Int × Int × Int × Int × Int) => r = cd_I ((cd_cnt (fun i => cd_spare fa fb fc n (i + 4)) (n - 4) : Nat) : Int) ∧ ∀ i, i + 4 < n → cd_has fa fb fc n (i + 4)) (cd_B (dC, dI) vwCl A (fun u : Int × Int × Int × Int × Int × Int × Int × Int × Int × Int × Int => (cd_D dA o0 o1 o2 o3 o4 n lv fa fb fc fl u.1 u.2.1 u.2.2.1 u.2.2.2.1 u.2.2.2.2.1 u.2.2.2.2.2.1 u.2.2.2.2.2.2.1 u.2.2.2.2.2.2.2.1 u.2.2.2.2.2.2.2.2.1 u.2.2.2.2.2.2.2.2.2.1 u.2.2.2.2.2.2.2.2.2.2 rm bx by_ bw ap aq))) A) ([.ref o0] : List Value).toArray s 0 0 A) (F0 m 4 ls []) := by
    intro f
    induction f with
    | zero =>
      intro i x y w hL hH lx ly lw gx gy gw h0 h1
      exact absurd h1 (by omega)
    | succ f ih =>
      intro i x y w hL hH lx ly lw gx gy gw hi1 hi2 hhas H locs hP hD hS ls hl
      have hP : va_P (dC, dI) vwCl [(o0, .inr (0, [.int (cd_I ((n : Nat) : Int)), .ref o1, .ref o2, .ref o3, .int (cd_I ((lv : Nat) : Int)), .ref o4, .long (cd_L x), .long (cd_L y), .long (cd_L w), .int (cd_I hL), .int (cd_I hH), .long (cd_L lx), .long (cd_L ly), .long (cd_L lw), .long (cd_L gx), .long (cd_L gy), .long (cd_L gw), .int (cd_I rm), .long (cd_L bx), .long (cd_L by_), .long (cd_L bw), .int (cd_I ap), .int (cd_I aq)])), (o1, .inl (dA, 14, .inl (cd_c fa))), (o2, .inl (dA, 14, .inl (cd_c fb))), (o3, .inl (dA, 14, .inl (cd_c fc))), (o4, .inl (dA, 8, .inl (cd_n fl)))] H := hP
      have hD : va_D A [(o0, .inr (0, [.int (cd_I ((n : Nat) : Int)), .ref o1, .ref o2, .ref o3, .int (cd_I ((lv : Nat) : Int)), .ref o4, .long (cd_L x), .long (cd_L y), .long (cd_L w), .int (cd_I hL), .int (cd_I hH), .long (cd_L lx), .long (cd_L ly), .long (cd_L lw), .long (cd_L gx), .long (cd_L gy), .long (cd_L gw), .int (cd_I rm), .long (cd_L bx), .long (cd_L by_), .long (cd_L bw), .int (cd_I ap), .int (cd_I aq)])), (o1, .inl (dA, 14, .inl (cd_c fa))), (o2, .inl (dA, 14, .inl (cd_c fb))), (o3, .inl (dA, 14, .inl (cd_c fc))), (o4, .inl (dA, 8, .inl (cd_n fl)))] := hD
      refine lv_iload_n hx hb dX0_spare_4 rfl (lv_at hl 0 rfl) ?_
      refine lv_aload_n hx hb dX0_spare_5 rfl (lv_at hl 2 rfl) ?_
      refine cd_get0 (v := .int (cd_I ((n : Nat) : Int))) hx hb hts hown hK hP 0 rfl 0 (by decide) q29 rfl rfl dX0_spare_6 ?_
      refine cd_icmp_ge (tgt := 56) hx hb ⟨by omega, by omega⟩ ⟨by omega, by omega⟩ dX0_spare_9 (by decide) (fun c_1 => ?_) (fun c_1 => ?_)
      · have hin : i = n - 4 := by omega
        refine lv_iload_n hx hb dX0_spare_56 rfl (lv_at hl 1 rfl) ?_
        exact W.iret (v := cd_I ((cd_cnt (fun i => cd_spare fa fb fc n (i + 4)) i : Nat) : Int)) hx hb hr (fun t ht hW => ⟨⟨cd_I ((cd_cnt (fun i => cd_spare fa fb fc n (i + 4)) i : Nat) : Int), (x, y, w, hL, hH, lx, ly, lw, gx, gy, gw), rfl, ⟨by rw [hin], fun i2 h2 => hhas i2 (by omega)⟩, ⟨by rw [ht]; exact hP, hD⟩⟩, hS.F ht⟩) hS.2.2 dX0_spare_57
      · have hkn : i + 4 < n := by omega
        obtain ⟨ha, hb1, hc1, -⟩ := hok.2.2.2.2.2 (i + 4) hkn
        refine lv_aload_n hx hb dX0_spare_12 rfl (lv_at hl 2 rfl) ?_
        refine lv_aload_n hx hb dX0_spare_13 rfl (lv_at hl 2 rfl) ?_
        refine cd_get0 (v := .ref o1) hx hb hts hown hK hP 0 rfl 1 (by decide) q30 rfl rfl dX0_spare_14 ?_
        refine lv_iload_n hx hb dX0_spare_17 rfl (lv_at hl 0 rfl) ?_
        refine cd_iald (k := (i + 4)) hx hb hK hP 1 0 rfl rfl (by omega) (by decide) dX0_spare_18 ?_
        refine lv_aload_n hx hb dX0_spare_19 rfl (lv_at hl 2 rfl) ?_
        refine cd_get0 (v := .ref o2) hx hb hts hown hK hP 0 rfl 2 (by decide) q31 rfl rfl dX0_spare_20 ?_
        refine lv_iload_n hx hb dX0_spare_23 rfl (lv_at hl 0 rfl) ?_
        refine cd_iald (k := (i + 4)) hx hb hK hP 2 0 rfl rfl (by omega) (by decide) dX0_spare_24 ?_
        refine lv_iload_n hx hb dX0_spare_25 rfl (lv_at hl 0 rfl) ?_
        refine cd_call1i (va_runV (As := [.int (cd_I (fa (i + 4))), .int (cd_I (fb (i + 4))), .int (cd_I ((i + 4 : Nat) : Int))]) (rest := []) ⟨hx, hb, hml, hown, hts⟩ (xd_solve l dC dI dA o0 o1 o2 o3 o4 n lv fa fb fc fl x y w hL hH lx ly lw gx gy gw rm bx by_ bw ap aq H.size (fa (i + 4)) (fb (i + 4)) ((i + 4 : Nat) : Int) hok ha hb1 (Or.inr ⟨by omega, by omega⟩)) (cwV 3 hts (lw_V q119 q121 qs0 q19 q122) rfl rfl rfl (by decide +kernel) ⟨Nat.le_of_ble_eq_true rfl, Nat.le_of_ble_eq_true rfl⟩) ⟨cd_bl1, va_recv hK hP (ci := 0) (q0 := 0) rfl rfl, cd_pr1 hP hK hD⟩ rfl rfl hl.1 rfl (lv_room (Nat.le_of_ble_eq_true rfl)) dX0_spare_26 ⟨Nat.le_of_ble_eq_true rfl, Nat.le_of_ble_eq_true rfl⟩) hD hS hA (fun r u H locs hq hP hD hS => ?_)
        obtain ⟨u1, u2, u3, u4, u5, u6, u7, u8, u9, u10, u11⟩ := u
        have hP : va_P (dC, dI) vwCl [(o0, .inr (0, [.int (cd_I ((n : Nat) : Int)), .ref o1, .ref o2, .ref o3, .int (cd_I ((lv : Nat) : Int)), .ref o4, .long (cd_L u1), .long (cd_L u2), .long (cd_L u3), .int (cd_I u4), .int (cd_I u5), .long (cd_L u6), .long (cd_L u7), .long (cd_L u8), .long (cd_L u9), .long (cd_L u10), .long (cd_L u11), .int (cd_I rm), .long (cd_L bx), .long (cd_L by_), .long (cd_L bw), .int (cd_I ap), .int (cd_I aq)])), (o1, .inl (dA, 14, .inl (cd_c fa))), (o2, .inl (dA, 14, .inl (cd_c fb))), (o3, .inl (dA, 14, .inl (cd_c fc))), (o4, .inl (dA, 8, .inl (cd_n fl)))] H := hP
        have hD : va_D A [(o0, .inr (0, [.int (cd_I ((n : Nat) : Int)), .ref o1, .ref o2, .ref o3, .int (cd_I ((lv : Nat) : Int)), .ref o4, .long (cd_L u1), .long (cd_L u2), .long (cd_L u3), .int (cd_I u4), .int (cd_I u5), .long (cd_L u6), .long (cd_L u7), .long (cd_L u8), .long (cd_L u9), .long (cd_L u10), .long (cd_L u11), .int (cd_I rm), .long (cd_L bx), .long (cd_L by_), .long (cd_L bw), .int (cd_I ap), .int (cd_I aq)])), (o1, .inl (dA, 14, .inl (cd_c fa))), (o2, .inl (dA, 14, .inl (cd_c fb))), (o3, .inl (dA, 14, .inl (cd_c fc))), (o4, .inl (dA, 8, .inl (cd_n fl)))] := hD
        have hq : (r = cd_I 1 ∧ cd_opt fa fb fc (cd_S n ((i + 4 : Nat) : Int)) (fa (i + 4)) (fb (i + 4)) u1 u2 u3 ∧ cd_corn fa fb fc (cd_S n ((i + 4 : Nat) : Int)) u1 u2 u3) ∨ (r = cd_I 0 ∧ ∀ X Y W : Int, ¬ cd_feas fa fb fc (cd_S n ((i + 4 : Nat) : Int)) X Y W) := hq
        rcases hq with ⟨rfl, hopt, hcor⟩ | ⟨rfl, hno⟩
        · refine lv_istore_n (lv' := [(3, .int (cd_I 1)), (2, .int (cd_I ((i + 4 : Nat) : Int))), (1, .int (cd_I ((cd_cnt (fun i => cd_spare fa fb fc n (i + 4)) i : Nat) : Int))), (0, .ref o0)]) hx hb dX0_spare_29 rfl hl (by decide) rfl (fun ls hl => ?_)
          refine lv_iload_n hx hb dX0_spare_30 rfl (lv_at hl 2 rfl) ?_
          refine lv_iload_n hx hb dX0_spare_31 rfl (lv_at hl 0 rfl) ?_
          refine cd_if_eq (tgt := 43) hx hb ⟨by decide, by decide⟩ dX0_spare_32 (by decide) (fun c_2 => absurd c_2 (by decide)) (fun c_2 => ?_)
          refine lv_aload_n hx hb dX0_spare_35 rfl (lv_at hl 3 rfl) ?_
          refine lv_iload_n hx hb dX0_spare_36 rfl (lv_at hl 1 rfl) ?_
          obtain ⟨hx1, hy1, hw1, -⟩ := cd_corn_b hok (fun i hi => hi.1) hcor
          refine cd_call0i (va_runV (As := [.int (cd_I ((i + 4 : Nat) : Int))]) (rest := [.int (cd_I ((cd_cnt (fun i => cd_spare fa fb fc n (i + 4)) i : Nat) : Int))]) ⟨hx, hb, hml, hown, hts⟩ (xd_meets l dC dI dA o0 o1 o2 o3 o4 n lv fa fb fc fl u1 u2 u3 u4 u5 u6 u7 u8 u9 u10 u11 rm bx by_ bw ap aq (i + 4) (by omega) ha hb1 hc1 hx1 hy1 hw1) (cwV 1 hts (lw_V q125 q127 qs1 q19 q128) rfl rfl rfl (by decide +kernel) ⟨Nat.le_of_ble_eq_true rfl, Nat.le_of_ble_eq_true rfl⟩) ⟨cd_bl0, va_recv hK hP (ci := 0) (q0 := 0) rfl rfl, cd_pr0 hP hK⟩ rfl rfl hl.1 rfl (lv_room (Nat.le_of_ble_eq_true rfl)) dX0_spare_37 ⟨Nat.le_of_ble_eq_true rfl, Nat.le_of_ble_eq_true rfl⟩) hP hS (fun r H locs hq hP hS => ?_)
          rcases hq with ⟨rfl, hsat⟩ | ⟨rfl, hsat⟩
          · refine cd_if_eq (tgt := 47) hx hb ⟨by decide, by decide⟩ dX0_spare_40 (by decide) (fun c_3 => absurd c_3 (by decide)) (fun c_3 => ?_)
            refine lv_iconst (v := cd_I 1) hx hb dX0_spare_43 rfl ?_
            refine lv_goto (tgt := 48) hx hb dX0_spare_44 (by decide) ?_
            refine cd_iadd hx hb dX0_spare_48 ?_
            have hh : cd_has fa fb fc n (i + 4) := Or.inr ⟨_, _, _, hopt, hcor⟩
            have hsp : cd_spare fa fb fc n (i + 4) := cd_spare_y hopt hsat
            have hcn : cd_cnt (fun i => cd_spare fa fb fc n (i + 4)) (i + 1) = cd_cnt (fun i => cd_spare fa fb fc n (i + 4)) i + 1 := cd_cnt_y (P := fun i => cd_spare fa fb fc n (i + 4)) hsp
            refine cd_toI (y := ((cd_cnt (fun i => cd_spare fa fb fc n (i + 4)) (i + 1) : Nat) : Int)) (by omega) ?_
            refine lv_istore_n (lv' := [(1, .int (cd_I ((cd_cnt (fun i => cd_spare fa fb fc n (i + 4)) (i + 1) : Nat) : Int))), (3, .int (cd_I 1)), (2, .int (cd_I ((i + 4 : Nat) : Int))), (0, .ref o0)]) hx hb dX0_spare_49 rfl hl (by decide) rfl (fun ls hl => ?_)
            refine cd_iinc (x := ((i + 4 : Nat) : Int)) (lv' := [(2, .int (cd_I (((i + 4 : Nat) : Int) + 1))), (1, .int (cd_I ((cd_cnt (fun i => cd_spare fa fb fc n (i + 4)) (i + 1) : Nat) : Int))), (3, .int (cd_I 1)), (0, .ref o0)]) hx hb dX0_spare_50 hl (k := 2) rfl (by decide) rfl (fun ls hl => ?_)
            refine lv_goto (tgt := 4) hx hb dX0_spare_53 (by decide) ?_
            exact ih (i + 1) u1 u2 u3 u4 u5 u6 u7 u8 u9 u10 u11 (by omega) (by omega) (fun i2 h2 => by rcases Nat.lt_or_eq_of_le (Nat.le_of_lt_succ h2) with q | q; exact hhas i2 q; rw [q]; exact hh) H locs hP hD hS ls (lv_sub hl [0, 1, 3] rfl)
          · refine cd_if_eq (tgt := 47) hx hb ⟨by decide, by decide⟩ dX0_spare_40 (by decide) (fun c_4 => ?_) (fun c_4 => absurd c_4 (by decide))
            refine lv_iconst (v := cd_I 0) hx hb dX0_spare_47 rfl ?_
            refine cd_iadd hx hb dX0_spare_48 ?_
            have hh : cd_has fa fb fc n (i + 4) := Or.inr ⟨_, _, _, hopt, hcor⟩
            have hsp : ¬ cd_spare fa fb fc n (i + 4) := fun q => hsat (q _ _ _ hopt.1)
            have hcn : cd_cnt (fun i => cd_spare fa fb fc n (i + 4)) (i + 1) = cd_cnt (fun i => cd_spare fa fb fc n (i + 4)) i := cd_cnt_n (P := fun i => cd_spare fa fb fc n (i + 4)) hsp
            refine cd_toI (y := ((cd_cnt (fun i => cd_spare fa fb fc n (i + 4)) (i + 1) : Nat) : Int)) (by omega) ?_
            refine lv_istore_n (lv' := [(1, .int (cd_I ((cd_cnt (fun i => cd_spare fa fb fc n (i + 4)) (i + 1) : Nat) : Int))), (3, .int (cd_I 1)), (2, .int (cd_I ((i + 4 : Nat) : Int))), (0, .ref o0)]) hx hb dX0_spare_49 rfl hl (by decide) rfl (fun ls hl => ?_)
            refine cd_iinc (x := ((i + 4 : Nat) : Int)) (lv' := [(2, .int (cd_I (((i + 4 : Nat) : Int) + 1))), (1, .int (cd_I ((cd_cnt (fun i => cd_spare fa fb fc n (i + 4)) (i + 1) : Nat) : Int))), (3, .int (cd_I 1)), (0, .ref o0)]) hx hb dX0_spare_50 hl (k := 2) rfl (by decide) rfl (fun ls hl => ?_)
            refine lv_goto (tgt := 4) hx hb dX0_spare_53 (by decide) ?_
            exact ih (i + 1) u1 u2 u3 u4 u5 u6 u7 u8 u9 u10 u11 (by omega) (by omega) (fun i2 h2 => by rcases Nat.lt_or_eq_of_le (Nat.le_of_lt_succ h2) with q | q; exact hhas i2 q; rw [q]; exact hh) H locs hP hD hS ls (lv_sub hl [0, 1, 3] rfl)
        · refine lv_istore_n (lv' := [(3, .int (cd_I 0)), (2, .int (cd_I ((i + 4 : Nat) : Int))), (1, .int (cd_I ((cd_cnt (fun i => cd_spare fa fb fc n (i + 4)) i : Nat) : Int))), (0, .ref o0)]) hx hb dX0_spare_29 rfl hl (by decide) rfl (fun ls hl => ?_)
          refine lv_iload_n hx hb dX0_spare_30 rfl (lv_at hl 2 rfl) ?_
          refine lv_iload_n hx hb dX0_spare_31 rfl (lv_at hl 0 rfl) ?_
          refine cd_if_eq (tgt := 43) hx hb ⟨by decide, by decide⟩ dX0_spare_32 (by decide) (fun c_5 => ?_) (fun c_5 => absurd c_5 (by decide))
          refine lv_iconst (v := cd_I 1) hx hb dX0_spare_43 rfl ?_
          refine lv_goto (tgt := 48) hx hb dX0_spare_44 (by decide) ?_
          refine cd_iadd hx hb dX0_spare_48 ?_
          have hsp : cd_spare fa fb fc n (i + 4) := fun X Y W hF => absurd hF (hno X Y W)
          have hh : cd_has fa fb fc n (i + 4) := Or.inl hno
          have hcn : cd_cnt (fun i => cd_spare fa fb fc n (i + 4)) (i + 1) = cd_cnt (fun i => cd_spare fa fb fc n (i + 4)) i + 1 := cd_cnt_y (P := fun i => cd_spare fa fb fc n (i + 4)) hsp
          refine cd_toI (y := ((cd_cnt (fun i => cd_spare fa fb fc n (i + 4)) (i + 1) : Nat) : Int)) (by omega) ?_
          refine lv_istore_n (lv' := [(1, .int (cd_I ((cd_cnt (fun i => cd_spare fa fb fc n (i + 4)) (i + 1) : Nat) : Int))), (3, .int (cd_I 0)), (2, .int (cd_I ((i + 4 : Nat) : Int))), (0, .ref o0)]) hx hb dX0_spare_49 rfl hl (by decide) rfl (fun ls hl => ?_)
          refine cd_iinc (x := ((i + 4 : Nat) : Int)) (lv' := [(2, .int (cd_I (((i + 4 : Nat) : Int) + 1))), (1, .int (cd_I ((cd_cnt (fun i => cd_spare fa fb fc n (i + 4)) (i + 1) : Nat) : Int))), (3, .int (cd_I 0)), (0, .ref o0)]) hx hb dX0_spare_50 hl (k := 2) rfl (by decide) rfl (fun ls hl => ?_)
          refine lv_goto (tgt := 4) hx hb dX0_spare_53 (by decide) ?_
          exact ih (i + 1) u1 u2 u3 u4 u5 u6 u7 u8 u9 u10 u11 (by omega) (by omega) (fun i2 h2 => by rcases Nat.lt_or_eq_of_le (Nat.le_of_lt_succ h2) with q | q; exact hhas i2 q; rw [q]; exact hh) H locs hP hD hS ls (lv_sub hl [0, 1, 3] rfl)
  refine lv_iconst (v := cd_I 0) hx hb dX0_spare_0 rfl ?_
  refine lv_istore_n (lv' := [(1, .int (cd_I 0)), (0, .ref o0)]) hx hb dX0_spare_1 rfl hl (by decide) rfl (fun ls hl => ?_)
  refine lv_iconst (v := cd_I 4) hx hb dX0_spare_2 rfl ?_
  refine lv_istore_n (lv' := [(2, .int (cd_I 4)), (1, .int (cd_I 0)), (0, .ref o0)]) hx hb dX0_spare_3 rfl hl (by decide) rfl (fun ls hl => ?_)
  exact loop (n + 1) 0 x y w hL hH lx ly lw gx gy gw (by omega) (by omega) (fun i2 h2 => absurd h2 (Nat.not_lt_zero _)) s.heap [] hP hD hS ls (lv_sub hl [0, 1, 2] rfl)
end
section
/-! CornerDeskModel: its cells, and the methods that call little -/
abbrev cd_M (dA : ClassId) (o0 o1 o2 o3 o4 h lv : Nat) (fa fb fc : Nat → Int) (fl : Nat → Nat) (cx cy cu kn bx by_ bu ap aq : Int) : va_W := [(o0, .inr (1, [.int (cd_I ((h : Nat) : Int)), .int (cd_I ((lv : Nat) : Int)), .ref o1, .ref o2, .ref o3, .ref o4, .long (cd_L cx), .long (cd_L cy), .long (cd_L cu), .int (cd_I kn), .long (cd_L bx), .long (cd_L by_), .long (cd_L bu), .int (cd_I ap), .int (cd_I aq)])), (o1, .inl (dA, 8, .inl (cd_n fl))), (o2, .inl (dA, 14, .inl (cd_c fa))), (o3, .inl (dA, 14, .inl (cd_c fb))), (o4, .inl (dA, 14, .inl (cd_c fc)))]
/-- the places of the reference that count: without the one at wo -/
def cd_th (h : Nat) (wo : Int) (i : Nat) : Prop := ¬ (i : Int) = wo ∧ (i < h ∨ 10 ≤ i)
def cd_T (h : Nat) (wo : Int) (i : Nat) : Prop := i < 14 ∧ cd_th h wo i
def cd_okM (a b c : Nat → Int) (h : Nat) : Prop := h ≤ 10 ∧ ∀ i, i < 14 → (i < h ∨ 10 ≤ i) → cd_b 9 (a i) ∧ cd_b 9 (b i) ∧ cd_b 99 (c i)
theorem cd_cr_uniq {a b c : Nat → Int} {i j : Nat} {X Y W X' Y' W' : Int} (h : cd_cr a b c i j X Y W) (h' : cd_cr a b c i j X' Y' W') : X = X' ∧ Y = Y' ∧ W = W' := by
  obtain ⟨h0, ⟨h1, h2, h3⟩ | ⟨h1, h2, h3⟩⟩ := h
  · obtain ⟨k0, ⟨k1, k2, k3⟩ | ⟨k1, k2, k3⟩⟩ := h'
    · omega
    · omega
  · obtain ⟨k0, ⟨k1, k2, k3⟩ | ⟨k1, k2, k3⟩⟩ := h'
    · omega
    · omega
set_option maxHeartbeats 4000000 in
set_option maxRecDepth 100000 in
/-- write -/
theorem xm_write (l : Launch) (dC : Nat → ClassId) (dI : Nat → Nat → Nat) (dA : ClassId) (o0 o1 o2 o3 o4 h lv : Nat) (fa fb fc : Nat → Int) (fl : Nat → Nat) (cx cy cu kn bx by_ bu ap aq : Int) (sz i : Nat) (a b d : Int) (hi : i < 14) : Met l yX1_write (ws_ yX1_write cX1_write 5 none) ({ frames := 0, cells := 0, slots := 0, locals := 0 }) (va_Pc [.ref o0, .int (cd_I ((i : Nat) : Int)), .int (cd_I a), .int (cd_I b), .int (cd_I d)] (cd_W1 (dC, dI) vwCl [(dA, .int)] (cd_M dA o0 o1 o2 o3 o4 h lv fa fb fc fl cx cy cu kn bx by_ bu ap aq) sz)) (va_Qv (fun (u : Unit) => True) (cd_B (dC, dI) vwCl (va_A (cd_M dA o0 o1 o2 o3 o4 h lv fa fb fc fl cx cy cu kn bx by_ bu ap aq) sz) (fun u : Unit => (cd_M dA o0 o1 o2 o3 o4 h lv (cd_u fa i a) (cd_u fb i b) (cd_u fc i d) fl cx cy cu kn bx by_ bu ap aq))) (va_A (cd_M dA o0 o1 o2 o3 o4 h lv fa fb fc fl cx cy cu kn bx by_ bu ap aq) sz)) 0 0 (va_A (cd_M dA o0 o1 o2 o3 o4 h lv fa fb fc fl cx cy cu kn bx by_ bu ap aq) sz) := by
  refine Met.ofW (cc := cX1_write) (maxL := 5) (ret := none) (by decide) rfl ?_
  intro p e s m args below meth c s₁ B hml hv
  obtain ⟨rfl, hsz, hP, hK, hD0⟩ := hv
  have hx := B.exec
  have hb := B.bytes
  have hr := B.returns
  have hts := atoms_spec (ws := (ws_ yX1_write cX1_write 5 none)) B.pre
  have hts : ∀ w ∈ lw_all, w.before _ s = true := fun w h => hts w (List.mem_cons_of_mem _ h)
  have hown : s.vm.findClass RX1 = some m.cls := findClass_of_methodNamed B.named
  have hlocks := B.notSynchronized
  subst hsz
  have hD := hD0.self (sz := s.heap.size)
  generalize hAe : va_A (cd_M dA o0 o1 o2 o3 o4 h lv fa fb fc fl cx cy cu kn bx by_ bu ap aq) s.heap.size = A at hD ⊢
  have hA : ∀ q : Nat, s.heap.size ≤ q → A q := fun q h => by rw [← hAe]; exact Or.inr h
  have hS : va_S A s.heap s.heap [] := va_S.rf
  have hl := lv_entry ([.ref o0, .int (cd_I ((i : Nat) : Int)), .int (cd_I a), .int (cd_I b), .int (cd_I d)]) (n := 5) (Nat.le_of_ble_eq_true rfl)
  rw [lg_entry_eq]
  generalize (lg_sl ([.ref o0, .int (cd_I ((i : Nat) : Int)), .int (cd_I a), .int (cd_I b), .int (cd_I d)]) ++ List.replicate (5 - (lg_sl ([.ref o0, .int (cd_I ((i : Nat) : Int)), .int (cd_I a), .int (cd_I b), .int (cd_I d)])).length) Slot.unset).toArray = ls at hl ⊢
  have hl : lv_has ls 5 [(0, .ref o0), (1, .int (cd_I ((i : Nat) : Int))), (2, .int (cd_I a)), (3, .int (cd_I b)), (4, .int (cd_I d))] := hl
  have hP : va_P (dC, dI) vwCl [(o0, .inr (1, [.int (cd_I ((h : Nat) : Int)), .int (cd_I ((lv : Nat) : Int)), .ref o1, .ref o2, .ref o3, .ref o4, .long (cd_L cx), .long (cd_L cy), .long (cd_L cu), .int (cd_I kn), .long (cd_L bx), .long (cd_L by_), .long (cd_L bu), .int (cd_I ap), .int (cd_I aq)])), (o1, .inl (dA, 8, .inl (cd_n fl))), (o2, .inl (dA, 14, .inl (cd_c fa))), (o3, .inl (dA, 14, .inl (cd_c fb))), (o4, .inl (dA, 14, .inl (cd_c fc)))] s.heap := hP
  have hD : va_D A [(o0, .inr (1, [.int (cd_I ((h : Nat) : Int)), .int (cd_I ((lv : Nat) : Int)), .ref o1, .ref o2, .ref o3, .ref o4, .long (cd_L cx), .long (cd_L cy), .long (cd_L cu), .int (cd_I kn), .long (cd_L bx), .long (cd_L by_), .long (cd_L bu), .int (cd_I ap), .int (cd_I aq)])), (o1, .inl (dA, 8, .inl (cd_n fl))), (o2, .inl (dA, 14, .inl (cd_c fa))), (o3, .inl (dA, 14, .inl (cd_c fb))), (o4, .inl (dA, 14, .inl (cd_c fc)))] := hD
  refine lv_aload_n hx hb dX1_write_0 rfl (lv_at hl 0 rfl) ?_
  refine cd_get1 (v := .ref o2) hx hb hts hown hK hP 0 rfl 3 (by decide) q193 rfl rfl dX1_write_1 ?_
  refine lv_iload_n hx hb dX1_write_4 rfl (lv_at hl 1 rfl) ?_
  refine lv_iload_n hx hb dX1_write_5 rfl (lv_at hl 2 rfl) ?_
  refine cd_iast (k := i) (v := a) hx hb hK hP hD hS 2 0 rfl rfl hi (by decide) dX1_write_6 (fun H locs hP hD hS => ?_)
  have hP : va_P (dC, dI) vwCl [(o0, .inr (1, [.int (cd_I ((h : Nat) : Int)), .int (cd_I ((lv : Nat) : Int)), .ref o1, .ref o2, .ref o3, .ref o4, .long (cd_L cx), .long (cd_L cy), .long (cd_L cu), .int (cd_I kn), .long (cd_L bx), .long (cd_L by_), .long (cd_L bu), .int (cd_I ap), .int (cd_I aq)])), (o1, .inl (dA, 8, .inl (cd_n fl))), (o2, .inl (dA, 14, .inl (cd_c (cd_u fa i a)))), (o3, .inl (dA, 14, .inl (cd_c fb))), (o4, .inl (dA, 14, .inl (cd_c fc)))] H := hP
  have hD : va_D A [(o0, .inr (1, [.int (cd_I ((h : Nat) : Int)), .int (cd_I ((lv : Nat) : Int)), .ref o1, .ref o2, .ref o3, .ref o4, .long (cd_L cx), .long (cd_L cy), .long (cd_L cu), .int (cd_I kn), .long (cd_L bx), .long (cd_L by_), .long (cd_L bu), .int (cd_I ap), .int (cd_I aq)])), (o1, .inl (dA, 8, .inl (cd_n fl))), (o2, .inl (dA, 14, .inl (cd_c (cd_u fa i a)))), (o3, .inl (dA, 14, .inl (cd_c fb))), (o4, .inl (dA, 14, .inl (cd_c fc)))] := hD
  refine lv_aload_n hx hb dX1_write_7 rfl (lv_at hl 0 rfl) ?_
  refine cd_get1 (v := .ref o3) hx hb hts hown hK hP 0 rfl 4 (by decide) q194 rfl rfl dX1_write_8 ?_
  refine lv_iload_n hx hb dX1_write_11 rfl (lv_at hl 1 rfl) ?_
  refine lv_iload_n hx hb dX1_write_12 rfl (lv_at hl 3 rfl) ?_
  refine cd_iast (k := i) (v := b) hx hb hK hP hD hS 3 0 rfl rfl hi (by decide) dX1_write_13 (fun H locs hP hD hS => ?_)
  have hP : va_P (dC, dI) vwCl [(o0, .inr (1, [.int (cd_I ((h : Nat) : Int)), .int (cd_I ((lv : Nat) : Int)), .ref o1, .ref o2, .ref o3, .ref o4, .long (cd_L cx), .long (cd_L cy), .long (cd_L cu), .int (cd_I kn), .long (cd_L bx), .long (cd_L by_), .long (cd_L bu), .int (cd_I ap), .int (cd_I aq)])), (o1, .inl (dA, 8, .inl (cd_n fl))), (o2, .inl (dA, 14, .inl (cd_c (cd_u fa i a)))), (o3, .inl (dA, 14, .inl (cd_c (cd_u fb i b)))), (o4, .inl (dA, 14, .inl (cd_c fc)))] H := hP
  have hD : va_D A [(o0, .inr (1, [.int (cd_I ((h : Nat) : Int)), .int (cd_I ((lv : Nat) : Int)), .ref o1, .ref o2, .ref o3, .ref o4, .long (cd_L cx), .long (cd_L cy), .long (cd_L cu), .int (cd_I kn), .long (cd_L bx), .long (cd_L by_), .long (cd_L bu), .int (cd_I ap), .int (cd_I aq)])), (o1, .inl (dA, 8, .inl (cd_n fl))), (o2, .inl (dA, 14, .inl (cd_c (cd_u fa i a)))), (o3, .inl (dA, 14, .inl (cd_c (cd_u fb i b)))), (o4, .inl (dA, 14, .inl (cd_c fc)))] := hD
  refine lv_aload_n hx hb dX1_write_14 rfl (lv_at hl 0 rfl) ?_
  refine cd_get1 (v := .ref o4) hx hb hts hown hK hP 0 rfl 5 (by decide) q195 rfl rfl dX1_write_15 ?_
  refine lv_iload_n hx hb dX1_write_18 rfl (lv_at hl 1 rfl) ?_
  refine lv_iload hx hb dX1_write_19 (lv_at hl 4 rfl) ?_
  refine cd_iast (k := i) (v := d) hx hb hK hP hD hS 4 0 rfl rfl hi (by decide) dX1_write_21 (fun H locs hP hD hS => ?_)
  have hP : va_P (dC, dI) vwCl [(o0, .inr (1, [.int (cd_I ((h : Nat) : Int)), .int (cd_I ((lv : Nat) : Int)), .ref o1, .ref o2, .ref o3, .ref o4, .long (cd_L cx), .long (cd_L cy), .long (cd_L cu), .int (cd_I kn), .long (cd_L bx), .long (cd_L by_), .long (cd_L bu), .int (cd_I ap), .int (cd_I aq)])), (o1, .inl (dA, 8, .inl (cd_n fl))), (o2, .inl (dA, 14, .inl (cd_c (cd_u fa i a)))), (o3, .inl (dA, 14, .inl (cd_c (cd_u fb i b)))), (o4, .inl (dA, 14, .inl (cd_c (cd_u fc i d))))] H := hP
  have hD : va_D A [(o0, .inr (1, [.int (cd_I ((h : Nat) : Int)), .int (cd_I ((lv : Nat) : Int)), .ref o1, .ref o2, .ref o3, .ref o4, .long (cd_L cx), .long (cd_L cy), .long (cd_L cu), .int (cd_I kn), .long (cd_L bx), .long (cd_L by_), .long (cd_L bu), .int (cd_I ap), .int (cd_I aq)])), (o1, .inl (dA, 8, .inl (cd_n fl))), (o2, .inl (dA, 14, .inl (cd_c (cd_u fa i a)))), (o3, .inl (dA, 14, .inl (cd_c (cd_u fb i b)))), (o4, .inl (dA, 14, .inl (cd_c (cd_u fc i d))))] := hD
  exact W.vret hx hb hr (fun t ht hW => ⟨⟨(), rfl, trivial, ⟨by rw [ht]; exact hP, hD⟩⟩, hS.F ht⟩) hS.2.2 dX1_write_22

set_option maxHeartbeats 4000000 in
set_option maxRecDepth 100000 in
/-- bad: whether the three numbers are a condition -/
theorem xm_bad (l : Launch) (a b d : Int) (ha : cd_R32 a) (hb1 : cd_R32 b) (hd : cd_R32 d) : Met l yX1_bad (ws_ yX1_bad cX1_bad 3 (some .boolean)) ({ frames := 0, cells := 0, slots := 0, locals := 0 }) (va_Pc [.int (cd_I a), .int (cd_I b), .int (cd_I d)] (fun _ => True)) (va_Qi (fun (r : Int32) (_ : Unit) => (r = cd_I 0 ∧ cd_cond a b d) ∨ (r = cd_I 1 ∧ ¬ cd_cond a b d)) (fun _ _ => True) (fun _ => False)) 0 0 (fun _ => False) := by
  refine Met.ofW (cc := cX1_bad) (maxL := 3) (ret := (some .boolean)) (by decide) rfl ?_
  intro p e s m args below meth c s₁ B hml hv
  obtain ⟨rfl, -⟩ := hv
  have hx := B.exec
  have hb := B.bytes
  have hr := B.returns
  have hts := atoms_spec (ws := (ws_ yX1_bad cX1_bad 3 (some .boolean))) B.pre
  have hts : ∀ w ∈ lw_all, w.before _ s = true := fun w h => hts w (List.mem_cons_of_mem _ h)
  have hown : s.vm.findClass RX1 = some m.cls := findClass_of_methodNamed B.named
  have hlocks := B.notSynchronized
  have hS : va_S (fun _ => False) s.heap s.heap [] := va_S.rf
  have hl := lv_entry ([.int (cd_I a), .int (cd_I b), .int (cd_I d)]) (n := 3) (Nat.le_of_ble_eq_true rfl)
  rw [lg_entry_eq]
  generalize (lg_sl ([.int (cd_I a), .int (cd_I b), .int (cd_I d)]) ++ List.replicate (3 - (lg_sl ([.int (cd_I a), .int (cd_I b), .int (cd_I d)])).length) Slot.unset).toArray = ls at hl ⊢
  have hl : lv_has ls 3 [(0, .int (cd_I a)), (1, .int (cd_I b)), (2, .int (cd_I d))] := hl
  refine lv_iload_n hx hb dX1_bad_0 rfl (lv_at hl 0 rfl) ?_
  refine lv_bipush (v := cd_I (-9)) hx hb dX1_bad_1 (by decide) ?_
  refine cd_icmp_lt (tgt := 44) hx hb ha ⟨by decide, by decide⟩ dX1_bad_3 (by decide) (fun c_1 => ?_) (fun c_1 => ?_)
  · refine lv_iconst (v := cd_I 1) hx hb dX1_bad_44 rfl ?_
    refine lv_goto (tgt := 49) hx hb dX1_bad_45 (by decide) ?_
    exact W.zret (v := cd_I 1) hx hb hr rfl (fun t ht hW => ⟨⟨cd_I 1, (), rfl, Or.inr ⟨rfl, by unfold cd_cond; omega⟩, trivial⟩, hS.F ht⟩) hS.2.2 dX1_bad_49
  · refine lv_iload_n hx hb dX1_bad_6 rfl (lv_at hl 0 rfl) ?_
    refine lv_bipush (v := cd_I 9) hx hb dX1_bad_7 (by decide) ?_
    refine cd_icmp_gt (tgt := 44) hx hb ha ⟨by decide, by decide⟩ dX1_bad_9 (by decide) (fun c_2 => ?_) (fun c_2 => ?_)
    · refine lv_iconst (v := cd_I 1) hx hb dX1_bad_44 rfl ?_
      refine lv_goto (tgt := 49) hx hb dX1_bad_45 (by decide) ?_
      exact W.zret (v := cd_I 1) hx hb hr rfl (fun t ht hW => ⟨⟨cd_I 1, (), rfl, Or.inr ⟨rfl, by unfold cd_cond; omega⟩, trivial⟩, hS.F ht⟩) hS.2.2 dX1_bad_49
    · refine lv_iload_n hx hb dX1_bad_12 rfl (lv_at hl 1 rfl) ?_
      refine lv_bipush (v := cd_I (-9)) hx hb dX1_bad_13 (by decide) ?_
      refine cd_icmp_lt (tgt := 44) hx hb hb1 ⟨by decide, by decide⟩ dX1_bad_15 (by decide) (fun c_3 => ?_) (fun c_3 => ?_)
      · refine lv_iconst (v := cd_I 1) hx hb dX1_bad_44 rfl ?_
        refine lv_goto (tgt := 49) hx hb dX1_bad_45 (by decide) ?_
        exact W.zret (v := cd_I 1) hx hb hr rfl (fun t ht hW => ⟨⟨cd_I 1, (), rfl, Or.inr ⟨rfl, by unfold cd_cond; omega⟩, trivial⟩, hS.F ht⟩) hS.2.2 dX1_bad_49
      · refine lv_iload_n hx hb dX1_bad_18 rfl (lv_at hl 1 rfl) ?_
        refine lv_bipush (v := cd_I 9) hx hb dX1_bad_19 (by decide) ?_
        refine cd_icmp_gt (tgt := 44) hx hb hb1 ⟨by decide, by decide⟩ dX1_bad_21 (by decide) (fun c_4 => ?_) (fun c_4 => ?_)
        · refine lv_iconst (v := cd_I 1) hx hb dX1_bad_44 rfl ?_
          refine lv_goto (tgt := 49) hx hb dX1_bad_45 (by decide) ?_
          exact W.zret (v := cd_I 1) hx hb hr rfl (fun t ht hW => ⟨⟨cd_I 1, (), rfl, Or.inr ⟨rfl, by unfold cd_cond; omega⟩, trivial⟩, hS.F ht⟩) hS.2.2 dX1_bad_49
        · refine lv_iload_n hx hb dX1_bad_24 rfl (lv_at hl 2 rfl) ?_
          refine lv_bipush (v := cd_I (-99)) hx hb dX1_bad_25 (by decide) ?_
          refine cd_icmp_lt (tgt := 44) hx hb hd ⟨by decide, by decide⟩ dX1_bad_27 (by decide) (fun c_5 => ?_) (fun c_5 => ?_)
          · refine lv_iconst (v := cd_I 1) hx hb dX1_bad_44 rfl ?_
            refine lv_goto (tgt := 49) hx hb dX1_bad_45 (by decide) ?_
            exact W.zret (v := cd_I 1) hx hb hr rfl (fun t ht hW => ⟨⟨cd_I 1, (), rfl, Or.inr ⟨rfl, by unfold cd_cond; omega⟩, trivial⟩, hS.F ht⟩) hS.2.2 dX1_bad_49
          · refine lv_iload_n hx hb dX1_bad_30 rfl (lv_at hl 2 rfl) ?_
            refine lv_bipush (v := cd_I 99) hx hb dX1_bad_31 (by decide) ?_
            refine cd_icmp_gt (tgt := 44) hx hb hd ⟨by decide, by decide⟩ dX1_bad_33 (by decide) (fun c_6 => ?_) (fun c_6 => ?_)
            · refine lv_iconst (v := cd_I 1) hx hb dX1_bad_44 rfl ?_
              refine lv_goto (tgt := 49) hx hb dX1_bad_45 (by decide) ?_
              exact W.zret (v := cd_I 1) hx hb hr rfl (fun t ht hW => ⟨⟨cd_I 1, (), rfl, Or.inr ⟨rfl, by unfold cd_cond; omega⟩, trivial⟩, hS.F ht⟩) hS.2.2 dX1_bad_49
            · refine lv_iload_n hx hb dX1_bad_36 rfl (lv_at hl 0 rfl) ?_
              refine cd_if_ne (tgt := 48) hx hb ha dX1_bad_37 (by decide) (fun c_7 => ?_) (fun c_7 => ?_)
              · refine lv_iconst (v := cd_I 0) hx hb dX1_bad_48 rfl ?_
                exact W.zret (v := cd_I 0) hx hb hr rfl (fun t ht hW => ⟨⟨cd_I 0, (), rfl, Or.inl ⟨rfl, by unfold cd_cond; omega⟩, trivial⟩, hS.F ht⟩) hS.2.2 dX1_bad_49
              · refine lv_iload_n hx hb dX1_bad_40 rfl (lv_at hl 1 rfl) ?_
                refine cd_if_ne (tgt := 48) hx hb hb1 dX1_bad_41 (by decide) (fun c_8 => ?_) (fun c_8 => ?_)
                · refine lv_iconst (v := cd_I 0) hx hb dX1_bad_48 rfl ?_
                  exact W.zret (v := cd_I 0) hx hb hr rfl (fun t ht hW => ⟨⟨cd_I 0, (), rfl, Or.inl ⟨rfl, by unfold cd_cond; omega⟩, trivial⟩, hS.F ht⟩) hS.2.2 dX1_bad_49
                · refine lv_iconst (v := cd_I 1) hx hb dX1_bad_44 rfl ?_
                  refine lv_goto (tgt := 49) hx hb dX1_bad_45 (by decide) ?_
                  exact W.zret (v := cd_I 1) hx hb hr rfl (fun t ht hW => ⟨⟨cd_I 1, (), rfl, Or.inr ⟨rfl, by unfold cd_cond; omega⟩, trivial⟩, hS.F ht⟩) hS.2.2 dX1_bad_49

set_option maxHeartbeats 4000000 in
set_option maxRecDepth 100000 in
/-- there -/
theorem xm_there (l : Launch) (dC : Nat → ClassId) (dI : Nat → Nat → Nat) (dA : ClassId) (o0 o1 o2 o3 o4 h lv : Nat) (fa fb fc : Nat → Int) (fl : Nat → Nat) (cx cy cu kn bx by_ bu ap aq : Int) (i : Nat) (wo : Int) (hi : i < 14) (hwo : cd_R32 wo) (hh : h ≤ 10) : Met l yX1_there (ws_ yX1_there cX1_there 3 (some .boolean)) ({ frames := 0, cells := 0, slots := 0, locals := 0 }) (va_Pc [.ref o0, .int (cd_I ((i : Nat) : Int)), .int (cd_I wo)] (cd_W0 (dC, dI) vwCl [(dA, .int)] (cd_M dA o0 o1 o2 o3 o4 h lv fa fb fc fl cx cy cu kn bx by_ bu ap aq))) (va_Qi (fun (r : Int32) (_ : Unit) => (r = cd_I 1 ∧ cd_th h wo i) ∨ (r = cd_I 0 ∧ ¬ cd_th h wo i)) (fun _ _ => True) (fun _ => False)) 0 0 (fun _ => False) := by
  refine Met.ofW (cc := cX1_there) (maxL := 3) (ret := (some .boolean)) (by decide) rfl ?_
  intro p e s m args below meth c s₁ B hml hv
  obtain ⟨rfl, hP, hK⟩ := hv
  have hx := B.exec
  have hb := B.bytes
  have hr := B.returns
  have hts := atoms_spec (ws := (ws_ yX1_there cX1_there 3 (some .boolean))) B.pre
  have hts : ∀ w ∈ lw_all, w.before _ s = true := fun w h => hts w (List.mem_cons_of_mem _ h)
  have hown : s.vm.findClass RX1 = some m.cls := findClass_of_methodNamed B.named
  have hlocks := B.notSynchronized
  have hS : va_S (fun _ => False) s.heap s.heap [] := va_S.rf
  have hl := lv_entry ([.ref o0, .int (cd_I ((i : Nat) : Int)), .int (cd_I wo)]) (n := 3) (Nat.le_of_ble_eq_true rfl)
  rw [lg_entry_eq]
  generalize (lg_sl ([.ref o0, .int (cd_I ((i : Nat) : Int)), .int (cd_I wo)]) ++ List.replicate (3 - (lg_sl ([.ref o0, .int (cd_I ((i : Nat) : Int)), .int (cd_I wo)])).length) Slot.unset).toArray = ls at hl ⊢
  have hl : lv_has ls 3 [(0, .ref o0), (1, .int (cd_I ((i : Nat) : Int))), (2, .int (cd_I wo))] := hl
  have hP : va_P (dC, dI) vwCl [(o0, .inr (1, [.int (cd_I ((h : Nat) : Int)), .int (cd_I ((lv : Nat) : Int)), .ref o1, .ref o2, .ref o3, .ref o4, .long (cd_L cx), .long (cd_L cy), .long (cd_L cu), .int (cd_I kn), .long (cd_L bx), .long (cd_L by_), .long (cd_L bu), .int (cd_I ap), .int (cd_I aq)])), (o1, .inl (dA, 8, .inl (cd_n fl))), (o2, .inl (dA, 14, .inl (cd_c fa))), (o3, .inl (dA, 14, .inl (cd_c fb))), (o4, .inl (dA, 14, .inl (cd_c fc)))] s.heap := hP
  refine lv_iload_n hx hb dX1_there_0 rfl (lv_at hl 1 rfl) ?_
  refine lv_iload_n hx hb dX1_there_1 rfl (lv_at hl 2 rfl) ?_
  refine cd_icmp_eq (tgt := 23) hx hb ⟨by omega, by omega⟩ hwo dX1_there_2 (by decide) (fun c_1 => ?_) (fun c_1 => ?_)
  · refine lv_iconst (v := cd_I 0) hx hb dX1_there_23 rfl ?_
    exact W.zret (v := cd_I 0) hx hb hr rfl (fun t ht hW => ⟨⟨cd_I 0, (), rfl, Or.inr ⟨rfl, by unfold cd_th; omega⟩, trivial⟩, hS.F ht⟩) hS.2.2 dX1_there_24
  · refine lv_iload_n hx hb dX1_there_5 rfl (lv_at hl 1 rfl) ?_
    refine lv_aload_n hx hb dX1_there_6 rfl (lv_at hl 0 rfl) ?_
    refine cd_get1 (v := .int (cd_I ((h : Nat) : Int))) hx hb hts hown hK hP 0 rfl 0 (by decide) q190 rfl rfl dX1_there_7 ?_
    refine cd_icmp_lt (tgt := 19) hx hb ⟨by omega, by omega⟩ ⟨by omega, by omega⟩ dX1_there_10 (by decide) (fun c_2 => ?_) (fun c_2 => ?_)
    · refine lv_iconst (v := cd_I 1) hx hb dX1_there_19 rfl ?_
      refine lv_goto (tgt := 24) hx hb dX1_there_20 (by decide) ?_
      exact W.zret (v := cd_I 1) hx hb hr rfl (fun t ht hW => ⟨⟨cd_I 1, (), rfl, Or.inl ⟨rfl, by unfold cd_th; omega⟩, trivial⟩, hS.F ht⟩) hS.2.2 dX1_there_24
    · refine lv_iload_n hx hb dX1_there_13 rfl (lv_at hl 1 rfl) ?_
      refine lv_bipush (v := cd_I 10) hx hb dX1_there_14 (by decide) ?_
      refine cd_icmp_lt (tgt := 23) hx hb ⟨by omega, by omega⟩ ⟨by decide, by decide⟩ dX1_there_16 (by decide) (fun c_3 => ?_) (fun c_3 => ?_)
      · refine lv_iconst (v := cd_I 0) hx hb dX1_there_23 rfl ?_
        exact W.zret (v := cd_I 0) hx hb hr rfl (fun t ht hW => ⟨⟨cd_I 0, (), rfl, Or.inr ⟨rfl, by unfold cd_th; omega⟩, trivial⟩, hS.F ht⟩) hS.2.2 dX1_there_24
      · refine lv_iconst (v := cd_I 1) hx hb dX1_there_19 rfl ?_
        refine lv_goto (tgt := 24) hx hb dX1_there_20 (by decide) ?_
        exact W.zret (v := cd_I 1) hx hb hr rfl (fun t ht hW => ⟨⟨cd_I 1, (), rfl, Or.inl ⟨rfl, by unfold cd_th; omega⟩, trivial⟩, hS.F ht⟩) hS.2.2 dX1_there_24

set_option maxHeartbeats 4000000 in
set_option maxRecDepth 100000 in
/-- meet -/
theorem xm_meet (l : Launch) (dC : Nat → ClassId) (dI : Nat → Nat → Nat) (dA : ClassId) (o0 o1 o2 o3 o4 h lv : Nat) (fa fb fc : Nat → Int) (fl : Nat → Nat) (cx cy cu kn bx by_ bu ap aq : Int) (sz i j : Nat) (hi : i < 14) (hj : j < 14) (ha : cd_b 9 (fa i)) (hb1 : cd_b 9 (fb i)) (hc1 : cd_b 99 (fc i)) (ha2 : cd_b 9 (fa j)) (hb2 : cd_b 9 (fb j)) (hc2 : cd_b 99 (fc j)) : Met l yX1_meet (ws_ yX1_meet cX1_meet 9 (some .boolean)) ({ frames := 0, cells := 0, slots := 0, locals := 0 }) (va_Pc [.ref o0, .int (cd_I ((i : Nat) : Int)), .int (cd_I ((j : Nat) : Int))] (cd_W1 (dC, dI) vwCl [(dA, .int)] (cd_M dA o0 o1 o2 o3 o4 h lv fa fb fc fl cx cy cu kn bx by_ bu ap aq) sz)) (va_Qi (fun (r : Int32) (u : Int × Int × Int) => (r = cd_I 1 ∧ cd_cr fa fb fc i j u.1 u.2.1 u.2.2) ∨ (r = cd_I 0 ∧ ∀ X Y W : Int, ¬ cd_cr fa fb fc i j X Y W)) (cd_B (dC, dI) vwCl (va_A (cd_M dA o0 o1 o2 o3 o4 h lv fa fb fc fl cx cy cu kn bx by_ bu ap aq) sz) (fun u : Int × Int × Int => (cd_M dA o0 o1 o2 o3 o4 h lv fa fb fc fl u.1 u.2.1 u.2.2 kn bx by_ bu ap aq))) (va_A (cd_M dA o0 o1 o2 o3 o4 h lv fa fb fc fl cx cy cu kn bx by_ bu ap aq) sz)) 0 0 (va_A (cd_M dA o0 o1 o2 o3 o4 h lv fa fb fc fl cx cy cu kn bx by_ bu ap aq) sz) := by
  refine Met.ofW (cc := cX1_meet) (maxL := 9) (ret := (some .boolean)) (by decide) rfl ?_
  intro p e s m args below meth c s₁ B hml hv
  obtain ⟨rfl, hsz, hP, hK, hD0⟩ := hv
  have hx := B.exec
  have hb := B.bytes
  have hr := B.returns
  have hts := atoms_spec (ws := (ws_ yX1_meet cX1_meet 9 (some .boolean))) B.pre
  have hts : ∀ w ∈ lw_all, w.before _ s = true := fun w h => hts w (List.mem_cons_of_mem _ h)
  have hown : s.vm.findClass RX1 = some m.cls := findClass_of_methodNamed B.named
  have hlocks := B.notSynchronized
  subst hsz
  have hD := hD0.self (sz := s.heap.size)
  generalize hAe : va_A (cd_M dA o0 o1 o2 o3 o4 h lv fa fb fc fl cx cy cu kn bx by_ bu ap aq) s.heap.size = A at hD ⊢
  have hA : ∀ q : Nat, s.heap.size ≤ q → A q := fun q h => by rw [← hAe]; exact Or.inr h
  have hS : va_S A s.heap s.heap [] := va_S.rf
  have hl := lv_entry ([.ref o0, .int (cd_I ((i : Nat) : Int)), .int (cd_I ((j : Nat) : Int))]) (n := 9) (Nat.le_of_ble_eq_true rfl)
  rw [lg_entry_eq]
  generalize (lg_sl ([.ref o0, .int (cd_I ((i : Nat) : Int)), .int (cd_I ((j : Nat) : Int))]) ++ List.replicate (9 - (lg_sl ([.ref o0, .int (cd_I ((i : Nat) : Int)), .int (cd_I ((j : Nat) : Int))])).length) Slot.unset).toArray = ls at hl ⊢
  have hl : lv_has ls 9 [(0, .ref o0), (1, .int (cd_I ((i : Nat) : Int))), (2, .int (cd_I ((j : Nat) : Int)))] := hl
  have hP : va_P (dC, dI) vwCl [(o0, .inr (1, [.int (cd_I ((h : Nat) : Int)), .int (cd_I ((lv : Nat) : Int)), .ref o1, .ref o2, .ref o3, .ref o4, .long (cd_L cx), .long (cd_L cy), .long (cd_L cu), .int (cd_I kn), .long (cd_L bx), .long (cd_L by_), .long (cd_L bu), .int (cd_I ap), .int (cd_I aq)])), (o1, .inl (dA, 8, .inl (cd_n fl))), (o2, .inl (dA, 14, .inl (cd_c fa))), (o3, .inl (dA, 14, .inl (cd_c fb))), (o4, .inl (dA, 14, .inl (cd_c fc)))] s.heap := hP
  have hD : va_D A [(o0, .inr (1, [.int (cd_I ((h : Nat) : Int)), .int (cd_I ((lv : Nat) : Int)), .ref o1, .ref o2, .ref o3, .ref o4, .long (cd_L cx), .long (cd_L cy), .long (cd_L cu), .int (cd_I kn), .long (cd_L bx), .long (cd_L by_), .long (cd_L bu), .int (cd_I ap), .int (cd_I aq)])), (o1, .inl (dA, 8, .inl (cd_n fl))), (o2, .inl (dA, 14, .inl (cd_c fa))), (o3, .inl (dA, 14, .inl (cd_c fb))), (o4, .inl (dA, 14, .inl (cd_c fc)))] := hD
  refine lv_aload_n hx hb dX1_meet_0 rfl (lv_at hl 0 rfl) ?_
  refine cd_get1 (v := .ref o2) hx hb hts hown hK hP 0 rfl 3 (by decide) q193 rfl rfl dX1_meet_1 ?_
  refine lv_iload_n hx hb dX1_meet_4 rfl (lv_at hl 1 rfl) ?_
  refine cd_iald (k := i) hx hb hK hP 2 0 rfl rfl hi (by decide) dX1_meet_5 ?_
  refine lv_aload_n hx hb dX1_meet_6 rfl (lv_at hl 0 rfl) ?_
  refine cd_get1 (v := .ref o3) hx hb hts hown hK hP 0 rfl 4 (by decide) q194 rfl rfl dX1_meet_7 ?_
  refine lv_iload_n hx hb dX1_meet_10 rfl (lv_at hl 2 rfl) ?_
  refine cd_iald (k := j) hx hb hK hP 3 0 rfl rfl hj (by decide) dX1_meet_11 ?_
  refine cd_imul hx hb dX1_meet_12 ?_
  refine lv_aload_n hx hb dX1_meet_13 rfl (lv_at hl 0 rfl) ?_
  refine cd_get1 (v := .ref o2) hx hb hts hown hK hP 0 rfl 3 (by decide) q193 rfl rfl dX1_meet_14 ?_
  refine lv_iload_n hx hb dX1_meet_17 rfl (lv_at hl 2 rfl) ?_
  refine cd_iald (k := j) hx hb hK hP 2 0 rfl rfl hj (by decide) dX1_meet_18 ?_
  refine lv_aload_n hx hb dX1_meet_19 rfl (lv_at hl 0 rfl) ?_
  refine cd_get1 (v := .ref o3) hx hb hts hown hK hP 0 rfl 4 (by decide) q194 rfl rfl dX1_meet_20 ?_
  refine lv_iload_n hx hb dX1_meet_23 rfl (lv_at hl 1 rfl) ?_
  refine cd_iald (k := i) hx hb hK hP 3 0 rfl rfl hi (by decide) dX1_meet_24 ?_
  refine cd_imul hx hb dX1_meet_25 ?_
  refine cd_isub hx hb dX1_meet_26 ?_
  refine cd_i2l hx hb (cd_bR32 (cd_bS (cd_bM ha hb2) (cd_bM ha2 hb1)) (by decide)) dX1_meet_27 ?_
  refine lv_lstore_n (lv' := [(3, .long (cd_L (((fa i) * (fb j)) - ((fa j) * (fb i))))), (0, .ref o0), (1, .int (cd_I ((i : Nat) : Int))), (2, .int (cd_I ((j : Nat) : Int)))]) hx hb dX1_meet_28 rfl hl (by decide) rfl (fun ls hl => ?_)
  refine lv_aload_n hx hb dX1_meet_29 rfl (lv_at hl 1 rfl) ?_
  refine cd_get1 (v := .ref o4) hx hb hts hown hK hP 0 rfl 5 (by decide) q195 rfl rfl dX1_meet_30 ?_
  refine lv_iload_n hx hb dX1_meet_33 rfl (lv_at hl 2 rfl) ?_
  refine cd_iald (k := i) hx hb hK hP 4 0 rfl rfl hi (by decide) dX1_meet_34 ?_
  refine lv_aload_n hx hb dX1_meet_35 rfl (lv_at hl 1 rfl) ?_
  refine cd_get1 (v := .ref o3) hx hb hts hown hK hP 0 rfl 4 (by decide) q194 rfl rfl dX1_meet_36 ?_
  refine lv_iload_n hx hb dX1_meet_39 rfl (lv_at hl 3 rfl) ?_
  refine cd_iald (k := j) hx hb hK hP 3 0 rfl rfl hj (by decide) dX1_meet_40 ?_
  refine cd_imul hx hb dX1_meet_41 ?_
  refine lv_aload_n hx hb dX1_meet_42 rfl (lv_at hl 1 rfl) ?_
  refine cd_get1 (v := .ref o4) hx hb hts hown hK hP 0 rfl 5 (by decide) q195 rfl rfl dX1_meet_43 ?_
  refine lv_iload_n hx hb dX1_meet_46 rfl (lv_at hl 3 rfl) ?_
  refine cd_iald (k := j) hx hb hK hP 4 0 rfl rfl hj (by decide) dX1_meet_47 ?_
  refine lv_aload_n hx hb dX1_meet_48 rfl (lv_at hl 1 rfl) ?_
  refine cd_get1 (v := .ref o3) hx hb hts hown hK hP 0 rfl 4 (by decide) q194 rfl rfl dX1_meet_49 ?_
  refine lv_iload_n hx hb dX1_meet_52 rfl (lv_at hl 2 rfl) ?_
  refine cd_iald (k := i) hx hb hK hP 3 0 rfl rfl hi (by decide) dX1_meet_53 ?_
  refine cd_imul hx hb dX1_meet_54 ?_
  refine cd_isub hx hb dX1_meet_55 ?_
  refine cd_i2l hx hb (cd_bR32 (cd_bS (cd_bM hc1 hb2) (cd_bM hc2 hb1)) (by decide)) dX1_meet_56 ?_
  refine lv_lstore (lv' := [(5, .long (cd_L (((fc i) * (fb j)) - ((fc j) * (fb i))))), (3, .long (cd_L (((fa i) * (fb j)) - ((fa j) * (fb i))))), (0, .ref o0), (1, .int (cd_I ((i : Nat) : Int))), (2, .int (cd_I ((j : Nat) : Int)))]) hx hb dX1_meet_57 hl (by decide) rfl (fun ls hl => ?_)
  refine lv_aload_n hx hb dX1_meet_59 rfl (lv_at hl 2 rfl) ?_
  refine cd_get1 (v := .ref o2) hx hb hts hown hK hP 0 rfl 3 (by decide) q193 rfl rfl dX1_meet_60 ?_
  refine lv_iload_n hx hb dX1_meet_63 rfl (lv_at hl 3 rfl) ?_
  refine cd_iald (k := i) hx hb hK hP 2 0 rfl rfl hi (by decide) dX1_meet_64 ?_
  refine lv_aload_n hx hb dX1_meet_65 rfl (lv_at hl 2 rfl) ?_
  refine cd_get1 (v := .ref o4) hx hb hts hown hK hP 0 rfl 5 (by decide) q195 rfl rfl dX1_meet_66 ?_
  refine lv_iload_n hx hb dX1_meet_69 rfl (lv_at hl 4 rfl) ?_
  refine cd_iald (k := j) hx hb hK hP 4 0 rfl rfl hj (by decide) dX1_meet_70 ?_
  refine cd_imul hx hb dX1_meet_71 ?_
  refine lv_aload_n hx hb dX1_meet_72 rfl (lv_at hl 2 rfl) ?_
  refine cd_get1 (v := .ref o2) hx hb hts hown hK hP 0 rfl 3 (by decide) q193 rfl rfl dX1_meet_73 ?_
  refine lv_iload_n hx hb dX1_meet_76 rfl (lv_at hl 4 rfl) ?_
  refine cd_iald (k := j) hx hb hK hP 2 0 rfl rfl hj (by decide) dX1_meet_77 ?_
  refine lv_aload_n hx hb dX1_meet_78 rfl (lv_at hl 2 rfl) ?_
  refine cd_get1 (v := .ref o4) hx hb hts hown hK hP 0 rfl 5 (by decide) q195 rfl rfl dX1_meet_79 ?_
  refine lv_iload_n hx hb dX1_meet_82 rfl (lv_at hl 3 rfl) ?_
  refine cd_iald (k := i) hx hb hK hP 4 0 rfl rfl hi (by decide) dX1_meet_83 ?_
  refine cd_imul hx hb dX1_meet_84 ?_
  refine cd_isub hx hb dX1_meet_85 ?_
  refine cd_i2l hx hb (cd_bR32 (cd_bS (cd_bM ha hc2) (cd_bM ha2 hc1)) (by decide)) dX1_meet_86 ?_
  refine lv_lstore (lv' := [(7, .long (cd_L (((fa i) * (fc j)) - ((fa j) * (fc i))))), (5, .long (cd_L (((fc i) * (fb j)) - ((fc j) * (fb i))))), (3, .long (cd_L (((fa i) * (fb j)) - ((fa j) * (fb i))))), (0, .ref o0), (1, .int (cd_I ((i : Nat) : Int))), (2, .int (cd_I ((j : Nat) : Int)))]) hx hb dX1_meet_87 hl (by decide) rfl (fun ls hl => ?_)
  refine lv_lload_n hx hb dX1_meet_89 rfl (lv_at hl 2 rfl) ?_
  refine lv_lconst (v := cd_L 0) hx hb dX1_meet_90 (by decide) ?_
  refine cd_lcmp_ne (tgt := 97) hx hb (cd_bR64 (cd_bS (cd_bM ha hb2) (cd_bM ha2 hb1)) (by decide)) ⟨by decide, by decide⟩ dX1_meet_91 dX1_meet_92 (by decide) (fun c_1 => ?_) (fun c_1 => ?_)
  · refine lv_aload_n hx hb dX1_meet_97 rfl (lv_at hl 3 rfl) ?_
    refine lv_lload_n hx hb dX1_meet_98 rfl (lv_at hl 2 rfl) ?_
    refine lv_lconst (v := cd_L 0) hx hb dX1_meet_99 (by decide) ?_
    refine cd_lcmp_ge (tgt := 109) hx hb (cd_bR64 (cd_bS (cd_bM ha hb2) (cd_bM ha2 hb1)) (by decide)) ⟨by decide, by decide⟩ dX1_meet_100 dX1_meet_101 (by decide) (fun c_2 => ?_) (fun c_2 => ?_)
    · refine lv_lload_n hx hb dX1_meet_109 rfl (lv_at hl 2 rfl) ?_
      refine cd_put1 (v := .long (cd_L (((fa i) * (fb j)) - ((fa j) * (fb i))))) (ty := .long) hx hb hts hown hK hP hD hS 0 rfl 8 (by decide) q198 rfl rfl rfl rfl rfl (Nat.le_of_ble_eq_true rfl) dX1_meet_110 (fun H locs hP hD hS => ?_)
      have hP : va_P (dC, dI) vwCl [(o0, .inr (1, [.int (cd_I ((h : Nat) : Int)), .int (cd_I ((lv : Nat) : Int)), .ref o1, .ref o2, .ref o3, .ref o4, .long (cd_L cx), .long (cd_L cy), .long (cd_L (((fa i) * (fb j)) - ((fa j) * (fb i)))), .int (cd_I kn), .long (cd_L bx), .long (cd_L by_), .long (cd_L bu), .int (cd_I ap), .int (cd_I aq)])), (o1, .inl (dA, 8, .inl (cd_n fl))), (o2, .inl (dA, 14, .inl (cd_c fa))), (o3, .inl (dA, 14, .inl (cd_c fb))), (o4, .inl (dA, 14, .inl (cd_c fc)))] H := hP
      have hD : va_D A [(o0, .inr (1, [.int (cd_I ((h : Nat) : Int)), .int (cd_I ((lv : Nat) : Int)), .ref o1, .ref o2, .ref o3, .ref o4, .long (cd_L cx), .long (cd_L cy), .long (cd_L (((fa i) * (fb j)) - ((fa j) * (fb i)))), .int (cd_I kn), .long (cd_L bx), .long (cd_L by_), .long (cd_L bu), .int (cd_I ap), .int (cd_I aq)])), (o1, .inl (dA, 8, .inl (cd_n fl))), (o2, .inl (dA, 14, .inl (cd_c fa))), (o3, .inl (dA, 14, .inl (cd_c fb))), (o4, .inl (dA, 14, .inl (cd_c fc)))] := hD
      refine lv_aload_n hx hb dX1_meet_113 rfl (lv_at hl 3 rfl) ?_
      refine lv_lload_n hx hb dX1_meet_114 rfl (lv_at hl 2 rfl) ?_
      refine lv_lconst (v := cd_L 0) hx hb dX1_meet_115 (by decide) ?_
      refine cd_lcmp_ge (tgt := 126) hx hb (cd_bR64 (cd_bS (cd_bM ha hb2) (cd_bM ha2 hb1)) (by decide)) ⟨by decide, by decide⟩ dX1_meet_116 dX1_meet_117 (by decide) (fun c_3 => ?_) (fun c_3 => absurd c_3 (by omega))
      refine lv_lload hx hb dX1_meet_126 (lv_at hl 1 rfl) ?_
      refine cd_put1 (v := .long (cd_L (((fc i) * (fb j)) - ((fc j) * (fb i))))) (ty := .long) hx hb hts hown hK hP hD hS 0 rfl 6 (by decide) q196 rfl rfl rfl rfl rfl (Nat.le_of_ble_eq_true rfl) dX1_meet_128 (fun H locs hP hD hS => ?_)
      have hP : va_P (dC, dI) vwCl [(o0, .inr (1, [.int (cd_I ((h : Nat) : Int)), .int (cd_I ((lv : Nat) : Int)), .ref o1, .ref o2, .ref o3, .ref o4, .long (cd_L (((fc i) * (fb j)) - ((fc j) * (fb i)))), .long (cd_L cy), .long (cd_L (((fa i) * (fb j)) - ((fa j) * (fb i)))), .int (cd_I kn), .long (cd_L bx), .long (cd_L by_), .long (cd_L bu), .int (cd_I ap), .int (cd_I aq)])), (o1, .inl (dA, 8, .inl (cd_n fl))), (o2, .inl (dA, 14, .inl (cd_c fa))), (o3, .inl (dA, 14, .inl (cd_c fb))), (o4, .inl (dA, 14, .inl (cd_c fc)))] H := hP
      have hD : va_D A [(o0, .inr (1, [.int (cd_I ((h : Nat) : Int)), .int (cd_I ((lv : Nat) : Int)), .ref o1, .ref o2, .ref o3, .ref o4, .long (cd_L (((fc i) * (fb j)) - ((fc j) * (fb i)))), .long (cd_L cy), .long (cd_L (((fa i) * (fb j)) - ((fa j) * (fb i)))), .int (cd_I kn), .long (cd_L bx), .long (cd_L by_), .long (cd_L bu), .int (cd_I ap), .int (cd_I aq)])), (o1, .inl (dA, 8, .inl (cd_n fl))), (o2, .inl (dA, 14, .inl (cd_c fa))), (o3, .inl (dA, 14, .inl (cd_c fb))), (o4, .inl (dA, 14, .inl (cd_c fc)))] := hD
      refine lv_aload_n hx hb dX1_meet_131 rfl (lv_at hl 3 rfl) ?_
      refine lv_lload_n hx hb dX1_meet_132 rfl (lv_at hl 2 rfl) ?_
      refine lv_lconst (v := cd_L 0) hx hb dX1_meet_133 (by decide) ?_
      refine cd_lcmp_ge (tgt := 144) hx hb (cd_bR64 (cd_bS (cd_bM ha hb2) (cd_bM ha2 hb1)) (by decide)) ⟨by decide, by decide⟩ dX1_meet_134 dX1_meet_135 (by decide) (fun c_4 => ?_) (fun c_4 => absurd c_4 (by omega))
      refine lv_lload hx hb dX1_meet_144 (lv_at hl 0 rfl) ?_
      refine cd_put1 (v := .long (cd_L (((fa i) * (fc j)) - ((fa j) * (fc i))))) (ty := .long) hx hb hts hown hK hP hD hS 0 rfl 7 (by decide) q197 rfl rfl rfl rfl rfl (Nat.le_of_ble_eq_true rfl) dX1_meet_146 (fun H locs hP hD hS => ?_)
      have hP : va_P (dC, dI) vwCl [(o0, .inr (1, [.int (cd_I ((h : Nat) : Int)), .int (cd_I ((lv : Nat) : Int)), .ref o1, .ref o2, .ref o3, .ref o4, .long (cd_L (((fc i) * (fb j)) - ((fc j) * (fb i)))), .long (cd_L (((fa i) * (fc j)) - ((fa j) * (fc i)))), .long (cd_L (((fa i) * (fb j)) - ((fa j) * (fb i)))), .int (cd_I kn), .long (cd_L bx), .long (cd_L by_), .long (cd_L bu), .int (cd_I ap), .int (cd_I aq)])), (o1, .inl (dA, 8, .inl (cd_n fl))), (o2, .inl (dA, 14, .inl (cd_c fa))), (o3, .inl (dA, 14, .inl (cd_c fb))), (o4, .inl (dA, 14, .inl (cd_c fc)))] H := hP
      have hD : va_D A [(o0, .inr (1, [.int (cd_I ((h : Nat) : Int)), .int (cd_I ((lv : Nat) : Int)), .ref o1, .ref o2, .ref o3, .ref o4, .long (cd_L (((fc i) * (fb j)) - ((fc j) * (fb i)))), .long (cd_L (((fa i) * (fc j)) - ((fa j) * (fc i)))), .long (cd_L (((fa i) * (fb j)) - ((fa j) * (fb i)))), .int (cd_I kn), .long (cd_L bx), .long (cd_L by_), .long (cd_L bu), .int (cd_I ap), .int (cd_I aq)])), (o1, .inl (dA, 8, .inl (cd_n fl))), (o2, .inl (dA, 14, .inl (cd_c fa))), (o3, .inl (dA, 14, .inl (cd_c fb))), (o4, .inl (dA, 14, .inl (cd_c fc)))] := hD
      refine lv_iconst (v := cd_I 1) hx hb dX1_meet_149 rfl ?_
      exact W.zret (v := cd_I 1) hx hb hr rfl (fun t ht hW => ⟨⟨cd_I 1, ((((fc i) * (fb j)) - ((fc j) * (fb i))), (((fa i) * (fc j)) - ((fa j) * (fc i))), (((fa i) * (fb j)) - ((fa j) * (fb i)))), rfl, Or.inl ⟨rfl, (show 0 < (((fa i) * (fb j)) - ((fa j) * (fb i))) by omega), Or.inl ⟨rfl, rfl, rfl⟩⟩, ⟨by rw [ht]; exact hP, hD⟩⟩, hS.F ht⟩) hS.2.2 dX1_meet_150
    · refine lv_lload_n hx hb dX1_meet_104 rfl (lv_at hl 2 rfl) ?_
      refine cd_lneg hx hb dX1_meet_105 ?_
      refine lv_goto (tgt := 110) hx hb dX1_meet_106 (by decide) ?_
      refine cd_put1 (v := .long (cd_L (-(((fa i) * (fb j)) - ((fa j) * (fb i)))))) (ty := .long) hx hb hts hown hK hP hD hS 0 rfl 8 (by decide) q198 rfl rfl rfl rfl rfl (Nat.le_of_ble_eq_true rfl) dX1_meet_110 (fun H locs hP hD hS => ?_)
      have hP : va_P (dC, dI) vwCl [(o0, .inr (1, [.int (cd_I ((h : Nat) : Int)), .int (cd_I ((lv : Nat) : Int)), .ref o1, .ref o2, .ref o3, .ref o4, .long (cd_L cx), .long (cd_L cy), .long (cd_L (-(((fa i) * (fb j)) - ((fa j) * (fb i))))), .int (cd_I kn), .long (cd_L bx), .long (cd_L by_), .long (cd_L bu), .int (cd_I ap), .int (cd_I aq)])), (o1, .inl (dA, 8, .inl (cd_n fl))), (o2, .inl (dA, 14, .inl (cd_c fa))), (o3, .inl (dA, 14, .inl (cd_c fb))), (o4, .inl (dA, 14, .inl (cd_c fc)))] H := hP
      have hD : va_D A [(o0, .inr (1, [.int (cd_I ((h : Nat) : Int)), .int (cd_I ((lv : Nat) : Int)), .ref o1, .ref o2, .ref o3, .ref o4, .long (cd_L cx), .long (cd_L cy), .long (cd_L (-(((fa i) * (fb j)) - ((fa j) * (fb i))))), .int (cd_I kn), .long (cd_L bx), .long (cd_L by_), .long (cd_L bu), .int (cd_I ap), .int (cd_I aq)])), (o1, .inl (dA, 8, .inl (cd_n fl))), (o2, .inl (dA, 14, .inl (cd_c fa))), (o3, .inl (dA, 14, .inl (cd_c fb))), (o4, .inl (dA, 14, .inl (cd_c fc)))] := hD
      refine lv_aload_n hx hb dX1_meet_113 rfl (lv_at hl 3 rfl) ?_
      refine lv_lload_n hx hb dX1_meet_114 rfl (lv_at hl 2 rfl) ?_
      refine lv_lconst (v := cd_L 0) hx hb dX1_meet_115 (by decide) ?_
      refine cd_lcmp_ge (tgt := 126) hx hb (cd_bR64 (cd_bS (cd_bM ha hb2) (cd_bM ha2 hb1)) (by decide)) ⟨by decide, by decide⟩ dX1_meet_116 dX1_meet_117 (by decide) (fun c_5 => absurd c_5 (by omega)) (fun c_5 => ?_)
      refine lv_lload hx hb dX1_meet_120 (lv_at hl 1 rfl) ?_
      refine cd_lneg hx hb dX1_meet_122 ?_
      refine lv_goto (tgt := 128) hx hb dX1_meet_123 (by decide) ?_
      refine cd_put1 (v := .long (cd_L (-(((fc i) * (fb j)) - ((fc j) * (fb i)))))) (ty := .long) hx hb hts hown hK hP hD hS 0 rfl 6 (by decide) q196 rfl rfl rfl rfl rfl (Nat.le_of_ble_eq_true rfl) dX1_meet_128 (fun H locs hP hD hS => ?_)
      have hP : va_P (dC, dI) vwCl [(o0, .inr (1, [.int (cd_I ((h : Nat) : Int)), .int (cd_I ((lv : Nat) : Int)), .ref o1, .ref o2, .ref o3, .ref o4, .long (cd_L (-(((fc i) * (fb j)) - ((fc j) * (fb i))))), .long (cd_L cy), .long (cd_L (-(((fa i) * (fb j)) - ((fa j) * (fb i))))), .int (cd_I kn), .long (cd_L bx), .long (cd_L by_), .long (cd_L bu), .int (cd_I ap), .int (cd_I aq)])), (o1, .inl (dA, 8, .inl (cd_n fl))), (o2, .inl (dA, 14, .inl (cd_c fa))), (o3, .inl (dA, 14, .inl (cd_c fb))), (o4, .inl (dA, 14, .inl (cd_c fc)))] H := hP
      have hD : va_D A [(o0, .inr (1, [.int (cd_I ((h : Nat) : Int)), .int (cd_I ((lv : Nat) : Int)), .ref o1, .ref o2, .ref o3, .ref o4, .long (cd_L (-(((fc i) * (fb j)) - ((fc j) * (fb i))))), .long (cd_L cy), .long (cd_L (-(((fa i) * (fb j)) - ((fa j) * (fb i))))), .int (cd_I kn), .long (cd_L bx), .long (cd_L by_), .long (cd_L bu), .int (cd_I ap), .int (cd_I aq)])), (o1, .inl (dA, 8, .inl (cd_n fl))), (o2, .inl (dA, 14, .inl (cd_c fa))), (o3, .inl (dA, 14, .inl (cd_c fb))), (o4, .inl (dA, 14, .inl (cd_c fc)))] := hD
      refine lv_aload_n hx hb dX1_meet_131 rfl (lv_at hl 3 rfl) ?_
      refine lv_lload_n hx hb dX1_meet_132 rfl (lv_at hl 2 rfl) ?_
      refine lv_lconst (v := cd_L 0) hx hb dX1_meet_133 (by decide) ?_
      refine cd_lcmp_ge (tgt := 144) hx hb (cd_bR64 (cd_bS (cd_bM ha hb2) (cd_bM ha2 hb1)) (by decide)) ⟨by decide, by decide⟩ dX1_meet_134 dX1_meet_135 (by decide) (fun c_6 => absurd c_6 (by omega)) (fun c_6 => ?_)
      refine lv_lload hx hb dX1_meet_138 (lv_at hl 0 rfl) ?_
      refine cd_lneg hx hb dX1_meet_140 ?_
      refine lv_goto (tgt := 146) hx hb dX1_meet_141 (by decide) ?_
      refine cd_put1 (v := .long (cd_L (-(((fa i) * (fc j)) - ((fa j) * (fc i)))))) (ty := .long) hx hb hts hown hK hP hD hS 0 rfl 7 (by decide) q197 rfl rfl rfl rfl rfl (Nat.le_of_ble_eq_true rfl) dX1_meet_146 (fun H locs hP hD hS => ?_)
      have hP : va_P (dC, dI) vwCl [(o0, .inr (1, [.int (cd_I ((h : Nat) : Int)), .int (cd_I ((lv : Nat) : Int)), .ref o1, .ref o2, .ref o3, .ref o4, .long (cd_L (-(((fc i) * (fb j)) - ((fc j) * (fb i))))), .long (cd_L (-(((fa i) * (fc j)) - ((fa j) * (fc i))))), .long (cd_L (-(((fa i) * (fb j)) - ((fa j) * (fb i))))), .int (cd_I kn), .long (cd_L bx), .long (cd_L by_), .long (cd_L bu), .int (cd_I ap), .int (cd_I aq)])), (o1, .inl (dA, 8, .inl (cd_n fl))), (o2, .inl (dA, 14, .inl (cd_c fa))), (o3, .inl (dA, 14, .inl (cd_c fb))), (o4, .inl (dA, 14, .inl (cd_c fc)))] H := hP
      have hD : va_D A [(o0, .inr (1, [.int (cd_I ((h : Nat) : Int)), .int (cd_I ((lv : Nat) : Int)), .ref o1, .ref o2, .ref o3, .ref o4, .long (cd_L (-(((fc i) * (fb j)) - ((fc j) * (fb i))))), .long (cd_L (-(((fa i) * (fc j)) - ((fa j) * (fc i))))), .long (cd_L (-(((fa i) * (fb j)) - ((fa j) * (fb i))))), .int (cd_I kn), .long (cd_L bx), .long (cd_L by_), .long (cd_L bu), .int (cd_I ap), .int (cd_I aq)])), (o1, .inl (dA, 8, .inl (cd_n fl))), (o2, .inl (dA, 14, .inl (cd_c fa))), (o3, .inl (dA, 14, .inl (cd_c fb))), (o4, .inl (dA, 14, .inl (cd_c fc)))] := hD
      refine lv_iconst (v := cd_I 1) hx hb dX1_meet_149 rfl ?_
      exact W.zret (v := cd_I 1) hx hb hr rfl (fun t ht hW => ⟨⟨cd_I 1, ((-(((fc i) * (fb j)) - ((fc j) * (fb i)))), (-(((fa i) * (fc j)) - ((fa j) * (fc i)))), (-(((fa i) * (fb j)) - ((fa j) * (fb i))))), rfl, Or.inl ⟨rfl, (show 0 < (-(((fa i) * (fb j)) - ((fa j) * (fb i)))) by omega), Or.inr ⟨rfl, rfl, rfl⟩⟩, ⟨by rw [ht]; exact hP, hD⟩⟩, hS.F ht⟩) hS.2.2 dX1_meet_150
  · refine lv_iconst (v := cd_I 0) hx hb dX1_meet_95 rfl ?_
    exact W.zret (v := cd_I 0) hx hb hr rfl (fun t ht hW => ⟨⟨cd_I 0, (cx, cy, cu), rfl, Or.inr ⟨rfl, fun X Y W hc => by obtain ⟨q0, ⟨q1, -, -⟩ | ⟨q1, -, -⟩⟩ := hc <;> omega⟩, ⟨by rw [ht]; exact hP, hD⟩⟩, hS.F ht⟩) hS.2.2 dX1_meet_96

set_option maxHeartbeats 4000000 in
set_option maxRecDepth 100000 in
/-- meets -/
theorem xm_meets (l : Launch) (dC : Nat → ClassId) (dI : Nat → Nat → Nat) (dA : ClassId) (o0 o1 o2 o3 o4 h lv : Nat) (fa fb fc : Nat → Int) (fl : Nat → Nat) (cx cy cu kn bx by_ bu ap aq : Int) (k : Nat) (hk : k < 14) (ha : cd_b 9 (fa k)) (hb1 : cd_b 9 (fb k)) (hc1 : cd_b 99 (fc k)) (hx1 : cd_b 1782 cx) (hy1 : cd_b 1782 cy) (hw1 : cd_b 162 cu) : Met l yX1_meets (ws_ yX1_meets cX1_meets 2 (some .boolean)) ({ frames := 0, cells := 0, slots := 0, locals := 0 }) (va_Pc [.ref o0, .int (cd_I ((k : Nat) : Int))] (cd_W0 (dC, dI) vwCl [(dA, .int)] (cd_M dA o0 o1 o2 o3 o4 h lv fa fb fc fl cx cy cu kn bx by_ bu ap aq))) (va_Qi (fun (r : Int32) (_ : Unit) => (r = cd_I 1 ∧ cd_sat (fa k) (fb k) (fc k) cx cy cu) ∨ (r = cd_I 0 ∧ ¬ cd_sat (fa k) (fb k) (fc k) cx cy cu)) (fun _ _ => True) (fun _ => False)) 0 0 (fun _ => False) := by
  refine Met.ofW (cc := cX1_meets) (maxL := 2) (ret := (some .boolean)) (by decide) rfl ?_
  intro p e s m args below meth c s₁ B hml hv
  obtain ⟨rfl, hP, hK⟩ := hv
  have hx := B.exec
  have hb := B.bytes
  have hr := B.returns
  have hts := atoms_spec (ws := (ws_ yX1_meets cX1_meets 2 (some .boolean))) B.pre
  have hts : ∀ w ∈ lw_all, w.before _ s = true := fun w h => hts w (List.mem_cons_of_mem _ h)
  have hown : s.vm.findClass RX1 = some m.cls := findClass_of_methodNamed B.named
  have hlocks := B.notSynchronized
  have hS : va_S (fun _ => False) s.heap s.heap [] := va_S.rf
  have hl := lv_entry ([.ref o0, .int (cd_I ((k : Nat) : Int))]) (n := 2) (Nat.le_of_ble_eq_true rfl)
  rw [lg_entry_eq]
  generalize (lg_sl ([.ref o0, .int (cd_I ((k : Nat) : Int))]) ++ List.replicate (2 - (lg_sl ([.ref o0, .int (cd_I ((k : Nat) : Int))])).length) Slot.unset).toArray = ls at hl ⊢
  have hl : lv_has ls 2 [(0, .ref o0), (1, .int (cd_I ((k : Nat) : Int)))] := hl
  have hP : va_P (dC, dI) vwCl [(o0, .inr (1, [.int (cd_I ((h : Nat) : Int)), .int (cd_I ((lv : Nat) : Int)), .ref o1, .ref o2, .ref o3, .ref o4, .long (cd_L cx), .long (cd_L cy), .long (cd_L cu), .int (cd_I kn), .long (cd_L bx), .long (cd_L by_), .long (cd_L bu), .int (cd_I ap), .int (cd_I aq)])), (o1, .inl (dA, 8, .inl (cd_n fl))), (o2, .inl (dA, 14, .inl (cd_c fa))), (o3, .inl (dA, 14, .inl (cd_c fb))), (o4, .inl (dA, 14, .inl (cd_c fc)))] s.heap := hP
  refine lv_aload_n hx hb dX1_meets_0 rfl (lv_at hl 0 rfl) ?_
  refine cd_get1 (v := .ref o2) hx hb hts hown hK hP 0 rfl 3 (by decide) q193 rfl rfl dX1_meets_1 ?_
  refine lv_iload_n hx hb dX1_meets_4 rfl (lv_at hl 1 rfl) ?_
  refine cd_iald (k := k) hx hb hK hP 2 0 rfl rfl hk (by decide) dX1_meets_5 ?_
  refine cd_i2l hx hb (cd_bR32 ha (by decide)) dX1_meets_6 ?_
  refine lv_aload_n hx hb dX1_meets_7 rfl (lv_at hl 0 rfl) ?_
  refine cd_get1 (v := .long (cd_L cx)) hx hb hts hown hK hP 0 rfl 6 (by decide) q196 rfl rfl dX1_meets_8 ?_
  refine cd_lmul hx hb dX1_meets_11 ?_
  refine lv_aload_n hx hb dX1_meets_12 rfl (lv_at hl 0 rfl) ?_
  refine cd_get1 (v := .ref o3) hx hb hts hown hK hP 0 rfl 4 (by decide) q194 rfl rfl dX1_meets_13 ?_
  refine lv_iload_n hx hb dX1_meets_16 rfl (lv_at hl 1 rfl) ?_
  refine cd_iald (k := k) hx hb hK hP 3 0 rfl rfl hk (by decide) dX1_meets_17 ?_
  refine cd_i2l hx hb (cd_bR32 hb1 (by decide)) dX1_meets_18 ?_
  refine lv_aload_n hx hb dX1_meets_19 rfl (lv_at hl 0 rfl) ?_
  refine cd_get1 (v := .long (cd_L cy)) hx hb hts hown hK hP 0 rfl 7 (by decide) q197 rfl rfl dX1_meets_20 ?_
  refine cd_lmul hx hb dX1_meets_23 ?_
  refine cd_ladd hx hb dX1_meets_24 ?_
  refine lv_aload_n hx hb dX1_meets_25 rfl (lv_at hl 0 rfl) ?_
  refine cd_get1 (v := .ref o4) hx hb hts hown hK hP 0 rfl 5 (by decide) q195 rfl rfl dX1_meets_26 ?_
  refine lv_iload_n hx hb dX1_meets_29 rfl (lv_at hl 1 rfl) ?_
  refine cd_iald (k := k) hx hb hK hP 4 0 rfl rfl hk (by decide) dX1_meets_30 ?_
  refine cd_i2l hx hb (cd_bR32 hc1 (by decide)) dX1_meets_31 ?_
  refine lv_aload_n hx hb dX1_meets_32 rfl (lv_at hl 0 rfl) ?_
  refine cd_get1 (v := .long (cd_L cu)) hx hb hts hown hK hP 0 rfl 8 (by decide) q198 rfl rfl dX1_meets_33 ?_
  refine cd_lmul hx hb dX1_meets_36 ?_
  refine cd_lcmp_gt (tgt := 45) hx hb (cd_bR64 (cd_bA (cd_bM ha hx1) (cd_bM hb1 hy1)) (by decide)) (cd_bR64 (cd_bM hc1 hw1) (by decide)) dX1_meets_37 dX1_meets_38 (by decide) (fun c_1 => ?_) (fun c_1 => ?_)
  · refine lv_iconst (v := cd_I 0) hx hb dX1_meets_45 rfl ?_
    exact W.zret (v := cd_I 0) hx hb hr rfl (fun t ht hW => ⟨⟨cd_I 0, (), rfl, Or.inr ⟨rfl, by unfold cd_sat; omega⟩, trivial⟩, hS.F ht⟩) hS.2.2 dX1_meets_46
  · refine lv_iconst (v := cd_I 1) hx hb dX1_meets_41 rfl ?_
    refine lv_goto (tgt := 46) hx hb dX1_meets_42 (by decide) ?_
    exact W.zret (v := cd_I 1) hx hb hr rfl (fun t ht hW => ⟨⟨cd_I 1, (), rfl, Or.inl ⟨rfl, by unfold cd_sat; omega⟩, trivial⟩, hS.F ht⟩) hS.2.2 dX1_meets_46

set_option maxHeartbeats 4000000 in
set_option maxRecDepth 100000 in
/-- allowed -/
theorem xm_allowed (l : Launch) (dC : Nat → ClassId) (dI : Nat → Nat → Nat) (dA : ClassId) (o0 o1 o2 o3 o4 h lv : Nat) (fa fb fc : Nat → Int) (fl : Nat → Nat) (cx cy cu kn bx by_ bu ap aq : Int) (wo : Int) (hwo : cd_R32 wo) (hok : cd_okM fa fb fc h) (hx1 : cd_b 1782 cx) (hy1 : cd_b 1782 cy) (hw1 : cd_b 162 cu) : Met l yX1_allowed (ws_ yX1_allowed cX1_allowed 3 (some .boolean)) ({ frames := 1, cells := 0, slots := 0, locals := 22 }) (va_Pc [.ref o0, .int (cd_I wo)] (cd_W0 (dC, dI) vwCl [(dA, .int)] (cd_M dA o0 o1 o2 o3 o4 h lv fa fb fc fl cx cy cu kn bx by_ bu ap aq))) (va_Qi (fun (r : Int32) (_ : Unit) => (r = cd_I 1 ∧ (∀ i, cd_T h wo i → cd_sat (fa i) (fb i) (fc i) cx cy cu)) ∨ (r = cd_I 0 ∧ ¬ (∀ i, cd_T h wo i → cd_sat (fa i) (fb i) (fc i) cx cy cu))) (fun _ _ => True) (fun _ => False)) 0 0 (fun _ => False) := by
  refine Met.ofW (cc := cX1_allowed) (maxL := 3) (ret := (some .boolean)) (by decide) rfl ?_
  intro p e s m args below meth c s₁ B hml hv
  obtain ⟨rfl, hP, hK⟩ := hv
  have hx := B.exec
  have hb := B.bytes
  have hr := B.returns
  have hts := atoms_spec (ws := (ws_ yX1_allowed cX1_allowed 3 (some .boolean))) B.pre
  have hts : ∀ w ∈ lw_all, w.before _ s = true := fun w h => hts w (List.mem_cons_of_mem _ h)
  have hown : s.vm.findClass RX1 = some m.cls := findClass_of_methodNamed B.named
  have hlocks := B.notSynchronized
  have hS : va_S (fun _ => False) s.heap s.heap [] := va_S.rf
  have hl := lv_entry ([.ref o0, .int (cd_I wo)]) (n := 3) (Nat.le_of_ble_eq_true rfl)
  rw [lg_entry_eq]
  generalize (lg_sl ([.ref o0, .int (cd_I wo)]) ++ List.replicate (3 - (lg_sl ([.ref o0, .int (cd_I wo)])).length) Slot.unset).toArray = ls at hl ⊢
  have hl : lv_has ls 3 [(0, .ref o0), (1, .int (cd_I wo))] := hl
  have hP : va_P (dC, dI) vwCl [(o0, .inr (1, [.int (cd_I ((h : Nat) : Int)), .int (cd_I ((lv : Nat) : Int)), .ref o1, .ref o2, .ref o3, .ref o4, .long (cd_L cx), .long (cd_L cy), .long (cd_L cu), .int (cd_I kn), .long (cd_L bx), .long (cd_L by_), .long (cd_L bu), .int (cd_I ap), .int (cd_I aq)])), (o1, .inl (dA, 8, .inl (cd_n fl))), (o2, .inl (dA, 14, .inl (cd_c fa))), (o3, .inl (dA, 14, .inl (cd_c fb))), (o4, .inl (dA, 14, .inl (cd_c fc)))] s.heap := hP
  have loop : ∀ (f i : Nat), i ≤ 14 → 15 ≤ i + f → (∀ i2, i2 < i → cd_T h wo i2 → cd_sat (fa i2) (fb i2) (fc i2) cx cy cu) → ∀ (H : Heap) (locs : List Loc), va_P (dC, dI) vwCl (cd_M dA o0 o1 o2 o3 o4 h lv fa fb fc fl cx cy cu kn bx by_ bu ap aq) H → va_S (fun _ => False) s.heap H locs → ∀ ls : Array Slot, lv_has ls 3 [(2, .int (cd_I ((i : Nat) : Int))), (0, .ref o0), (1, .int (cd_I wo))] → W p l e (headSpec (ws_ yX1_allowed cX1_allowed 3 (some .boolean)) ({ frames := 1, cells := 0, slots := 0, locals := 22 })).room s m ([.ref o0, .int (cd_I wo)] : List Value).toArray below meth c H locs 0 0 (MQ below (va_Qi (fun (r : Int32) (_ : Unit) => (r = cd_I 1 ∧ (∀ i, cd_T h wo i → cd_sat (fa i) (fb i) (fc i) cx cy cu)) ∨ (r = cd_I 0 ∧ ¬ (∀ i, cd_T h wo i → cd_sat (fa i) (fb i) (fc i) cx cy cu))) (fun _ _ => True) (fun _ => False)) ([.ref o0, .int (cd_I wo)] : List Value).toArray s 0 0 (fun _ => False)) (F0 m 2 ls []) := by
    intro f
    induction f with
    | zero =>
      intro i h1 h2
      exact absurd h2 (by omega)
    | succ f ih =>
      intro i hi1 hi2 hall H locs hP hS ls hl
      have hP : va_P (dC, dI) vwCl [(o0, .inr (1, [.int (cd_I ((h : Nat) : Int)), .int (cd_I ((lv : Nat) : Int)), .ref o1, .ref o2, .ref o3, .ref o4, .long (cd_L cx), .long (cd_L cy), .long (cd_L cu), .int (cd_I kn), .long (cd_L bx), .long (cd_L by_), .long (cd_L bu), .int (cd_I ap), .int (cd_I aq)])), (o1, .inl (dA, 8, .inl (cd_n fl))), (o2, .inl (dA, 14, .inl (cd_c fa))), (o3, .inl (dA, 14, .inl (cd_c fb))), (o4, .inl (dA, 14, .inl (cd_c fc)))] H := hP
      refine lv_iload_n hx hb dX1_allowed_2 rfl (lv_at hl 0 rfl) ?_
      refine lv_bipush (v := cd_I 14) hx hb dX1_allowed_3 (by decide) ?_
      refine cd_icmp_ge (tgt := 33) hx hb ⟨by omega, by omega⟩ ⟨by decide, by decide⟩ dX1_allowed_5 (by decide) (fun c_1 => ?_) (fun c_1 => ?_)
      · refine lv_iconst (v := cd_I 1) hx hb dX1_allowed_33 rfl ?_
        exact W.zret (v := cd_I 1) hx hb hr rfl (fun t ht hW => ⟨⟨cd_I 1, (), rfl, Or.inl ⟨rfl, fun i2 hT => hall i2 (by have := hT.1; omega) hT⟩, trivial⟩, hS.F ht⟩) hS.2.2 dX1_allowed_34
      · refine lv_aload_n hx hb dX1_allowed_8 rfl (lv_at hl 1 rfl) ?_
        refine lv_iload_n hx hb dX1_allowed_9 rfl (lv_at hl 0 rfl) ?_
        refine lv_iload_n hx hb dX1_allowed_10 rfl (lv_at hl 2 rfl) ?_
        refine cd_call0i (va_runV (As := [.int (cd_I ((i : Nat) : Int)), .int (cd_I wo)]) (rest := []) ⟨hx, hb, hml, hown, hts⟩ (xm_there l dC dI dA o0 o1 o2 o3 o4 h lv fa fb fc fl cx cy cu kn bx by_ bu ap aq i wo (by omega) hwo hok.1) (cwV 2 hts (lw_V q255 q257 qs10 q20 q258) rfl rfl rfl (by decide +kernel) ⟨Nat.le_of_ble_eq_true rfl, Nat.le_of_ble_eq_true rfl⟩) ⟨cd_bl0, va_recv hK hP (ci := 1) (q0 := 0) rfl rfl, cd_pr0 hP hK⟩ rfl rfl hl.1 rfl (lv_room (Nat.le_of_ble_eq_true rfl)) dX1_allowed_11 ⟨Nat.le_of_ble_eq_true rfl, Nat.le_of_ble_eq_true rfl⟩) hP hS (fun r H locs hq hP hS => ?_)
        rcases hq with ⟨rfl, hth⟩ | ⟨rfl, hth⟩
        · refine cd_if_eq (tgt := 27) hx hb ⟨by decide, by decide⟩ dX1_allowed_14 (by decide) (fun c_2 => absurd c_2 (by decide)) (fun c_2 => ?_)
          refine lv_aload_n hx hb dX1_allowed_17 rfl (lv_at hl 1 rfl) ?_
          refine lv_iload_n hx hb dX1_allowed_18 rfl (lv_at hl 0 rfl) ?_
          obtain ⟨ha, hb1, hc1⟩ := hok.2 i (by omega) hth.2
          refine cd_call0i (va_runV (As := [.int (cd_I ((i : Nat) : Int))]) (rest := []) ⟨hx, hb, hml, hown, hts⟩ (xm_meets l dC dI dA o0 o1 o2 o3 o4 h lv fa fb fc fl cx cy cu kn bx by_ bu ap aq i (by omega) ha hb1 hc1 hx1 hy1 hw1) (cwV 1 hts (lw_V q267 q269 qs13 q20 q270) rfl rfl rfl (by decide +kernel) ⟨Nat.le_of_ble_eq_true rfl, Nat.le_of_ble_eq_true rfl⟩) ⟨cd_bl0, va_recv hK hP (ci := 1) (q0 := 0) rfl rfl, cd_pr0 hP hK⟩ rfl rfl hl.1 rfl (lv_room (Nat.le_of_ble_eq_true rfl)) dX1_allowed_19 ⟨Nat.le_of_ble_eq_true rfl, Nat.le_of_ble_eq_true rfl⟩) hP hS (fun r H locs hq hP hS => ?_)
          rcases hq with ⟨rfl, hsat⟩ | ⟨rfl, hsat⟩
          · refine cd_if_ne (tgt := 27) hx hb ⟨by decide, by decide⟩ dX1_allowed_22 (by decide) (fun c_3 => ?_) (fun c_3 => absurd c_3 (by decide))
            refine cd_iinc (x := ((i : Nat) : Int)) (lv' := [(2, .int (cd_I (((i : Nat) : Int) + 1))), (0, .ref o0), (1, .int (cd_I wo))]) hx hb dX1_allowed_27 hl (k := 0) rfl (by decide) rfl (fun ls hl => ?_)
            refine lv_goto (tgt := 2) hx hb dX1_allowed_30 (by decide) ?_
            exact ih (i + 1) (by omega) (by omega) (fun i2 h2 hT => by rcases Nat.lt_or_eq_of_le (Nat.le_of_lt_succ h2) with q | q; exact hall i2 q hT; subst q; exact hsat) H locs hP hS ls (lv_sub hl [0, 1, 2] rfl)
          · refine cd_if_ne (tgt := 27) hx hb ⟨by decide, by decide⟩ dX1_allowed_22 (by decide) (fun c_4 => absurd c_4 (by decide)) (fun c_4 => ?_)
            refine lv_iconst (v := cd_I 0) hx hb dX1_allowed_25 rfl ?_
            exact W.zret (v := cd_I 0) hx hb hr rfl (fun t ht hW => ⟨⟨cd_I 0, (), rfl, Or.inr ⟨rfl, fun q => hsat (q i ⟨by omega, hth⟩)⟩, trivial⟩, hS.F ht⟩) hS.2.2 dX1_allowed_26
        · refine cd_if_eq (tgt := 27) hx hb ⟨by decide, by decide⟩ dX1_allowed_14 (by decide) (fun c_5 => ?_) (fun c_5 => absurd c_5 (by decide))
          refine cd_iinc (x := ((i : Nat) : Int)) (lv' := [(2, .int (cd_I (((i : Nat) : Int) + 1))), (0, .ref o0), (1, .int (cd_I wo))]) hx hb dX1_allowed_27 hl (k := 0) rfl (by decide) rfl (fun ls hl => ?_)
          refine lv_goto (tgt := 2) hx hb dX1_allowed_30 (by decide) ?_
          exact ih (i + 1) (by omega) (by omega) (fun i2 h2 hT => by rcases Nat.lt_or_eq_of_le (Nat.le_of_lt_succ h2) with q | q; exact hall i2 q hT; subst q; exact absurd hT.2 hth) H locs hP hS ls (lv_sub hl [0, 1, 2] rfl)
  refine lv_iconst (v := cd_I 0) hx hb dX1_allowed_0 rfl ?_
  refine lv_istore_n (lv' := [(2, .int (cd_I 0)), (0, .ref o0), (1, .int (cd_I wo))]) hx hb dX1_allowed_1 rfl hl (by decide) rfl (fun ls hl => ?_)
  exact loop 15 0 (by decide) (by decide) (fun i2 h2 => absurd h2 (Nat.not_lt_zero _)) s.heap [] hP hS ls (lv_sub hl [0, 1, 2] rfl)

set_option maxHeartbeats 4000000 in
set_option maxRecDepth 100000 in
/-- better -/
theorem xm_better (l : Launch) (dC : Nat → ClassId) (dI : Nat → Nat → Nat) (dA : ClassId) (o0 o1 o2 o3 o4 h lv : Nat) (fa fb fc : Nat → Int) (fl : Nat → Nat) (cx cy cu kn bx by_ bu ap aq : Int) (pp qq : Int) (hp9 : cd_b 9 pp) (hq9 : cd_b 9 qq) (hx1 : cd_b 1782 cx) (hy1 : cd_b 1782 cy) (hw1 : cd_b 162 cu) (hbx : cd_b 1782 bx) (hby : cd_b 1782 by_) (hbu : cd_b 162 bu) : Met l yX1_better (ws_ yX1_better cX1_better 7 (some .boolean)) ({ frames := 0, cells := 0, slots := 0, locals := 0 }) (va_Pc [.ref o0, .int (cd_I pp), .int (cd_I qq)] (cd_W0 (dC, dI) vwCl [(dA, .int)] (cd_M dA o0 o1 o2 o3 o4 h lv fa fb fc fl cx cy cu kn bx by_ bu ap aq))) (va_Qi (fun (r : Int32) (_ : Unit) => (r = cd_I 1 ∧ cd_btr pp qq cx cy cu bx by_ bu) ∨ (r = cd_I 0 ∧ ¬ cd_btr pp qq cx cy cu bx by_ bu)) (fun _ _ => True) (fun _ => False)) 0 0 (fun _ => False) := by
  refine Met.ofW (cc := cX1_better) (maxL := 7) (ret := (some .boolean)) (by decide) rfl ?_
  intro p e s m args below meth c s₁ B hml hv
  obtain ⟨rfl, hP, hK⟩ := hv
  have hx := B.exec
  have hb := B.bytes
  have hr := B.returns
  have hts := atoms_spec (ws := (ws_ yX1_better cX1_better 7 (some .boolean))) B.pre
  have hts : ∀ w ∈ lw_all, w.before _ s = true := fun w h => hts w (List.mem_cons_of_mem _ h)
  have hown : s.vm.findClass RX1 = some m.cls := findClass_of_methodNamed B.named
  have hlocks := B.notSynchronized
  have hS : va_S (fun _ => False) s.heap s.heap [] := va_S.rf
  have hl := lv_entry ([.ref o0, .int (cd_I pp), .int (cd_I qq)]) (n := 7) (Nat.le_of_ble_eq_true rfl)
  rw [lg_entry_eq]
  generalize (lg_sl ([.ref o0, .int (cd_I pp), .int (cd_I qq)]) ++ List.replicate (7 - (lg_sl ([.ref o0, .int (cd_I pp), .int (cd_I qq)])).length) Slot.unset).toArray = ls at hl ⊢
  have hl : lv_has ls 7 [(0, .ref o0), (1, .int (cd_I pp)), (2, .int (cd_I qq))] := hl
  have hP : va_P (dC, dI) vwCl [(o0, .inr (1, [.int (cd_I ((h : Nat) : Int)), .int (cd_I ((lv : Nat) : Int)), .ref o1, .ref o2, .ref o3, .ref o4, .long (cd_L cx), .long (cd_L cy), .long (cd_L cu), .int (cd_I kn), .long (cd_L bx), .long (cd_L by_), .long (cd_L bu), .int (cd_I ap), .int (cd_I aq)])), (o1, .inl (dA, 8, .inl (cd_n fl))), (o2, .inl (dA, 14, .inl (cd_c fa))), (o3, .inl (dA, 14, .inl (cd_c fb))), (o4, .inl (dA, 14, .inl (cd_c fc)))] s.heap := hP
  refine lv_iload_n hx hb dX1_better_0 rfl (lv_at hl 1 rfl) ?_
  refine cd_i2l hx hb (cd_bR32 hp9 (by decide)) dX1_better_1 ?_
  refine lv_aload_n hx hb dX1_better_2 rfl (lv_at hl 0 rfl) ?_
  refine cd_get1 (v := .long (cd_L cx)) hx hb hts hown hK hP 0 rfl 6 (by decide) q196 rfl rfl dX1_better_3 ?_
  refine cd_lmul hx hb dX1_better_6 ?_
  refine lv_iload_n hx hb dX1_better_7 rfl (lv_at hl 2 rfl) ?_
  refine cd_i2l hx hb (cd_bR32 hq9 (by decide)) dX1_better_8 ?_
  refine lv_aload_n hx hb dX1_better_9 rfl (lv_at hl 0 rfl) ?_
  refine cd_get1 (v := .long (cd_L cy)) hx hb hts hown hK hP 0 rfl 7 (by decide) q197 rfl rfl dX1_better_10 ?_
  refine cd_lmul hx hb dX1_better_13 ?_
  refine cd_ladd hx hb dX1_better_14 ?_
  refine lv_aload_n hx hb dX1_better_15 rfl (lv_at hl 0 rfl) ?_
  refine cd_get1 (v := .long (cd_L bu)) hx hb hts hown hK hP 0 rfl 12 (by decide) q202 rfl rfl dX1_better_16 ?_
  refine cd_lmul hx hb dX1_better_19 ?_
  refine lv_lstore_n (lv' := [(3, .long (cd_L (((pp * cx) + (qq * cy)) * bu))), (0, .ref o0), (1, .int (cd_I pp)), (2, .int (cd_I qq))]) hx hb dX1_better_20 rfl hl (by decide) rfl (fun ls hl => ?_)
  refine lv_iload_n hx hb dX1_better_21 rfl (lv_at hl 2 rfl) ?_
  refine cd_i2l hx hb (cd_bR32 hp9 (by decide)) dX1_better_22 ?_
  refine lv_aload_n hx hb dX1_better_23 rfl (lv_at hl 1 rfl) ?_
  refine cd_get1 (v := .long (cd_L bx)) hx hb hts hown hK hP 0 rfl 10 (by decide) q200 rfl rfl dX1_better_24 ?_
  refine cd_lmul hx hb dX1_better_27 ?_
  refine lv_iload_n hx hb dX1_better_28 rfl (lv_at hl 3 rfl) ?_
  refine cd_i2l hx hb (cd_bR32 hq9 (by decide)) dX1_better_29 ?_
  refine lv_aload_n hx hb dX1_better_30 rfl (lv_at hl 1 rfl) ?_
  refine cd_get1 (v := .long (cd_L by_)) hx hb hts hown hK hP 0 rfl 11 (by decide) q201 rfl rfl dX1_better_31 ?_
  refine cd_lmul hx hb dX1_better_34 ?_
  refine cd_ladd hx hb dX1_better_35 ?_
  refine lv_aload_n hx hb dX1_better_36 rfl (lv_at hl 1 rfl) ?_
  refine cd_get1 (v := .long (cd_L cu)) hx hb hts hown hK hP 0 rfl 8 (by decide) q198 rfl rfl dX1_better_37 ?_
  refine cd_lmul hx hb dX1_better_40 ?_
  refine lv_lstore (lv' := [(5, .long (cd_L (((pp * bx) + (qq * by_)) * cu))), (3, .long (cd_L (((pp * cx) + (qq * cy)) * bu))), (0, .ref o0), (1, .int (cd_I pp)), (2, .int (cd_I qq))]) hx hb dX1_better_41 hl (by decide) rfl (fun ls hl => ?_)
  refine lv_lload_n hx hb dX1_better_43 rfl (lv_at hl 1 rfl) ?_
  refine lv_lload hx hb dX1_better_44 (lv_at hl 0 rfl) ?_
  refine cd_lcmp_eq (tgt := 63) hx hb (cd_bR64 (cd_bM (cd_bA (cd_bM hp9 hx1) (cd_bM hq9 hy1)) hbu) (by decide)) (cd_bR64 (cd_bM (cd_bA (cd_bM hp9 hbx) (cd_bM hq9 hby)) hw1) (by decide)) dX1_better_46 dX1_better_47 (by decide) (fun c_1 => ?_) (fun c_1 => ?_)
  · refine lv_aload_n hx hb dX1_better_63 rfl (lv_at hl 2 rfl) ?_
    refine cd_get1 (v := .long (cd_L cx)) hx hb hts hown hK hP 0 rfl 6 (by decide) q196 rfl rfl dX1_better_64 ?_
    refine lv_aload_n hx hb dX1_better_67 rfl (lv_at hl 2 rfl) ?_
    refine cd_get1 (v := .long (cd_L bu)) hx hb hts hown hK hP 0 rfl 12 (by decide) q202 rfl rfl dX1_better_68 ?_
    refine cd_lmul hx hb dX1_better_71 ?_
    refine lv_aload_n hx hb dX1_better_72 rfl (lv_at hl 2 rfl) ?_
    refine cd_get1 (v := .long (cd_L bx)) hx hb hts hown hK hP 0 rfl 10 (by decide) q200 rfl rfl dX1_better_73 ?_
    refine lv_aload_n hx hb dX1_better_76 rfl (lv_at hl 2 rfl) ?_
    refine cd_get1 (v := .long (cd_L cu)) hx hb hts hown hK hP 0 rfl 8 (by decide) q198 rfl rfl dX1_better_77 ?_
    refine cd_lmul hx hb dX1_better_80 ?_
    refine cd_lcmp_eq (tgt := 113) hx hb (cd_bR64 (cd_bM hx1 hbu) (by decide)) (cd_bR64 (cd_bM hbx hw1) (by decide)) dX1_better_81 dX1_better_82 (by decide) (fun c_2 => ?_) (fun c_2 => ?_)
    · refine lv_aload_n hx hb dX1_better_113 rfl (lv_at hl 2 rfl) ?_
      refine cd_get1 (v := .long (cd_L cy)) hx hb hts hown hK hP 0 rfl 7 (by decide) q197 rfl rfl dX1_better_114 ?_
      refine lv_aload_n hx hb dX1_better_117 rfl (lv_at hl 2 rfl) ?_
      refine cd_get1 (v := .long (cd_L bu)) hx hb hts hown hK hP 0 rfl 12 (by decide) q202 rfl rfl dX1_better_118 ?_
      refine cd_lmul hx hb dX1_better_121 ?_
      refine lv_aload_n hx hb dX1_better_122 rfl (lv_at hl 2 rfl) ?_
      refine cd_get1 (v := .long (cd_L by_)) hx hb hts hown hK hP 0 rfl 11 (by decide) q201 rfl rfl dX1_better_123 ?_
      refine lv_aload_n hx hb dX1_better_126 rfl (lv_at hl 2 rfl) ?_
      refine cd_get1 (v := .long (cd_L cu)) hx hb hts hown hK hP 0 rfl 8 (by decide) q198 rfl rfl dX1_better_127 ?_
      refine cd_lmul hx hb dX1_better_130 ?_
      refine cd_lcmp_ge (tgt := 139) hx hb (cd_bR64 (cd_bM hy1 hbu) (by decide)) (cd_bR64 (cd_bM hby hw1) (by decide)) dX1_better_131 dX1_better_132 (by decide) (fun c_3 => ?_) (fun c_3 => ?_)
      · refine lv_iconst (v := cd_I 0) hx hb dX1_better_139 rfl ?_
        exact W.zret (v := cd_I 0) hx hb hr rfl (fun t ht hW => ⟨⟨cd_I 0, (), rfl, Or.inr ⟨rfl, by unfold cd_btr; omega⟩, trivial⟩, hS.F ht⟩) hS.2.2 dX1_better_140
      · refine lv_iconst (v := cd_I 1) hx hb dX1_better_135 rfl ?_
        refine lv_goto (tgt := 140) hx hb dX1_better_136 (by decide) ?_
        exact W.zret (v := cd_I 1) hx hb hr rfl (fun t ht hW => ⟨⟨cd_I 1, (), rfl, Or.inl ⟨rfl, by unfold cd_btr; omega⟩, trivial⟩, hS.F ht⟩) hS.2.2 dX1_better_140
    · refine lv_aload_n hx hb dX1_better_85 rfl (lv_at hl 2 rfl) ?_
      refine cd_get1 (v := .long (cd_L cx)) hx hb hts hown hK hP 0 rfl 6 (by decide) q196 rfl rfl dX1_better_86 ?_
      refine lv_aload_n hx hb dX1_better_89 rfl (lv_at hl 2 rfl) ?_
      refine cd_get1 (v := .long (cd_L bu)) hx hb hts hown hK hP 0 rfl 12 (by decide) q202 rfl rfl dX1_better_90 ?_
      refine cd_lmul hx hb dX1_better_93 ?_
      refine lv_aload_n hx hb dX1_better_94 rfl (lv_at hl 2 rfl) ?_
      refine cd_get1 (v := .long (cd_L bx)) hx hb hts hown hK hP 0 rfl 10 (by decide) q200 rfl rfl dX1_better_95 ?_
      refine lv_aload_n hx hb dX1_better_98 rfl (lv_at hl 2 rfl) ?_
      refine cd_get1 (v := .long (cd_L cu)) hx hb hts hown hK hP 0 rfl 8 (by decide) q198 rfl rfl dX1_better_99 ?_
      refine cd_lmul hx hb dX1_better_102 ?_
      refine cd_lcmp_ge (tgt := 111) hx hb (cd_bR64 (cd_bM hx1 hbu) (by decide)) (cd_bR64 (cd_bM hbx hw1) (by decide)) dX1_better_103 dX1_better_104 (by decide) (fun c_4 => ?_) (fun c_4 => ?_)
      · refine lv_iconst (v := cd_I 0) hx hb dX1_better_111 rfl ?_
        exact W.zret (v := cd_I 0) hx hb hr rfl (fun t ht hW => ⟨⟨cd_I 0, (), rfl, Or.inr ⟨rfl, by unfold cd_btr; omega⟩, trivial⟩, hS.F ht⟩) hS.2.2 dX1_better_112
      · refine lv_iconst (v := cd_I 1) hx hb dX1_better_107 rfl ?_
        refine lv_goto (tgt := 112) hx hb dX1_better_108 (by decide) ?_
        exact W.zret (v := cd_I 1) hx hb hr rfl (fun t ht hW => ⟨⟨cd_I 1, (), rfl, Or.inl ⟨rfl, by unfold cd_btr; omega⟩, trivial⟩, hS.F ht⟩) hS.2.2 dX1_better_112
  · refine lv_lload_n hx hb dX1_better_50 rfl (lv_at hl 1 rfl) ?_
    refine lv_lload hx hb dX1_better_51 (lv_at hl 0 rfl) ?_
    refine cd_lcmp_le (tgt := 61) hx hb (cd_bR64 (cd_bM (cd_bA (cd_bM hp9 hx1) (cd_bM hq9 hy1)) hbu) (by decide)) (cd_bR64 (cd_bM (cd_bA (cd_bM hp9 hbx) (cd_bM hq9 hby)) hw1) (by decide)) dX1_better_53 dX1_better_54 (by decide) (fun c_5 => ?_) (fun c_5 => ?_)
    · refine lv_iconst (v := cd_I 0) hx hb dX1_better_61 rfl ?_
      exact W.zret (v := cd_I 0) hx hb hr rfl (fun t ht hW => ⟨⟨cd_I 0, (), rfl, Or.inr ⟨rfl, by unfold cd_btr; omega⟩, trivial⟩, hS.F ht⟩) hS.2.2 dX1_better_62
    · refine lv_iconst (v := cd_I 1) hx hb dX1_better_57 rfl ?_
      refine lv_goto (tgt := 62) hx hb dX1_better_58 (by decide) ?_
      exact W.zret (v := cd_I 1) hx hb hr rfl (fun t ht hW => ⟨⟨cd_I 1, (), rfl, Or.inl ⟨rfl, by unfold cd_btr; omega⟩, trivial⟩, hS.F ht⟩) hS.2.2 dX1_better_62

set_option maxHeartbeats 4000000 in
set_option maxRecDepth 100000 in
/-- divisor: the greatest common divisor -/
theorem xm_divisor (l : Launch) (z d : Int) (hz : cd_b 40000 z) (hd : cd_b 40000 d) (hd0 : 0 < d) : Met l yX1_divisor (ws_ yX1_divisor cX1_divisor 11 (some .long)) ({ frames := 0, cells := 0, slots := 0, locals := 0 }) (va_Pc [.long (cd_L z), .long (cd_L d)] (fun _ => True)) (va_Ql (fun (r : Int64) (_ : Unit) => r = cd_L ((Nat.gcd z.natAbs d.natAbs : Nat) : Int)) (fun _ _ => True) (fun _ => False)) 0 0 (fun _ => False) := by
  refine Met.ofW (cc := cX1_divisor) (maxL := 11) (ret := (some .long)) (by decide) rfl ?_
  intro p e s m args below meth c s₁ B hml hv
  obtain ⟨rfl, -⟩ := hv
  have hx := B.exec
  have hb := B.bytes
  have hr := B.returns
  have hts := atoms_spec (ws := (ws_ yX1_divisor cX1_divisor 11 (some .long))) B.pre
  have hts : ∀ w ∈ lw_all, w.before _ s = true := fun w h => hts w (List.mem_cons_of_mem _ h)
  have hown : s.vm.findClass RX1 = some m.cls := findClass_of_methodNamed B.named
  have hlocks := B.notSynchronized
  have hS : va_S (fun _ => False) s.heap s.heap [] := va_S.rf
  have hl := lv_entry ([.long (cd_L z), .long (cd_L d)]) (n := 11) (Nat.le_of_ble_eq_true rfl)
  rw [lg_entry_eq]
  generalize (lg_sl ([.long (cd_L z), .long (cd_L d)]) ++ List.replicate (11 - (lg_sl ([.long (cd_L z), .long (cd_L d)])).length) Slot.unset).toArray = ls at hl ⊢
  have hl : lv_has ls 11 [(0, .long (cd_L z)), (2, .long (cd_L d))] := hl
  have loop : ∀ (f i u v : Nat), i ≤ 100 → 100 + 1 ≤ i + f → cd_gi i u v → Nat.gcd v u = Nat.gcd z.natAbs d.natAbs → ∀ ls : Array Slot, lv_has ls 11 [(8, .int (cd_I ((i : Nat) : Int))), (6, .long (cd_L ((u : Nat) : Int))), (4, .long (cd_L ((v : Nat) : Int))), (0, .long (cd_L z)), (2, .long (cd_L d))] → W p l e (headSpec (ws_ yX1_divisor cX1_divisor 11 (some .long)) ({ frames := 0, cells := 0, slots := 0, locals := 0 })).room s m ([.long (cd_L z), .long (cd_L d)] : List Value).toArray below meth c s.heap [] 0 0 (MQ below (va_Ql (fun (r : Int64) (_ : Unit) => r = cd_L ((Nat.gcd z.natAbs d.natAbs : Nat) : Int)) (fun _ _ => True) (fun _ => False)) ([.long (cd_L z), .long (cd_L d)] : List Value).toArray s 0 0 (fun _ => False)) (F0 m 20 ls []) := by
    intro f
    induction f with
    | zero =>
      intro i u v h1 h2
      exact absurd h2 (by omega)
    | succ f ih =>
      intro i u v hi hf hg hG ls hl
      have hg1 := hg
      obtain ⟨g2, g3, g4⟩ := hg1
      refine lv_iload hx hb dX1_divisor_20 (lv_at hl 0 rfl) ?_
      refine lv_bipush (v := cd_I 100) hx hb dX1_divisor_22 (by decide) ?_
      refine cd_icmp_ge (tgt := 55) hx hb ⟨by omega, by omega⟩ ⟨by decide, by decide⟩ dX1_divisor_24 (by decide) (fun c_1 => ?_) (fun c_1 => ?_)
      · refine lv_lload hx hb dX1_divisor_55 (lv_at hl 2 rfl) ?_
        have hu0 : u = 0 := Nat.eq_zero_of_not_pos (fun q => by have := cd_gi_end hg q; omega)
        exact W.lret (v := cd_L ((v : Nat) : Int)) hx hb hr (fun t ht hW => ⟨⟨cd_L ((v : Nat) : Int), (), rfl, by rw [← hG, hu0, Nat.gcd_zero_right], trivial⟩, hS.F ht⟩) hS.2.2 dX1_divisor_57
      · refine lv_lload hx hb dX1_divisor_27 (lv_at hl 1 rfl) ?_
        refine lv_lconst (v := cd_L 0) hx hb dX1_divisor_29 (by decide) ?_
        refine cd_lcmp_le (tgt := 55) hx hb ⟨by omega, by omega⟩ ⟨by decide, by decide⟩ dX1_divisor_30 dX1_divisor_31 (by decide) (fun c_2 => ?_) (fun c_2 => ?_)
        · refine lv_lload hx hb dX1_divisor_55 (lv_at hl 2 rfl) ?_
          have hu0 : u = 0 := by omega
          exact W.lret (v := cd_L ((v : Nat) : Int)) hx hb hr (fun t ht hW => ⟨⟨cd_L ((v : Nat) : Int), (), rfl, by rw [← hG, hu0, Nat.gcd_zero_right], trivial⟩, hS.F ht⟩) hS.2.2 dX1_divisor_57
        · refine lv_lload hx hb dX1_divisor_34 (lv_at hl 2 rfl) ?_
          refine lv_lload hx hb dX1_divisor_36 (lv_at hl 1 rfl) ?_
          refine cd_lrem hx hb ⟨by omega, by omega⟩ ⟨by omega, by omega⟩ (by omega) (by omega) dX1_divisor_38 ?_
          refine cd_toL (y := ((v % u : Nat) : Int)) (by omega) ?_
          refine lv_lstore (lv' := [(9, .long (cd_L ((v % u : Nat) : Int))), (8, .int (cd_I ((i : Nat) : Int))), (6, .long (cd_L ((u : Nat) : Int))), (4, .long (cd_L ((v : Nat) : Int))), (0, .long (cd_L z)), (2, .long (cd_L d))]) hx hb dX1_divisor_39 hl (by decide) rfl (fun ls hl => ?_)
          refine lv_lload hx hb dX1_divisor_41 (lv_at hl 2 rfl) ?_
          refine lv_lstore (lv' := [(4, .long (cd_L ((u : Nat) : Int))), (9, .long (cd_L ((v % u : Nat) : Int))), (8, .int (cd_I ((i : Nat) : Int))), (6, .long (cd_L ((u : Nat) : Int))), (0, .long (cd_L z)), (2, .long (cd_L d))]) hx hb dX1_divisor_43 hl (by decide) rfl (fun ls hl => ?_)
          refine lv_lload hx hb dX1_divisor_45 (lv_at hl 1 rfl) ?_
          refine lv_lstore (lv' := [(6, .long (cd_L ((v % u : Nat) : Int))), (4, .long (cd_L ((u : Nat) : Int))), (9, .long (cd_L ((v % u : Nat) : Int))), (8, .int (cd_I ((i : Nat) : Int))), (0, .long (cd_L z)), (2, .long (cd_L d))]) hx hb dX1_divisor_47 hl (by decide) rfl (fun ls hl => ?_)
          refine cd_iinc (x := ((i : Nat) : Int)) (lv' := [(8, .int (cd_I (((i : Nat) : Int) + 1))), (6, .long (cd_L ((v % u : Nat) : Int))), (4, .long (cd_L ((u : Nat) : Int))), (9, .long (cd_L ((v % u : Nat) : Int))), (0, .long (cd_L z)), (2, .long (cd_L d))]) hx hb dX1_divisor_49 hl (k := 3) rfl (by decide) rfl (fun ls hl => ?_)
          refine lv_goto (tgt := 20) hx hb dX1_divisor_52 (by decide) ?_
          exact ih (i + 1) (v % u) u (by omega) (by omega) (cd_gi_step hg (by omega)) ((cd_gcd_step u v).trans hG) ls (lv_sub hl [0, 1, 2, 4, 5] rfl)
  have hz1 := hz.1
  have hz2 := hz.2
  have hd1 := hd.1
  have hd2 := hd.2
  refine lv_lload_n hx hb dX1_divisor_0 rfl (lv_at hl 0 rfl) ?_
  refine lv_lconst (v := cd_L 0) hx hb dX1_divisor_1 (by decide) ?_
  refine cd_lcmp_ge (tgt := 11) hx hb (cd_bR64 hz (by decide)) ⟨by decide, by decide⟩ dX1_divisor_2 dX1_divisor_3 (by decide) (fun c_3 => ?_) (fun c_3 => ?_)
  · refine lv_lload_n hx hb dX1_divisor_11 rfl (lv_at hl 0 rfl) ?_
    refine cd_toL (y := ((z.natAbs : Nat) : Int)) (by omega) ?_
    refine lv_lstore (lv' := [(4, .long (cd_L ((z.natAbs : Nat) : Int))), (0, .long (cd_L z)), (2, .long (cd_L d))]) hx hb dX1_divisor_12 hl (by decide) rfl (fun ls hl => ?_)
    refine lv_lload_n hx hb dX1_divisor_14 rfl (lv_at hl 2 rfl) ?_
    refine cd_toL (y := ((d.natAbs : Nat) : Int)) (by omega) ?_
    refine lv_lstore (lv' := [(6, .long (cd_L ((d.natAbs : Nat) : Int))), (4, .long (cd_L ((z.natAbs : Nat) : Int))), (0, .long (cd_L z)), (2, .long (cd_L d))]) hx hb dX1_divisor_15 hl (by decide) rfl (fun ls hl => ?_)
    refine lv_iconst (v := cd_I 0) hx hb dX1_divisor_17 rfl ?_
    refine lv_istore (lv' := [(8, .int (cd_I 0)), (6, .long (cd_L ((d.natAbs : Nat) : Int))), (4, .long (cd_L ((z.natAbs : Nat) : Int))), (0, .long (cd_L z)), (2, .long (cd_L d))]) hx hb dX1_divisor_18 hl (by decide) rfl (fun ls hl => ?_)
    exact loop 101 0 d.natAbs z.natAbs (by decide) (by decide) ⟨by omega, by omega, Or.inl rfl⟩ (rfl) ls (lv_sub hl [0, 1, 2, 3, 4] rfl)
  · refine lv_lload_n hx hb dX1_divisor_6 rfl (lv_at hl 0 rfl) ?_
    refine cd_lneg hx hb dX1_divisor_7 ?_
    refine lv_goto (tgt := 12) hx hb dX1_divisor_8 (by decide) ?_
    refine cd_toL (y := ((z.natAbs : Nat) : Int)) (by omega) ?_
    refine lv_lstore (lv' := [(4, .long (cd_L ((z.natAbs : Nat) : Int))), (0, .long (cd_L z)), (2, .long (cd_L d))]) hx hb dX1_divisor_12 hl (by decide) rfl (fun ls hl => ?_)
    refine lv_lload_n hx hb dX1_divisor_14 rfl (lv_at hl 2 rfl) ?_
    refine cd_toL (y := ((d.natAbs : Nat) : Int)) (by omega) ?_
    refine lv_lstore (lv' := [(6, .long (cd_L ((d.natAbs : Nat) : Int))), (4, .long (cd_L ((z.natAbs : Nat) : Int))), (0, .long (cd_L z)), (2, .long (cd_L d))]) hx hb dX1_divisor_15 hl (by decide) rfl (fun ls hl => ?_)
    refine lv_iconst (v := cd_I 0) hx hb dX1_divisor_17 rfl ?_
    refine lv_istore (lv' := [(8, .int (cd_I 0)), (6, .long (cd_L ((d.natAbs : Nat) : Int))), (4, .long (cd_L ((z.natAbs : Nat) : Int))), (0, .long (cd_L z)), (2, .long (cd_L d))]) hx hb dX1_divisor_18 hl (by decide) rfl (fun ls hl => ?_)
    exact loop 101 0 d.natAbs z.natAbs (by decide) (by decide) ⟨by omega, by omega, Or.inl rfl⟩ (rfl) ls (lv_sub hl [0, 1, 2, 3, 4] rfl)

set_option maxHeartbeats 4000000 in
set_option maxRecDepth 100000 in
/-- top -/
theorem xm_top (l : Launch) (dC : Nat → ClassId) (dI : Nat → Nat → Nat) (dA : ClassId) (o0 o1 o2 o3 o4 h lv : Nat) (fa fb fc : Nat → Int) (fl : Nat → Nat) (cx cy cu kn bx by_ bu ap aq : Int) (z : Int) (hz : cd_R32 z) (hap : cd_b 9 ap) (haq : cd_b 9 aq) : Met l yX1_top (ws_ yX1_top cX1_top 2 (some .long)) ({ frames := 0, cells := 0, slots := 0, locals := 0 }) (va_Pc [.ref o0, .int (cd_I z)] (cd_W0 (dC, dI) vwCl [(dA, .int)] (cd_M dA o0 o1 o2 o3 o4 h lv fa fb fc fl cx cy cu kn bx by_ bu ap aq))) (va_Ql (fun (r : Int64) (_ : Unit) => r = cd_L (if z = 1 then bx else if z = 2 then by_ else ap * bx + aq * by_)) (fun _ _ => True) (fun _ => False)) 0 0 (fun _ => False) := by
  refine Met.ofW (cc := cX1_top) (maxL := 2) (ret := (some .long)) (by decide) rfl ?_
  intro p e s m args below meth c s₁ B hml hv
  obtain ⟨rfl, hP, hK⟩ := hv
  have hx := B.exec
  have hb := B.bytes
  have hr := B.returns
  have hts := atoms_spec (ws := (ws_ yX1_top cX1_top 2 (some .long))) B.pre
  have hts : ∀ w ∈ lw_all, w.before _ s = true := fun w h => hts w (List.mem_cons_of_mem _ h)
  have hown : s.vm.findClass RX1 = some m.cls := findClass_of_methodNamed B.named
  have hlocks := B.notSynchronized
  have hS : va_S (fun _ => False) s.heap s.heap [] := va_S.rf
  have hl := lv_entry ([.ref o0, .int (cd_I z)]) (n := 2) (Nat.le_of_ble_eq_true rfl)
  rw [lg_entry_eq]
  generalize (lg_sl ([.ref o0, .int (cd_I z)]) ++ List.replicate (2 - (lg_sl ([.ref o0, .int (cd_I z)])).length) Slot.unset).toArray = ls at hl ⊢
  have hl : lv_has ls 2 [(0, .ref o0), (1, .int (cd_I z))] := hl
  have hP : va_P (dC, dI) vwCl [(o0, .inr (1, [.int (cd_I ((h : Nat) : Int)), .int (cd_I ((lv : Nat) : Int)), .ref o1, .ref o2, .ref o3, .ref o4, .long (cd_L cx), .long (cd_L cy), .long (cd_L cu), .int (cd_I kn), .long (cd_L bx), .long (cd_L by_), .long (cd_L bu), .int (cd_I ap), .int (cd_I aq)])), (o1, .inl (dA, 8, .inl (cd_n fl))), (o2, .inl (dA, 14, .inl (cd_c fa))), (o3, .inl (dA, 14, .inl (cd_c fb))), (o4, .inl (dA, 14, .inl (cd_c fc)))] s.heap := hP
  refine lv_iload_n hx hb dX1_top_0 rfl (lv_at hl 1 rfl) ?_
  refine lv_iconst (v := cd_I 1) hx hb dX1_top_1 rfl ?_
  refine cd_icmp_ne (tgt := 12) hx hb hz ⟨by decide, by decide⟩ dX1_top_2 (by decide) (fun c_1 => ?_) (fun c_1 => ?_)
  · refine lv_iload_n hx hb dX1_top_12 rfl (lv_at hl 1 rfl) ?_
    refine lv_iconst (v := cd_I 2) hx hb dX1_top_13 rfl ?_
    refine cd_icmp_ne (tgt := 24) hx hb hz ⟨by decide, by decide⟩ dX1_top_14 (by decide) (fun c_2 => ?_) (fun c_2 => ?_)
    · refine lv_aload_n hx hb dX1_top_24 rfl (lv_at hl 0 rfl) ?_
      refine cd_get1 (v := .int (cd_I ap)) hx hb hts hown hK hP 0 rfl 13 (by decide) q203 rfl rfl dX1_top_25 ?_
      refine cd_i2l hx hb (cd_bR32 hap (by decide)) dX1_top_28 ?_
      refine lv_aload_n hx hb dX1_top_29 rfl (lv_at hl 0 rfl) ?_
      refine cd_get1 (v := .long (cd_L bx)) hx hb hts hown hK hP 0 rfl 10 (by decide) q200 rfl rfl dX1_top_30 ?_
      refine cd_lmul hx hb dX1_top_33 ?_
      refine lv_aload_n hx hb dX1_top_34 rfl (lv_at hl 0 rfl) ?_
      refine cd_get1 (v := .int (cd_I aq)) hx hb hts hown hK hP 0 rfl 14 (by decide) q204 rfl rfl dX1_top_35 ?_
      refine cd_i2l hx hb (cd_bR32 haq (by decide)) dX1_top_38 ?_
      refine lv_aload_n hx hb dX1_top_39 rfl (lv_at hl 0 rfl) ?_
      refine cd_get1 (v := .long (cd_L by_)) hx hb hts hown hK hP 0 rfl 11 (by decide) q201 rfl rfl dX1_top_40 ?_
      refine cd_lmul hx hb dX1_top_43 ?_
      refine cd_ladd hx hb dX1_top_44 ?_
      exact W.lret (v := cd_L ((ap * bx) + (aq * by_))) hx hb hr (fun t ht hW => ⟨⟨cd_L ((ap * bx) + (aq * by_)), (), rfl, by simp [*], trivial⟩, hS.F ht⟩) hS.2.2 dX1_top_45
    · refine lv_aload_n hx hb dX1_top_17 rfl (lv_at hl 0 rfl) ?_
      refine cd_get1 (v := .long (cd_L by_)) hx hb hts hown hK hP 0 rfl 11 (by decide) q201 rfl rfl dX1_top_18 ?_
      refine lv_goto (tgt := 45) hx hb dX1_top_21 (by decide) ?_
      exact W.lret (v := cd_L by_) hx hb hr (fun t ht hW => ⟨⟨cd_L by_, (), rfl, by simp [*], trivial⟩, hS.F ht⟩) hS.2.2 dX1_top_45
  · refine lv_aload_n hx hb dX1_top_5 rfl (lv_at hl 0 rfl) ?_
    refine cd_get1 (v := .long (cd_L bx)) hx hb hts hown hK hP 0 rfl 10 (by decide) q200 rfl rfl dX1_top_6 ?_
    refine lv_goto (tgt := 45) hx hb dX1_top_9 (by decide) ?_
    exact W.lret (v := cd_L bx) hx hb hr (fun t ht hW => ⟨⟨cd_L bx, (), rfl, by simp [*], trivial⟩, hS.F ht⟩) hS.2.2 dX1_top_45
end
section
/-! CornerDeskModel: the pairs of lines one after the other -/
def cd_cv (a b c : Nat → Int) (T : Nat → Prop) (i j : Nat) (X Y W : Int) : Prop := ∃ i' j', T i' ∧ T j' ∧ (j' < i' ∧ (i' < i ∨ (i' = i ∧ j' < j))) ∧ cd_cr a b c i' j' X Y W
theorem cd_cv_step {a b c : Nat → Int} {T : Nat → Prop} {i j : Nat} {Pr : Int → Int → Int → Prop} (h : ∀ X Y W : Int, cd_cv a b c T i j X Y W → cd_feas a b c T X Y W → Pr X Y W) (g : T i → T j → ∀ X Y W : Int, cd_cr a b c i j X Y W → cd_feas a b c T X Y W → Pr X Y W) : ∀ X Y W : Int, cd_cv a b c T i (j + 1) X Y W → cd_feas a b c T X Y W → Pr X Y W := by
  intro X Y W hv hF
  obtain ⟨i', j', h1, h2, ⟨h3, h4⟩, h5⟩ := hv
  rcases (show (i' < i ∨ (i' = i ∧ j' < j)) ∨ (i' = i ∧ j' = j) by omega) with q | ⟨q1, q2⟩
  · exact h X Y W ⟨i', j', h1, h2, ⟨h3, q⟩, h5⟩ hF
  · subst q1 q2
    exact g h1 h2 X Y W h5 hF
theorem cd_cv_row {a b c : Nat → Int} {T : Nat → Prop} {i : Nat} {X Y W : Int} (h : cd_cv a b c T (i + 1) 0 X Y W) : cd_cv a b c T i i X Y W := by
  obtain ⟨i', j', h1, h2, ⟨h3, h4⟩, h5⟩ := h
  exact ⟨i', j', h1, h2, ⟨h3, by omega⟩, h5⟩
theorem cd_cv_0 {a b c : Nat → Int} {T : Nat → Prop} {X Y W : Int} (h : cd_cv a b c T 0 0 X Y W) : False := by
  obtain ⟨i', j', h1, h2, ⟨h3, h4⟩, h5⟩ := h
  omega
theorem cd_cv_all {a b c : Nat → Int} {T : Nat → Prop} {X Y W : Int} (hT : ∀ i, T i → i < 14) (h : cd_corn a b c T X Y W) : cd_cv a b c T 13 13 X Y W := by
  obtain ⟨i, j, hi, hj, hc⟩ := h
  have h1 := hT i hi
  have h2 := hT j hj
  rcases Nat.lt_trichotomy i j with q | q | q
  · exact ⟨j, i, hj, hi, ⟨q, by omega⟩, cd_cr_swap hc⟩
  · subst q
    obtain ⟨h0, ⟨k1, -, -⟩ | ⟨k1, -, -⟩⟩ := hc
    · omega
    · omega
  · exact ⟨i, j, hi, hj, ⟨q, by omega⟩, hc⟩
theorem cd_asym {p q X Y W X' Y' W' : Int} (h : cd_btr p q X Y W X' Y' W') : ¬ cd_btr p q X' Y' W' X Y W := by
  unfold cd_btr at h ⊢
  revert h
  generalize (p * X + q * Y) * W' = u1
  generalize (p * X' + q * Y') * W = u2
  generalize X * W' = u3
  generalize X' * W = u4
  generalize Y * W' = u5
  generalize Y' * W = u6
  intro h
  omega
def cd_si (a b c : Nat → Int) (T : Nat → Prop) (p q : Int) (i j : Nat) (an bx by_ bu : Int) : Prop := (an = 0 ∧ ∀ X Y W : Int, cd_cv a b c T i j X Y W → cd_feas a b c T X Y W → False) ∨ (an = 1 ∧ cd_corn a b c T bx by_ bu ∧ cd_feas a b c T bx by_ bu ∧ ∀ X Y W : Int, cd_cv a b c T i j X Y W → cd_feas a b c T X Y W → ¬ cd_btr p q X Y W bx by_ bu)
theorem cd_si_skip {a b c : Nat → Int} {T : Nat → Prop} {p q : Int} {i j : Nat} {an bx by_ bu : Int} (h : cd_si a b c T p q i j an bx by_ bu) (g : T i → T j → ∀ X Y W : Int, cd_cr a b c i j X Y W → cd_feas a b c T X Y W → False) : cd_si a b c T p q i (j + 1) an bx by_ bu := by
  rcases h with ⟨h1, h2⟩ | ⟨h1, h2, h3, h4⟩
  · exact Or.inl ⟨h1, cd_cv_step h2 g⟩
  · exact Or.inr ⟨h1, h2, h3, cd_cv_step h4 (fun q1 q2 X Y W q3 q4 => (g q1 q2 X Y W q3 q4).elim)⟩
theorem cd_si_row {a b c : Nat → Int} {T : Nat → Prop} {p q : Int} {i : Nat} {an bx by_ bu : Int} (h : cd_si a b c T p q i i an bx by_ bu) : cd_si a b c T p q (i + 1) 0 an bx by_ bu := by
  rcases h with ⟨h1, h2⟩ | ⟨h1, h2, h3, h4⟩
  · exact Or.inl ⟨h1, fun X Y W q => h2 X Y W (cd_cv_row q)⟩
  · exact Or.inr ⟨h1, h2, h3, fun X Y W q => h4 X Y W (cd_cv_row q)⟩
theorem cd_cornM_b {a b c : Nat → Int} {h : Nat} {wo X Y W : Int} (hok : cd_okM a b c h) (hc : cd_corn a b c (cd_T h wo) X Y W) : cd_b 1782 X ∧ cd_b 1782 Y ∧ cd_b 162 W ∧ 0 < W := by
  obtain ⟨i, j, hi, hj, hc⟩ := hc
  have h1 := hok.2 i hi.1 hi.2.2
  have h2 := hok.2 j hj.1 hj.2.2
  exact cd_cr_b hc h1.1 h1.2.1 h1.2.2 h2.1 h2.2.1 h2.2.2
/-- the best of all corners that are allowed -/
def cd_sOK (a b c : Nat → Int) (T : Nat → Prop) (p q bx by_ bu : Int) : Prop := cd_corn a b c T bx by_ bu ∧ cd_feas a b c T bx by_ bu ∧ ∀ X Y W : Int, cd_corn a b c T X Y W → cd_feas a b c T X Y W → ¬ cd_btr p q X Y W bx by_ bu
def cd_sNo (a b c : Nat → Int) (T : Nat → Prop) : Prop := ∀ X Y W : Int, cd_corn a b c T X Y W → ¬ cd_feas a b c T X Y W
def cd_spM (a b c : Nat → Int) (h k : Nat) : Prop := ∀ X Y W : Int, cd_corn a b c (cd_T h (k : Int)) X Y W → cd_feas a b c (cd_T h (k : Int)) X Y W → cd_sat (a k) (b k) (c k) X Y W
set_option maxHeartbeats 4000000 in
set_option maxRecDepth 100000 in
/-- search: the best of all corners -/
theorem xm_search (l : Launch) (dC : Nat → ClassId) (dI : Nat → Nat → Nat) (dA : ClassId) (o0 o1 o2 o3 o4 h lv : Nat) (fa fb fc : Nat → Int) (fl : Nat → Nat) (cx cy cu kn bx by_ bu ap aq : Int) (sz : Nat) (pp qq : Int) (hp9 : cd_b 9 pp) (hq9 : cd_b 9 qq) (hok : cd_okM fa fb fc h) : Met l yX1_search (ws_ yX1_search cX1_search 6 (some .boolean)) ({ frames := 2, cells := 0, slots := 0, locals := 44 }) (va_Pc [.ref o0, .int (cd_I pp), .int (cd_I qq)] (cd_W1 (dC, dI) vwCl [(dA, .int)] (cd_M dA o0 o1 o2 o3 o4 h lv fa fb fc fl cx cy cu kn bx by_ bu ap aq) sz)) (va_Qi (fun (r : Int32) (u : Int × Int × Int × Int × Int × Int) => (r = cd_I 1 ∧ cd_sOK fa fb fc (cd_T h (-1)) pp qq u.2.2.2.1 u.2.2.2.2.1 u.2.2.2.2.2) ∨ (r = cd_I 0 ∧ cd_sNo fa fb fc (cd_T h (-1)))) (cd_B (dC, dI) vwCl (va_A (cd_M dA o0 o1 o2 o3 o4 h lv fa fb fc fl cx cy cu kn bx by_ bu ap aq) sz) (fun u : Int × Int × Int × Int × Int × Int => (cd_M dA o0 o1 o2 o3 o4 h lv fa fb fc fl u.1 u.2.1 u.2.2.1 kn u.2.2.2.1 u.2.2.2.2.1 u.2.2.2.2.2 ap aq))) (va_A (cd_M dA o0 o1 o2 o3 o4 h lv fa fb fc fl cx cy cu kn bx by_ bu ap aq) sz)) 0 0 (va_A (cd_M dA o0 o1 o2 o3 o4 h lv fa fb fc fl cx cy cu kn bx by_ bu ap aq) sz) := by
  refine Met.ofW (cc := cX1_search) (maxL := 6) (ret := (some .boolean)) (by decide) rfl ?_
  intro p e s m args below meth c s₁ B hml hv
  obtain ⟨rfl, hsz, hP, hK, hD0⟩ := hv
  have hx := B.exec
  have hb := B.bytes
  have hr := B.returns
  have hts := atoms_spec (ws := (ws_ yX1_search cX1_search 6 (some .boolean))) B.pre
  have hts : ∀ w ∈ lw_all, w.before _ s = true := fun w h => hts w (List.mem_cons_of_mem _ h)
  have hown : s.vm.findClass RX1 = some m.cls := findClass_of_methodNamed B.named
  have hlocks := B.notSynchronized
  subst hsz
  have hD := hD0.self (sz := s.heap.size)
  generalize hAe : va_A (cd_M dA o0 o1 o2 o3 o4 h lv fa fb fc fl cx cy cu kn bx by_ bu ap aq) s.heap.size = A at hD ⊢
  have hA : ∀ q : Nat, s.heap.size ≤ q → A q := fun q h => by rw [← hAe]; exact Or.inr h
  have hS : va_S A s.heap s.heap [] := va_S.rf
  have hl := lv_entry ([.ref o0, .int (cd_I pp), .int (cd_I qq)]) (n := 6) (Nat.le_of_ble_eq_true rfl)
  rw [lg_entry_eq]
  generalize (lg_sl ([.ref o0, .int (cd_I pp), .int (cd_I qq)]) ++ List.replicate (6 - (lg_sl ([.ref o0, .int (cd_I pp), .int (cd_I qq)])).length) Slot.unset).toArray = ls at hl ⊢
  have hl : lv_has ls 6 [(0, .ref o0), (1, .int (cd_I pp)), (2, .int (cd_I qq))] := hl
  have hP : va_P (dC, dI) vwCl [(o0, .inr (1, [.int (cd_I ((h : Nat) : Int)), .int (cd_I ((lv : Nat) : Int)), .ref o1, .ref o2, .ref o3, .ref o4, .long (cd_L cx), .long (cd_L cy), .long (cd_L cu), .int (cd_I kn), .long (cd_L bx), .long (cd_L by_), .long (cd_L bu), .int (cd_I ap), .int (cd_I aq)])), (o1, .inl (dA, 8, .inl (cd_n fl))), (o2, .inl (dA, 14, .inl (cd_c fa))), (o3, .inl (dA, 14, .inl (cd_c fb))), (o4, .inl (dA, 14, .inl (cd_c fc)))] s.heap := hP
  have hD : va_D A [(o0, .inr (1, [.int (cd_I ((h : Nat) : Int)), .int (cd_I ((lv : Nat) : Int)), .ref o1, .ref o2, .ref o3, .ref o4, .long (cd_L cx), .long (cd_L cy), .long (cd_L cu), .int (cd_I kn), .long (cd_L bx), .long (cd_L by_), .long (cd_L bu), .int (cd_I ap), .int (cd_I aq)])), (o1, .inl (dA, 8, .inl (cd_n fl))), (o2, .inl (dA, 14, .inl (cd_c fa))), (o3, .inl (dA, 14, .inl (cd_c fb))), (o4, .inl (dA, 14, .inl (cd_c fc)))] := hD
  have hh10 : h ≤ 10 := hok.1
  have loop : ∀ (f i j : Nat) (an cx cy cu bx by_ bu : Int), i < 14 → j ≤ i → 210 ≤ 15 * i + j + f → cd_si fa fb fc (cd_T h (-1)) pp qq i j an bx by_ bu → ∀ (H : Heap) (locs : List Loc), va_P (dC, dI) vwCl (cd_M dA o0 o1 o2 o3 o4 h lv fa fb fc fl cx cy cu kn bx by_ bu ap aq) H → va_D A (cd_M dA o0 o1 o2 o3 o4 h lv fa fb fc fl cx cy cu kn bx by_ bu ap aq) → va_S A s.heap H locs → ∀ ls : Array Slot, lv_has ls 6 [(5, .int (cd_I ((j : Nat) : Int))), (4, .int (cd_I ((i : Nat) : Int))), (3, .int (cd_I an)), (0, .ref o0), (1, .int (cd_I pp)), (2, .int (cd_I qq))] → W p l e (headSpec (ws_ yX1_search cX1_search 6 (some .boolean)) ({ frames := 2, cells := 0, slots := 0, locals := 44 })).room s m ([.ref o0, .int (cd_I pp), .int (cd_I qq)] : List Value).toArray below meth c H locs 0 0 (MQ below (va_Qi (fun (r : Int32) (u : Int × Int × Int × Int × Int × Int) => (r = cd_I 1 ∧ cd_sOK fa fb fc (cd_T h (-1)) pp qq u.2.2.2.1 u.2.2.2.2.1 u.2.2.2.2.2) ∨ (r = cd_I 0 ∧ cd_sNo fa fb fc (cd_T h (-1)))) (cd_B (dC, dI) vwCl A (fun u : Int × Int × Int × Int × Int × Int => (cd_M dA o0 o1 o2 o3 o4 h lv fa fb fc fl u.1 u.2.1 u.2.2.1 kn u.2.2.2.1 u.2.2.2.2.1 u.2.2.2.2.2 ap aq))) A) ([.ref o0, .int (cd_I pp), .int (cd_I qq)] : List Value).toArray s 0 0 A) (F0 m 15 ls []) := by
    intro f
    induction f with
    | zero =>
      intro i j an cx cy cu bx by_ bu h1 h2 h3
      exact absurd h3 (by omega)
    | succ f ih =>
      intro i j an cx cy cu bx by_ bu hi hj hf hin H locs hP hD hS ls hl
      have hP : va_P (dC, dI) vwCl [(o0, .inr (1, [.int (cd_I ((h : Nat) : Int)), .int (cd_I ((lv : Nat) : Int)), .ref o1, .ref o2, .ref o3, .ref o4, .long (cd_L cx), .long (cd_L cy), .long (cd_L cu), .int (cd_I kn), .long (cd_L bx), .long (cd_L by_), .long (cd_L bu), .int (cd_I ap), .int (cd_I aq)])), (o1, .inl (dA, 8, .inl (cd_n fl))), (o2, .inl (dA, 14, .inl (cd_c fa))), (o3, .inl (dA, 14, .inl (cd_c fb))), (o4, .inl (dA, 14, .inl (cd_c fc)))] H := hP
      have hD : va_D A [(o0, .inr (1, [.int (cd_I ((h : Nat) : Int)), .int (cd_I ((lv : Nat) : Int)), .ref o1, .ref o2, .ref o3, .ref o4, .long (cd_L cx), .long (cd_L cy), .long (cd_L cu), .int (cd_I kn), .long (cd_L bx), .long (cd_L by_), .long (cd_L bu), .int (cd_I ap), .int (cd_I aq)])), (o1, .inl (dA, 8, .inl (cd_n fl))), (o2, .inl (dA, 14, .inl (cd_c fa))), (o3, .inl (dA, 14, .inl (cd_c fb))), (o4, .inl (dA, 14, .inl (cd_c fc)))] := hD
      refine lv_iload hx hb dX1_search_15 (lv_at hl 0 rfl) ?_
      refine lv_iload hx hb dX1_search_17 (lv_at hl 1 rfl) ?_
      refine cd_icmp_ge (tgt := 106) hx hb ⟨by omega, by omega⟩ ⟨by omega, by omega⟩ dX1_search_19 (by decide) (fun c_1 => ?_) (fun c_1 => ?_)
      · have hji : j = i := by omega
        rw [hji] at hin
        refine cd_iinc (x := ((i : Nat) : Int)) (lv' := [(4, .int (cd_I (((i : Nat) : Int) + 1))), (5, .int (cd_I ((j : Nat) : Int))), (3, .int (cd_I an)), (0, .ref o0), (1, .int (cd_I pp)), (2, .int (cd_I qq))]) hx hb dX1_search_106 hl (k := 1) rfl (by decide) rfl (fun ls hl => ?_)
        refine lv_goto (tgt := 5) hx hb dX1_search_109 (by decide) ?_
        refine lv_iload hx hb dX1_search_5 (lv_at hl 0 rfl) ?_
        refine lv_bipush (v := cd_I 14) hx hb dX1_search_7 (by decide) ?_
        refine cd_icmp_ge (tgt := 112) hx hb (cd_bR32 (cd_bA (show cd_b 100 ((i : Nat) : Int) from ⟨by omega, by omega⟩) (show cd_b 1 1 from ⟨by decide, by decide⟩)) (by decide)) ⟨by decide, by decide⟩ dX1_search_9 (by decide) (fun c_2 => ?_) (fun c_2 => ?_)
        · have hi13 : i = 13 := by omega
          rw [hi13] at hin
          rcases hin with ⟨rfl, hinv⟩ | ⟨rfl, hcb, hfb, hinv⟩
          · refine lv_iload_n hx hb dX1_search_112 rfl (lv_at hl 2 rfl) ?_
            exact W.zret (v := cd_I 0) hx hb hr rfl (fun t ht hW => ⟨⟨cd_I 0, (cx, cy, cu, bx, by_, bu), rfl, Or.inr ⟨rfl, fun X Y W q1 q2 => hinv X Y W (cd_cv_all (fun _ q => q.1) q1) q2⟩, ⟨by rw [ht]; exact hP, hD⟩⟩, hS.F ht⟩) hS.2.2 dX1_search_113
          · refine lv_iload_n hx hb dX1_search_112 rfl (lv_at hl 2 rfl) ?_
            exact W.zret (v := cd_I 1) hx hb hr rfl (fun t ht hW => ⟨⟨cd_I 1, (cx, cy, cu, bx, by_, bu), rfl, Or.inl ⟨rfl, hcb, hfb, fun X Y W q1 q2 => hinv X Y W (cd_cv_all (fun _ q => q.1) q1) q2⟩, ⟨by rw [ht]; exact hP, hD⟩⟩, hS.F ht⟩) hS.2.2 dX1_search_113
        · refine lv_iconst (v := cd_I 0) hx hb dX1_search_12 rfl ?_
          refine lv_istore (lv' := [(5, .int (cd_I 0)), (4, .int (cd_I (((i : Nat) : Int) + 1))), (3, .int (cd_I an)), (0, .ref o0), (1, .int (cd_I pp)), (2, .int (cd_I qq))]) hx hb dX1_search_13 hl (by decide) rfl (fun ls hl => ?_)
          exact ih (i + 1) 0 an cx cy cu bx by_ bu (by omega) (by omega) (by omega) (cd_si_row hin) H locs hP hD hS ls (lv_sub hl [0, 1, 2, 3, 4, 5] rfl)
      · refine lv_aload_n hx hb dX1_search_22 rfl (lv_at hl 3 rfl) ?_
        refine lv_iload hx hb dX1_search_23 (lv_at hl 1 rfl) ?_
        refine lv_iconst (v := cd_I (-1)) hx hb dX1_search_25 rfl ?_
        refine cd_call0i (va_runV (As := [.int (cd_I ((i : Nat) : Int)), .int (cd_I (-1))]) (rest := []) ⟨hx, hb, hml, hown, hts⟩ (xm_there l dC dI dA o0 o1 o2 o3 o4 h lv fa fb fc fl cx cy cu kn bx by_ bu ap aq i (-1) (by omega) ⟨by decide, by decide⟩ hok.1) (cwV 2 hts (lw_V q255 q257 qs10 q20 q258) rfl rfl rfl (by decide +kernel) ⟨Nat.le_of_ble_eq_true rfl, Nat.le_of_ble_eq_true rfl⟩) ⟨cd_bl0, va_recv hK hP (ci := 1) (q0 := 0) rfl rfl, cd_pr0 hP hK⟩ rfl rfl hl.1 rfl (lv_room (Nat.le_of_ble_eq_true rfl)) dX1_search_26 ⟨Nat.le_of_ble_eq_true rfl, Nat.le_of_ble_eq_true rfl⟩) hP hS (fun r H locs hq hP hS => ?_)
        rcases hq with ⟨rfl, hth1⟩ | ⟨rfl, hth1⟩
        · refine cd_if_eq (tgt := 100) hx hb ⟨by decide, by decide⟩ dX1_search_29 (by decide) (fun c_3 => absurd c_3 (by decide)) (fun c_3 => ?_)
          refine lv_aload_n hx hb dX1_search_32 rfl (lv_at hl 3 rfl) ?_
          refine lv_iload hx hb dX1_search_33 (lv_at hl 0 rfl) ?_
          refine lv_iconst (v := cd_I (-1)) hx hb dX1_search_35 rfl ?_
          refine cd_call0i (va_runV (As := [.int (cd_I ((j : Nat) : Int)), .int (cd_I (-1))]) (rest := []) ⟨hx, hb, hml, hown, hts⟩ (xm_there l dC dI dA o0 o1 o2 o3 o4 h lv fa fb fc fl cx cy cu kn bx by_ bu ap aq j (-1) (by omega) ⟨by decide, by decide⟩ hok.1) (cwV 2 hts (lw_V q255 q257 qs10 q20 q258) rfl rfl rfl (by decide +kernel) ⟨Nat.le_of_ble_eq_true rfl, Nat.le_of_ble_eq_true rfl⟩) ⟨cd_bl0, va_recv hK hP (ci := 1) (q0 := 0) rfl rfl, cd_pr0 hP hK⟩ rfl rfl hl.1 rfl (lv_room (Nat.le_of_ble_eq_true rfl)) dX1_search_36 ⟨Nat.le_of_ble_eq_true rfl, Nat.le_of_ble_eq_true rfl⟩) hP hS (fun r H locs hq hP hS => ?_)
          rcases hq with ⟨rfl, hth2⟩ | ⟨rfl, hth2⟩
          · refine cd_if_eq (tgt := 100) hx hb ⟨by decide, by decide⟩ dX1_search_39 (by decide) (fun c_4 => absurd c_4 (by decide)) (fun c_4 => ?_)
            refine lv_aload_n hx hb dX1_search_42 rfl (lv_at hl 3 rfl) ?_
            refine lv_iload hx hb dX1_search_43 (lv_at hl 1 rfl) ?_
            refine lv_iload hx hb dX1_search_45 (lv_at hl 0 rfl) ?_
            obtain ⟨ha, hb1, hc1⟩ := hok.2 i (by omega) hth1.2
            obtain ⟨ha2, hb2, hc2⟩ := hok.2 j (by omega) hth2.2
            refine cd_call1i (va_runV (As := [.int (cd_I ((i : Nat) : Int)), .int (cd_I ((j : Nat) : Int))]) (rest := []) ⟨hx, hb, hml, hown, hts⟩ (xm_meet l dC dI dA o0 o1 o2 o3 o4 h lv fa fb fc fl cx cy cu kn bx by_ bu ap aq H.size i j (by omega) (by omega) ha hb1 hc1 ha2 hb2 hc2) (cwV 2 hts (lw_V q259 q261 qs11 q20 q262) rfl rfl rfl (by decide +kernel) ⟨Nat.le_of_ble_eq_true rfl, Nat.le_of_ble_eq_true rfl⟩) ⟨cd_bl1, va_recv hK hP (ci := 1) (q0 := 0) rfl rfl, cd_pr1 hP hK hD⟩ rfl rfl hl.1 rfl (lv_room (Nat.le_of_ble_eq_true rfl)) dX1_search_47 ⟨Nat.le_of_ble_eq_true rfl, Nat.le_of_ble_eq_true rfl⟩) hD hS hA (fun r u H locs hq hP hD hS => ?_)
            obtain ⟨u1, u2, u3⟩ := u
            have hP : va_P (dC, dI) vwCl [(o0, .inr (1, [.int (cd_I ((h : Nat) : Int)), .int (cd_I ((lv : Nat) : Int)), .ref o1, .ref o2, .ref o3, .ref o4, .long (cd_L u1), .long (cd_L u2), .long (cd_L u3), .int (cd_I kn), .long (cd_L bx), .long (cd_L by_), .long (cd_L bu), .int (cd_I ap), .int (cd_I aq)])), (o1, .inl (dA, 8, .inl (cd_n fl))), (o2, .inl (dA, 14, .inl (cd_c fa))), (o3, .inl (dA, 14, .inl (cd_c fb))), (o4, .inl (dA, 14, .inl (cd_c fc)))] H := hP
            have hD : va_D A [(o0, .inr (1, [.int (cd_I ((h : Nat) : Int)), .int (cd_I ((lv : Nat) : Int)), .ref o1, .ref o2, .ref o3, .ref o4, .long (cd_L u1), .long (cd_L u2), .long (cd_L u3), .int (cd_I kn), .long (cd_L bx), .long (cd_L by_), .long (cd_L bu), .int (cd_I ap), .int (cd_I aq)])), (o1, .inl (dA, 8, .inl (cd_n fl))), (o2, .inl (dA, 14, .inl (cd_c fa))), (o3, .inl (dA, 14, .inl (cd_c fb))), (o4, .inl (dA, 14, .inl (cd_c fc)))] := hD
            have hq : (r = cd_I 1 ∧ cd_cr fa fb fc i j u1 u2 u3) ∨ (r = cd_I 0 ∧ ∀ X Y W : Int, ¬ cd_cr fa fb fc i j X Y W) := hq
            rcases hq with ⟨rfl, hcr⟩ | ⟨rfl, hnm⟩
            · refine cd_if_eq (tgt := 100) hx hb ⟨by decide, by decide⟩ dX1_search_50 (by decide) (fun c_5 => absurd c_5 (by decide)) (fun c_5 => ?_)
              refine lv_aload_n hx hb dX1_search_53 rfl (lv_at hl 3 rfl) ?_
              refine lv_iconst (v := cd_I (-1)) hx hb dX1_search_54 rfl ?_
              obtain ⟨hx1, hy1, hw1, hw0⟩ := cd_cr_b hcr ha hb1 hc1 ha2 hb2 hc2
              refine cd_call0i (va_runV (As := [.int (cd_I (-1))]) (rest := []) ⟨hx, hb, hml, hown, hts⟩ (xm_allowed l dC dI dA o0 o1 o2 o3 o4 h lv fa fb fc fl u1 u2 u3 kn bx by_ bu ap aq (-1) ⟨by decide, by decide⟩ hok hx1 hy1 hw1) (cwV 1 hts (lw_V q263 q265 qs12 q20 q266) rfl rfl rfl (by decide +kernel) ⟨Nat.le_of_ble_eq_true rfl, Nat.le_of_ble_eq_true rfl⟩) ⟨cd_bl0, va_recv hK hP (ci := 1) (q0 := 0) rfl rfl, cd_pr0 hP hK⟩ rfl rfl hl.1 rfl (lv_room (Nat.le_of_ble_eq_true rfl)) dX1_search_55 ⟨Nat.le_of_ble_eq_true rfl, Nat.le_of_ble_eq_true rfl⟩) hP hS (fun r H locs hq hP hS => ?_)
              rcases hq with ⟨rfl, hall⟩ | ⟨rfl, hnall⟩
              · refine cd_if_eq (tgt := 100) hx hb ⟨by decide, by decide⟩ dX1_search_58 (by decide) (fun c_6 => absurd c_6 (by decide)) (fun c_6 => ?_)
                rcases hin with ⟨rfl, hinv⟩ | ⟨rfl, hcb, hfb, hinv⟩
                · refine lv_iload_n hx hb dX1_search_61 rfl (lv_at hl 2 rfl) ?_
                  refine cd_if_eq (tgt := 74) hx hb ⟨by decide, by decide⟩ dX1_search_62 (by decide) (fun c_7 => ?_) (fun c_7 => absurd c_7 (by decide))
                  refine lv_iconst (v := cd_I 1) hx hb dX1_search_74 rfl ?_
                  refine lv_istore_n (lv' := [(3, .int (cd_I 1)), (5, .int (cd_I ((j : Nat) : Int))), (4, .int (cd_I ((i : Nat) : Int))), (0, .ref o0), (1, .int (cd_I pp)), (2, .int (cd_I qq))]) hx hb dX1_search_75 rfl hl (by decide) rfl (fun ls hl => ?_)
                  refine lv_aload_n hx hb dX1_search_76 rfl (lv_at hl 3 rfl) ?_
                  refine lv_aload_n hx hb dX1_search_77 rfl (lv_at hl 3 rfl) ?_
                  refine cd_get1 (v := .long (cd_L u1)) hx hb hts hown hK hP 0 rfl 6 (by decide) q196 rfl rfl dX1_search_78 ?_
                  refine cd_put1 (v := .long (cd_L u1)) (ty := .long) hx hb hts hown hK hP hD hS 0 rfl 10 (by decide) q200 rfl rfl rfl rfl rfl (Nat.le_of_ble_eq_true rfl) dX1_search_81 (fun H locs hP hD hS => ?_)
                  have hP : va_P (dC, dI) vwCl [(o0, .inr (1, [.int (cd_I ((h : Nat) : Int)), .int (cd_I ((lv : Nat) : Int)), .ref o1, .ref o2, .ref o3, .ref o4, .long (cd_L u1), .long (cd_L u2), .long (cd_L u3), .int (cd_I kn), .long (cd_L u1), .long (cd_L by_), .long (cd_L bu), .int (cd_I ap), .int (cd_I aq)])), (o1, .inl (dA, 8, .inl (cd_n fl))), (o2, .inl (dA, 14, .inl (cd_c fa))), (o3, .inl (dA, 14, .inl (cd_c fb))), (o4, .inl (dA, 14, .inl (cd_c fc)))] H := hP
                  have hD : va_D A [(o0, .inr (1, [.int (cd_I ((h : Nat) : Int)), .int (cd_I ((lv : Nat) : Int)), .ref o1, .ref o2, .ref o3, .ref o4, .long (cd_L u1), .long (cd_L u2), .long (cd_L u3), .int (cd_I kn), .long (cd_L u1), .long (cd_L by_), .long (cd_L bu), .int (cd_I ap), .int (cd_I aq)])), (o1, .inl (dA, 8, .inl (cd_n fl))), (o2, .inl (dA, 14, .inl (cd_c fa))), (o3, .inl (dA, 14, .inl (cd_c fb))), (o4, .inl (dA, 14, .inl (cd_c fc)))] := hD
                  refine lv_aload_n hx hb dX1_search_84 rfl (lv_at hl 3 rfl) ?_
                  refine lv_aload_n hx hb dX1_search_85 rfl (lv_at hl 3 rfl) ?_
                  refine cd_get1 (v := .long (cd_L u2)) hx hb hts hown hK hP 0 rfl 7 (by decide) q197 rfl rfl dX1_search_86 ?_
                  refine cd_put1 (v := .long (cd_L u2)) (ty := .long) hx hb hts hown hK hP hD hS 0 rfl 11 (by decide) q201 rfl rfl rfl rfl rfl (Nat.le_of_ble_eq_true rfl) dX1_search_89 (fun H locs hP hD hS => ?_)
                  have hP : va_P (dC, dI) vwCl [(o0, .inr (1, [.int (cd_I ((h : Nat) : Int)), .int (cd_I ((lv : Nat) : Int)), .ref o1, .ref o2, .ref o3, .ref o4, .long (cd_L u1), .long (cd_L u2), .long (cd_L u3), .int (cd_I kn), .long (cd_L u1), .long (cd_L u2), .long (cd_L bu), .int (cd_I ap), .int (cd_I aq)])), (o1, .inl (dA, 8, .inl (cd_n fl))), (o2, .inl (dA, 14, .inl (cd_c fa))), (o3, .inl (dA, 14, .inl (cd_c fb))), (o4, .inl (dA, 14, .inl (cd_c fc)))] H := hP
                  have hD : va_D A [(o0, .inr (1, [.int (cd_I ((h : Nat) : Int)), .int (cd_I ((lv : Nat) : Int)), .ref o1, .ref o2, .ref o3, .ref o4, .long (cd_L u1), .long (cd_L u2), .long (cd_L u3), .int (cd_I kn), .long (cd_L u1), .long (cd_L u2), .long (cd_L bu), .int (cd_I ap), .int (cd_I aq)])), (o1, .inl (dA, 8, .inl (cd_n fl))), (o2, .inl (dA, 14, .inl (cd_c fa))), (o3, .inl (dA, 14, .inl (cd_c fb))), (o4, .inl (dA, 14, .inl (cd_c fc)))] := hD
                  refine lv_aload_n hx hb dX1_search_92 rfl (lv_at hl 3 rfl) ?_
                  refine lv_aload_n hx hb dX1_search_93 rfl (lv_at hl 3 rfl) ?_
                  refine cd_get1 (v := .long (cd_L u3)) hx hb hts hown hK hP 0 rfl 8 (by decide) q198 rfl rfl dX1_search_94 ?_
                  refine cd_put1 (v := .long (cd_L u3)) (ty := .long) hx hb hts hown hK hP hD hS 0 rfl 12 (by decide) q202 rfl rfl rfl rfl rfl (Nat.le_of_ble_eq_true rfl) dX1_search_97 (fun H locs hP hD hS => ?_)
                  have hP : va_P (dC, dI) vwCl [(o0, .inr (1, [.int (cd_I ((h : Nat) : Int)), .int (cd_I ((lv : Nat) : Int)), .ref o1, .ref o2, .ref o3, .ref o4, .long (cd_L u1), .long (cd_L u2), .long (cd_L u3), .int (cd_I kn), .long (cd_L u1), .long (cd_L u2), .long (cd_L u3), .int (cd_I ap), .int (cd_I aq)])), (o1, .inl (dA, 8, .inl (cd_n fl))), (o2, .inl (dA, 14, .inl (cd_c fa))), (o3, .inl (dA, 14, .inl (cd_c fb))), (o4, .inl (dA, 14, .inl (cd_c fc)))] H := hP
                  have hD : va_D A [(o0, .inr (1, [.int (cd_I ((h : Nat) : Int)), .int (cd_I ((lv : Nat) : Int)), .ref o1, .ref o2, .ref o3, .ref o4, .long (cd_L u1), .long (cd_L u2), .long (cd_L u3), .int (cd_I kn), .long (cd_L u1), .long (cd_L u2), .long (cd_L u3), .int (cd_I ap), .int (cd_I aq)])), (o1, .inl (dA, 8, .inl (cd_n fl))), (o2, .inl (dA, 14, .inl (cd_c fa))), (o3, .inl (dA, 14, .inl (cd_c fb))), (o4, .inl (dA, 14, .inl (cd_c fc)))] := hD
                  refine cd_iinc (x := ((j : Nat) : Int)) (lv' := [(5, .int (cd_I (((j : Nat) : Int) + 1))), (3, .int (cd_I 1)), (4, .int (cd_I ((i : Nat) : Int))), (0, .ref o0), (1, .int (cd_I pp)), (2, .int (cd_I qq))]) hx hb dX1_search_100 hl (k := 1) rfl (by decide) rfl (fun ls hl => ?_)
                  refine lv_goto (tgt := 15) hx hb dX1_search_103 (by decide) ?_
                  have hcn : cd_corn fa fb fc (cd_T h (-1)) u1 u2 u3 := ⟨i, j, ⟨by omega, hth1⟩, ⟨by omega, hth2⟩, hcr⟩
                  exact ih i (j + 1) 1 u1 u2 u3 u1 u2 u3 (by omega) (by omega) (by omega) (Or.inr ⟨rfl, hcn, ⟨hw0, hall⟩, cd_cv_step (fun X Y W q1 q2 => (hinv X Y W q1 q2).elim) (fun _ _ X Y W hc _ => by obtain ⟨e1, e2, e3⟩ := cd_cr_uniq hc hcr; rw [e1, e2, e3]; exact cd_irr)⟩) H locs hP hD hS ls (lv_sub hl [0, 2, 1, 3, 4, 5] rfl)
                · refine lv_iload_n hx hb dX1_search_61 rfl (lv_at hl 2 rfl) ?_
                  refine cd_if_eq (tgt := 74) hx hb ⟨by decide, by decide⟩ dX1_search_62 (by decide) (fun c_8 => absurd c_8 (by decide)) (fun c_8 => ?_)
                  refine lv_aload_n hx hb dX1_search_65 rfl (lv_at hl 3 rfl) ?_
                  refine lv_iload_n hx hb dX1_search_66 rfl (lv_at hl 4 rfl) ?_
                  refine lv_iload_n hx hb dX1_search_67 rfl (lv_at hl 5 rfl) ?_
                  obtain ⟨hbx, hby, hbu, -⟩ := cd_cornM_b hok hcb
                  refine cd_call0i (va_runV (As := [.int (cd_I pp), .int (cd_I qq)]) (rest := []) ⟨hx, hb, hml, hown, hts⟩ (xm_better l dC dI dA o0 o1 o2 o3 o4 h lv fa fb fc fl u1 u2 u3 kn bx by_ bu ap aq pp qq hp9 hq9 hx1 hy1 hw1 hbx hby hbu) (cwV 2 hts (lw_V q279 q281 qs15 q20 q282) rfl rfl rfl (by decide +kernel) ⟨Nat.le_of_ble_eq_true rfl, Nat.le_of_ble_eq_true rfl⟩) ⟨cd_bl0, va_recv hK hP (ci := 1) (q0 := 0) rfl rfl, cd_pr0 hP hK⟩ rfl rfl hl.1 rfl (lv_room (Nat.le_of_ble_eq_true rfl)) dX1_search_68 ⟨Nat.le_of_ble_eq_true rfl, Nat.le_of_ble_eq_true rfl⟩) hP hS (fun r H locs hq hP hS => ?_)
                  rcases hq with ⟨rfl, hbt⟩ | ⟨rfl, hbt⟩
                  · refine cd_if_eq (tgt := 100) hx hb ⟨by decide, by decide⟩ dX1_search_71 (by decide) (fun c_9 => absurd c_9 (by decide)) (fun c_9 => ?_)
                    refine lv_iconst (v := cd_I 1) hx hb dX1_search_74 rfl ?_
                    refine lv_istore_n (lv' := [(3, .int (cd_I 1)), (5, .int (cd_I ((j : Nat) : Int))), (4, .int (cd_I ((i : Nat) : Int))), (0, .ref o0), (1, .int (cd_I pp)), (2, .int (cd_I qq))]) hx hb dX1_search_75 rfl hl (by decide) rfl (fun ls hl => ?_)
                    refine lv_aload_n hx hb dX1_search_76 rfl (lv_at hl 3 rfl) ?_
                    refine lv_aload_n hx hb dX1_search_77 rfl (lv_at hl 3 rfl) ?_
                    refine cd_get1 (v := .long (cd_L u1)) hx hb hts hown hK hP 0 rfl 6 (by decide) q196 rfl rfl dX1_search_78 ?_
                    refine cd_put1 (v := .long (cd_L u1)) (ty := .long) hx hb hts hown hK hP hD hS 0 rfl 10 (by decide) q200 rfl rfl rfl rfl rfl (Nat.le_of_ble_eq_true rfl) dX1_search_81 (fun H locs hP hD hS => ?_)
                    have hP : va_P (dC, dI) vwCl [(o0, .inr (1, [.int (cd_I ((h : Nat) : Int)), .int (cd_I ((lv : Nat) : Int)), .ref o1, .ref o2, .ref o3, .ref o4, .long (cd_L u1), .long (cd_L u2), .long (cd_L u3), .int (cd_I kn), .long (cd_L u1), .long (cd_L by_), .long (cd_L bu), .int (cd_I ap), .int (cd_I aq)])), (o1, .inl (dA, 8, .inl (cd_n fl))), (o2, .inl (dA, 14, .inl (cd_c fa))), (o3, .inl (dA, 14, .inl (cd_c fb))), (o4, .inl (dA, 14, .inl (cd_c fc)))] H := hP
                    have hD : va_D A [(o0, .inr (1, [.int (cd_I ((h : Nat) : Int)), .int (cd_I ((lv : Nat) : Int)), .ref o1, .ref o2, .ref o3, .ref o4, .long (cd_L u1), .long (cd_L u2), .long (cd_L u3), .int (cd_I kn), .long (cd_L u1), .long (cd_L by_), .long (cd_L bu), .int (cd_I ap), .int (cd_I aq)])), (o1, .inl (dA, 8, .inl (cd_n fl))), (o2, .inl (dA, 14, .inl (cd_c fa))), (o3, .inl (dA, 14, .inl (cd_c fb))), (o4, .inl (dA, 14, .inl (cd_c fc)))] := hD
                    refine lv_aload_n hx hb dX1_search_84 rfl (lv_at hl 3 rfl) ?_
                    refine lv_aload_n hx hb dX1_search_85 rfl (lv_at hl 3 rfl) ?_
                    refine cd_get1 (v := .long (cd_L u2)) hx hb hts hown hK hP 0 rfl 7 (by decide) q197 rfl rfl dX1_search_86 ?_
                    refine cd_put1 (v := .long (cd_L u2)) (ty := .long) hx hb hts hown hK hP hD hS 0 rfl 11 (by decide) q201 rfl rfl rfl rfl rfl (Nat.le_of_ble_eq_true rfl) dX1_search_89 (fun H locs hP hD hS => ?_)
                    have hP : va_P (dC, dI) vwCl [(o0, .inr (1, [.int (cd_I ((h : Nat) : Int)), .int (cd_I ((lv : Nat) : Int)), .ref o1, .ref o2, .ref o3, .ref o4, .long (cd_L u1), .long (cd_L u2), .long (cd_L u3), .int (cd_I kn), .long (cd_L u1), .long (cd_L u2), .long (cd_L bu), .int (cd_I ap), .int (cd_I aq)])), (o1, .inl (dA, 8, .inl (cd_n fl))), (o2, .inl (dA, 14, .inl (cd_c fa))), (o3, .inl (dA, 14, .inl (cd_c fb))), (o4, .inl (dA, 14, .inl (cd_c fc)))] H := hP
                    have hD : va_D A [(o0, .inr (1, [.int (cd_I ((h : Nat) : Int)), .int (cd_I ((lv : Nat) : Int)), .ref o1, .ref o2, .ref o3, .ref o4, .long (cd_L u1), .long (cd_L u2), .long (cd_L u3), .int (cd_I kn), .long (cd_L u1), .long (cd_L u2), .long (cd_L bu), .int (cd_I ap), .int (cd_I aq)])), (o1, .inl (dA, 8, .inl (cd_n fl))), (o2, .inl (dA, 14, .inl (cd_c fa))), (o3, .inl (dA, 14, .inl (cd_c fb))), (o4, .inl (dA, 14, .inl (cd_c fc)))] := hD
                    refine lv_aload_n hx hb dX1_search_92 rfl (lv_at hl 3 rfl) ?_
                    refine lv_aload_n hx hb dX1_search_93 rfl (lv_at hl 3 rfl) ?_
                    refine cd_get1 (v := .long (cd_L u3)) hx hb hts hown hK hP 0 rfl 8 (by decide) q198 rfl rfl dX1_search_94 ?_
                    refine cd_put1 (v := .long (cd_L u3)) (ty := .long) hx hb hts hown hK hP hD hS 0 rfl 12 (by decide) q202 rfl rfl rfl rfl rfl (Nat.le_of_ble_eq_true rfl) dX1_search_97 (fun H locs hP hD hS => ?_)
                    have hP : va_P (dC, dI) vwCl [(o0, .inr (1, [.int (cd_I ((h : Nat) : Int)), .int (cd_I ((lv : Nat) : Int)), .ref o1, .ref o2, .ref o3, .ref o4, .long (cd_L u1), .long (cd_L u2), .long (cd_L u3), .int (cd_I kn), .long (cd_L u1), .long (cd_L u2), .long (cd_L u3), .int (cd_I ap), .int (cd_I aq)])), (o1, .inl (dA, 8, .inl (cd_n fl))), (o2, .inl (dA, 14, .inl (cd_c fa))), (o3, .inl (dA, 14, .inl (cd_c fb))), (o4, .inl (dA, 14, .inl (cd_c fc)))] H := hP
                    have hD : va_D A [(o0, .inr (1, [.int (cd_I ((h : Nat) : Int)), .int (cd_I ((lv : Nat) : Int)), .ref o1, .ref o2, .ref o3, .ref o4, .long (cd_L u1), .long (cd_L u2), .long (cd_L u3), .int (cd_I kn), .long (cd_L u1), .long (cd_L u2), .long (cd_L u3), .int (cd_I ap), .int (cd_I aq)])), (o1, .inl (dA, 8, .inl (cd_n fl))), (o2, .inl (dA, 14, .inl (cd_c fa))), (o3, .inl (dA, 14, .inl (cd_c fb))), (o4, .inl (dA, 14, .inl (cd_c fc)))] := hD
                    refine cd_iinc (x := ((j : Nat) : Int)) (lv' := [(5, .int (cd_I (((j : Nat) : Int) + 1))), (3, .int (cd_I 1)), (4, .int (cd_I ((i : Nat) : Int))), (0, .ref o0), (1, .int (cd_I pp)), (2, .int (cd_I qq))]) hx hb dX1_search_100 hl (k := 1) rfl (by decide) rfl (fun ls hl => ?_)
                    refine lv_goto (tgt := 15) hx hb dX1_search_103 (by decide) ?_
                    have hcn : cd_corn fa fb fc (cd_T h (-1)) u1 u2 u3 := ⟨i, j, ⟨by omega, hth1⟩, ⟨by omega, hth2⟩, hcr⟩
                    exact ih i (j + 1) 1 u1 u2 u3 u1 u2 u3 (by omega) (by omega) (by omega) (Or.inr ⟨rfl, hcn, ⟨hw0, hall⟩, cd_cv_step (fun X Y W q1 q2 => cd_trans q2.1 hfb.1 hw0 (hinv X Y W q1 q2) (cd_asym hbt)) (fun _ _ X Y W hc _ => by obtain ⟨e1, e2, e3⟩ := cd_cr_uniq hc hcr; rw [e1, e2, e3]; exact cd_irr)⟩) H locs hP hD hS ls (lv_sub hl [0, 2, 1, 3, 4, 5] rfl)
                  · refine cd_if_eq (tgt := 100) hx hb ⟨by decide, by decide⟩ dX1_search_71 (by decide) (fun c_10 => ?_) (fun c_10 => absurd c_10 (by decide))
                    refine cd_iinc (x := ((j : Nat) : Int)) (lv' := [(5, .int (cd_I (((j : Nat) : Int) + 1))), (4, .int (cd_I ((i : Nat) : Int))), (3, .int (cd_I 1)), (0, .ref o0), (1, .int (cd_I pp)), (2, .int (cd_I qq))]) hx hb dX1_search_100 hl (k := 0) rfl (by decide) rfl (fun ls hl => ?_)
                    refine lv_goto (tgt := 15) hx hb dX1_search_103 (by decide) ?_
                    exact ih i (j + 1) 1 u1 u2 u3 bx by_ bu (by omega) (by omega) (by omega) (Or.inr ⟨rfl, hcb, hfb, cd_cv_step hinv (fun _ _ X Y W hc _ => by obtain ⟨e1, e2, e3⟩ := cd_cr_uniq hc hcr; rw [e1, e2, e3]; exact hbt)⟩) H locs hP hD hS ls (lv_sub hl [0, 1, 2, 3, 4, 5] rfl)
              · refine cd_if_eq (tgt := 100) hx hb ⟨by decide, by decide⟩ dX1_search_58 (by decide) (fun c_11 => ?_) (fun c_11 => absurd c_11 (by decide))
                refine cd_iinc (x := ((j : Nat) : Int)) (lv' := [(5, .int (cd_I (((j : Nat) : Int) + 1))), (4, .int (cd_I ((i : Nat) : Int))), (3, .int (cd_I an)), (0, .ref o0), (1, .int (cd_I pp)), (2, .int (cd_I qq))]) hx hb dX1_search_100 hl (k := 0) rfl (by decide) rfl (fun ls hl => ?_)
                refine lv_goto (tgt := 15) hx hb dX1_search_103 (by decide) ?_
                exact ih i (j + 1) an u1 u2 u3 bx by_ bu (by omega) (by omega) (by omega) (cd_si_skip hin (fun _ _ X Y W hc hF => absurd (by obtain ⟨e1, e2, e3⟩ := cd_cr_uniq hc hcr; rw [e1, e2, e3] at hF; exact hF.2) hnall)) H locs hP hD hS ls (lv_sub hl [0, 1, 2, 3, 4, 5] rfl)
            · refine cd_if_eq (tgt := 100) hx hb ⟨by decide, by decide⟩ dX1_search_50 (by decide) (fun c_12 => ?_) (fun c_12 => absurd c_12 (by decide))
              refine cd_iinc (x := ((j : Nat) : Int)) (lv' := [(5, .int (cd_I (((j : Nat) : Int) + 1))), (4, .int (cd_I ((i : Nat) : Int))), (3, .int (cd_I an)), (0, .ref o0), (1, .int (cd_I pp)), (2, .int (cd_I qq))]) hx hb dX1_search_100 hl (k := 0) rfl (by decide) rfl (fun ls hl => ?_)
              refine lv_goto (tgt := 15) hx hb dX1_search_103 (by decide) ?_
              exact ih i (j + 1) an u1 u2 u3 bx by_ bu (by omega) (by omega) (by omega) (cd_si_skip hin (fun _ _ X Y W hc _ => absurd hc (hnm X Y W))) H locs hP hD hS ls (lv_sub hl [0, 1, 2, 3, 4, 5] rfl)
          · refine cd_if_eq (tgt := 100) hx hb ⟨by decide, by decide⟩ dX1_search_39 (by decide) (fun c_13 => ?_) (fun c_13 => absurd c_13 (by decide))
            refine cd_iinc (x := ((j : Nat) : Int)) (lv' := [(5, .int (cd_I (((j : Nat) : Int) + 1))), (4, .int (cd_I ((i : Nat) : Int))), (3, .int (cd_I an)), (0, .ref o0), (1, .int (cd_I pp)), (2, .int (cd_I qq))]) hx hb dX1_search_100 hl (k := 0) rfl (by decide) rfl (fun ls hl => ?_)
            refine lv_goto (tgt := 15) hx hb dX1_search_103 (by decide) ?_
            exact ih i (j + 1) an cx cy cu bx by_ bu (by omega) (by omega) (by omega) (cd_si_skip hin (fun _ q2 _ _ _ _ _ => absurd q2.2 hth2)) H locs hP hD hS ls (lv_sub hl [0, 1, 2, 3, 4, 5] rfl)
        · refine cd_if_eq (tgt := 100) hx hb ⟨by decide, by decide⟩ dX1_search_29 (by decide) (fun c_14 => ?_) (fun c_14 => absurd c_14 (by decide))
          refine cd_iinc (x := ((j : Nat) : Int)) (lv' := [(5, .int (cd_I (((j : Nat) : Int) + 1))), (4, .int (cd_I ((i : Nat) : Int))), (3, .int (cd_I an)), (0, .ref o0), (1, .int (cd_I pp)), (2, .int (cd_I qq))]) hx hb dX1_search_100 hl (k := 0) rfl (by decide) rfl (fun ls hl => ?_)
          refine lv_goto (tgt := 15) hx hb dX1_search_103 (by decide) ?_
          exact ih i (j + 1) an cx cy cu bx by_ bu (by omega) (by omega) (by omega) (cd_si_skip hin (fun q1 _ _ _ _ _ _ => absurd q1.2 hth1)) H locs hP hD hS ls (lv_sub hl [0, 1, 2, 3, 4, 5] rfl)
  refine lv_iconst (v := cd_I 0) hx hb dX1_search_0 rfl ?_
  refine lv_istore_n (lv' := [(3, .int (cd_I 0)), (0, .ref o0), (1, .int (cd_I pp)), (2, .int (cd_I qq))]) hx hb dX1_search_1 rfl hl (by decide) rfl (fun ls hl => ?_)
  refine lv_iconst (v := cd_I 0) hx hb dX1_search_2 rfl ?_
  refine lv_istore (lv' := [(4, .int (cd_I 0)), (3, .int (cd_I 0)), (0, .ref o0), (1, .int (cd_I pp)), (2, .int (cd_I qq))]) hx hb dX1_search_3 hl (by decide) rfl (fun ls hl => ?_)
  refine lv_iload hx hb dX1_search_5 (lv_at hl 0 rfl) ?_
  refine lv_bipush (v := cd_I 14) hx hb dX1_search_7 (by decide) ?_
  refine cd_icmp_ge (tgt := 112) hx hb ⟨by decide, by decide⟩ ⟨by decide, by decide⟩ dX1_search_9 (by decide) (fun c_15 => absurd c_15 (by decide)) (fun c_15 => ?_)
  refine lv_iconst (v := cd_I 0) hx hb dX1_search_12 rfl ?_
  refine lv_istore (lv' := [(5, .int (cd_I 0)), (4, .int (cd_I 0)), (3, .int (cd_I 0)), (0, .ref o0), (1, .int (cd_I pp)), (2, .int (cd_I qq))]) hx hb dX1_search_13 hl (by decide) rfl (fun ls hl => ?_)
  exact loop 210 0 0 0 cx cy cu bx by_ bu (by decide) (by decide) (by decide) (Or.inl ⟨rfl, fun X Y W q _ => cd_cv_0 q⟩) s.heap [] hP hD hS ls (lv_sub hl [0, 1, 2, 3, 4, 5] rfl)

set_option maxHeartbeats 4000000 in
set_option maxRecDepth 100000 in
/-- possible -/
theorem xm_possible (l : Launch) (dC : Nat → ClassId) (dI : Nat → Nat → Nat) (dA : ClassId) (o0 o1 o2 o3 o4 h lv : Nat) (fa fb fc : Nat → Int) (fl : Nat → Nat) (cx cy cu kn bx by_ bu ap aq : Int) (sz : Nat) (hok : cd_okM fa fb fc h) : Met l yX1_possible (ws_ yX1_possible cX1_possible 3 (some .int)) ({ frames := 2, cells := 0, slots := 0, locals := 44 }) (va_Pc [.ref o0] (cd_W1 (dC, dI) vwCl [(dA, .int)] (cd_M dA o0 o1 o2 o3 o4 h lv fa fb fc fl cx cy cu kn bx by_ bu ap aq) sz)) (va_Qi (fun (r : Int32) (u : Int × Int × Int) => (r = cd_I 1 ∧ ∃ X Y W : Int, cd_corn fa fb fc (cd_T h (-1)) X Y W ∧ cd_feas fa fb fc (cd_T h (-1)) X Y W) ∨ (r = cd_I 0 ∧ cd_sNo fa fb fc (cd_T h (-1)))) (cd_B (dC, dI) vwCl (va_A (cd_M dA o0 o1 o2 o3 o4 h lv fa fb fc fl cx cy cu kn bx by_ bu ap aq) sz) (fun u : Int × Int × Int => (cd_M dA o0 o1 o2 o3 o4 h lv fa fb fc fl u.1 u.2.1 u.2.2 kn bx by_ bu ap aq))) (va_A (cd_M dA o0 o1 o2 o3 o4 h lv fa fb fc fl cx cy cu kn bx by_ bu ap aq) sz)) 0 0 (va_A (cd_M dA o0 o1 o2 o3 o4 h lv fa fb fc fl cx cy cu kn bx by_ bu ap aq) sz) := by
  refine Met.ofW (cc := cX1_possible) (maxL := 3) (ret := (some .int)) (by decide) rfl ?_
  intro p e s m args below meth c s₁ B hml hv
  obtain ⟨rfl, hsz, hP, hK, hD0⟩ := hv
  have hx := B.exec
  have hb := B.bytes
  have hr := B.returns
  have hts := atoms_spec (ws := (ws_ yX1_possible cX1_possible 3 (some .int))) B.pre
  have hts : ∀ w ∈ lw_all, w.before _ s = true := fun w h => hts w (List.mem_cons_of_mem _ h)
  have hown : s.vm.findClass RX1 = some m.cls := findClass_of_methodNamed B.named
  have hlocks := B.notSynchronized
  subst hsz
  have hD := hD0.self (sz := s.heap.size)
  generalize hAe : va_A (cd_M dA o0 o1 o2 o3 o4 h lv fa fb fc fl cx cy cu kn bx by_ bu ap aq) s.heap.size = A at hD ⊢
  have hA : ∀ q : Nat, s.heap.size ≤ q → A q := fun q h => by rw [← hAe]; exact Or.inr h
  have hS : va_S A s.heap s.heap [] := va_S.rf
  have hl := lv_entry ([.ref o0]) (n := 3) (Nat.le_of_ble_eq_true rfl)
  rw [lg_entry_eq]
  generalize (lg_sl ([.ref o0]) ++ List.replicate (3 - (lg_sl ([.ref o0])).length) Slot.unset).toArray = ls at hl ⊢
  have hl : lv_has ls 3 [(0, .ref o0)] := hl
  have hP : va_P (dC, dI) vwCl [(o0, .inr (1, [.int (cd_I ((h : Nat) : Int)), .int (cd_I ((lv : Nat) : Int)), .ref o1, .ref o2, .ref o3, .ref o4, .long (cd_L cx), .long (cd_L cy), .long (cd_L cu), .int (cd_I kn), .long (cd_L bx), .long (cd_L by_), .long (cd_L bu), .int (cd_I ap), .int (cd_I aq)])), (o1, .inl (dA, 8, .inl (cd_n fl))), (o2, .inl (dA, 14, .inl (cd_c fa))), (o3, .inl (dA, 14, .inl (cd_c fb))), (o4, .inl (dA, 14, .inl (cd_c fc)))] s.heap := hP
  have hD : va_D A [(o0, .inr (1, [.int (cd_I ((h : Nat) : Int)), .int (cd_I ((lv : Nat) : Int)), .ref o1, .ref o2, .ref o3, .ref o4, .long (cd_L cx), .long (cd_L cy), .long (cd_L cu), .int (cd_I kn), .long (cd_L bx), .long (cd_L by_), .long (cd_L bu), .int (cd_I ap), .int (cd_I aq)])), (o1, .inl (dA, 8, .inl (cd_n fl))), (o2, .inl (dA, 14, .inl (cd_c fa))), (o3, .inl (dA, 14, .inl (cd_c fb))), (o4, .inl (dA, 14, .inl (cd_c fc)))] := hD
  have hh10 : h ≤ 10 := hok.1
  have loop : ∀ (f i j : Nat) (cx cy cu : Int), i < 14 → j ≤ i → 210 ≤ 15 * i + j + f → (∀ X Y W : Int, cd_cv fa fb fc (cd_T h (-1)) i j X Y W → cd_feas fa fb fc (cd_T h (-1)) X Y W → False) → ∀ (H : Heap) (locs : List Loc), va_P (dC, dI) vwCl (cd_M dA o0 o1 o2 o3 o4 h lv fa fb fc fl cx cy cu kn bx by_ bu ap aq) H → va_D A (cd_M dA o0 o1 o2 o3 o4 h lv fa fb fc fl cx cy cu kn bx by_ bu ap aq) → va_S A s.heap H locs → ∀ ls : Array Slot, lv_has ls 3 [(2, .int (cd_I ((j : Nat) : Int))), (1, .int (cd_I ((i : Nat) : Int))), (0, .ref o0)] → W p l e (headSpec (ws_ yX1_possible cX1_possible 3 (some .int)) ({ frames := 2, cells := 0, slots := 0, locals := 44 })).room s m ([.ref o0] : List Value).toArray below meth c H locs 0 0 (MQ below (va_Qi (fun (r : Int32) (u : Int × Int × Int) => (r = cd_I 1 ∧ ∃ X Y W : Int, cd_corn fa fb fc (cd_T h (-1)) X Y W ∧ cd_feas fa fb fc (cd_T h (-1)) X Y W) ∨ (r = cd_I 0 ∧ cd_sNo fa fb fc (cd_T h (-1)))) (cd_B (dC, dI) vwCl A (fun u : Int × Int × Int => (cd_M dA o0 o1 o2 o3 o4 h lv fa fb fc fl u.1 u.2.1 u.2.2 kn bx by_ bu ap aq))) A) ([.ref o0] : List Value).toArray s 0 0 A) (F0 m 10 ls []) := by
    intro f
    induction f with
    | zero =>
      intro i j cx cy cu h1 h2 h3
      exact absurd h3 (by omega)
    | succ f ih =>
      intro i j cx cy cu hi hj hf hin H locs hP hD hS ls hl
      have hP : va_P (dC, dI) vwCl [(o0, .inr (1, [.int (cd_I ((h : Nat) : Int)), .int (cd_I ((lv : Nat) : Int)), .ref o1, .ref o2, .ref o3, .ref o4, .long (cd_L cx), .long (cd_L cy), .long (cd_L cu), .int (cd_I kn), .long (cd_L bx), .long (cd_L by_), .long (cd_L bu), .int (cd_I ap), .int (cd_I aq)])), (o1, .inl (dA, 8, .inl (cd_n fl))), (o2, .inl (dA, 14, .inl (cd_c fa))), (o3, .inl (dA, 14, .inl (cd_c fb))), (o4, .inl (dA, 14, .inl (cd_c fc)))] H := hP
      have hD : va_D A [(o0, .inr (1, [.int (cd_I ((h : Nat) : Int)), .int (cd_I ((lv : Nat) : Int)), .ref o1, .ref o2, .ref o3, .ref o4, .long (cd_L cx), .long (cd_L cy), .long (cd_L cu), .int (cd_I kn), .long (cd_L bx), .long (cd_L by_), .long (cd_L bu), .int (cd_I ap), .int (cd_I aq)])), (o1, .inl (dA, 8, .inl (cd_n fl))), (o2, .inl (dA, 14, .inl (cd_c fa))), (o3, .inl (dA, 14, .inl (cd_c fb))), (o4, .inl (dA, 14, .inl (cd_c fc)))] := hD
      refine lv_iload_n hx hb dX1_possible_10 rfl (lv_at hl 0 rfl) ?_
      refine lv_iload_n hx hb dX1_possible_11 rfl (lv_at hl 1 rfl) ?_
      refine cd_icmp_ge (tgt := 58) hx hb ⟨by omega, by omega⟩ ⟨by omega, by omega⟩ dX1_possible_12 (by decide) (fun c_1 => ?_) (fun c_1 => ?_)
      · have hji : j = i := by omega
        rw [hji] at hin
        refine cd_iinc (x := ((i : Nat) : Int)) (lv' := [(1, .int (cd_I (((i : Nat) : Int) + 1))), (2, .int (cd_I ((j : Nat) : Int))), (0, .ref o0)]) hx hb dX1_possible_58 hl (k := 1) rfl (by decide) rfl (fun ls hl => ?_)
        refine lv_goto (tgt := 2) hx hb dX1_possible_61 (by decide) ?_
        refine lv_iload_n hx hb dX1_possible_2 rfl (lv_at hl 0 rfl) ?_
        refine lv_bipush (v := cd_I 14) hx hb dX1_possible_3 (by decide) ?_
        refine cd_icmp_ge (tgt := 64) hx hb (cd_bR32 (cd_bA (show cd_b 100 ((i : Nat) : Int) from ⟨by omega, by omega⟩) (show cd_b 1 1 from ⟨by decide, by decide⟩)) (by decide)) ⟨by decide, by decide⟩ dX1_possible_5 (by decide) (fun c_2 => ?_) (fun c_2 => ?_)
        · have hi13 : i = 13 := by omega
          rw [hi13] at hin
          refine lv_iconst (v := cd_I 0) hx hb dX1_possible_64 rfl ?_
          exact W.iret (v := cd_I 0) hx hb hr (fun t ht hW => ⟨⟨cd_I 0, (cx, cy, cu), rfl, Or.inr ⟨rfl, fun X Y W q1 q2 => hin X Y W (cd_cv_all (fun _ q => q.1) q1) q2⟩, ⟨by rw [ht]; exact hP, hD⟩⟩, hS.F ht⟩) hS.2.2 dX1_possible_65
        · refine lv_iconst (v := cd_I 0) hx hb dX1_possible_8 rfl ?_
          refine lv_istore_n (lv' := [(2, .int (cd_I 0)), (1, .int (cd_I (((i : Nat) : Int) + 1))), (0, .ref o0)]) hx hb dX1_possible_9 rfl hl (by decide) rfl (fun ls hl => ?_)
          exact ih (i + 1) 0 cx cy cu (by omega) (by omega) (by omega) (fun X Y W q => hin X Y W (cd_cv_row q)) H locs hP hD hS ls (lv_sub hl [0, 1, 2] rfl)
      · refine lv_aload_n hx hb dX1_possible_15 rfl (lv_at hl 2 rfl) ?_
        refine lv_iload_n hx hb dX1_possible_16 rfl (lv_at hl 1 rfl) ?_
        refine lv_iconst (v := cd_I (-1)) hx hb dX1_possible_17 rfl ?_
        refine cd_call0i (va_runV (As := [.int (cd_I ((i : Nat) : Int)), .int (cd_I (-1))]) (rest := []) ⟨hx, hb, hml, hown, hts⟩ (xm_there l dC dI dA o0 o1 o2 o3 o4 h lv fa fb fc fl cx cy cu kn bx by_ bu ap aq i (-1) (by omega) ⟨by decide, by decide⟩ hok.1) (cwV 2 hts (lw_V q255 q257 qs10 q20 q258) rfl rfl rfl (by decide +kernel) ⟨Nat.le_of_ble_eq_true rfl, Nat.le_of_ble_eq_true rfl⟩) ⟨cd_bl0, va_recv hK hP (ci := 1) (q0 := 0) rfl rfl, cd_pr0 hP hK⟩ rfl rfl hl.1 rfl (lv_room (Nat.le_of_ble_eq_true rfl)) dX1_possible_18 ⟨Nat.le_of_ble_eq_true rfl, Nat.le_of_ble_eq_true rfl⟩) hP hS (fun r H locs hq hP hS => ?_)
        rcases hq with ⟨rfl, hth1⟩ | ⟨rfl, hth1⟩
        · refine cd_if_eq (tgt := 52) hx hb ⟨by decide, by decide⟩ dX1_possible_21 (by decide) (fun c_3 => absurd c_3 (by decide)) (fun c_3 => ?_)
          refine lv_aload_n hx hb dX1_possible_24 rfl (lv_at hl 2 rfl) ?_
          refine lv_iload_n hx hb dX1_possible_25 rfl (lv_at hl 0 rfl) ?_
          refine lv_iconst (v := cd_I (-1)) hx hb dX1_possible_26 rfl ?_
          refine cd_call0i (va_runV (As := [.int (cd_I ((j : Nat) : Int)), .int (cd_I (-1))]) (rest := []) ⟨hx, hb, hml, hown, hts⟩ (xm_there l dC dI dA o0 o1 o2 o3 o4 h lv fa fb fc fl cx cy cu kn bx by_ bu ap aq j (-1) (by omega) ⟨by decide, by decide⟩ hok.1) (cwV 2 hts (lw_V q255 q257 qs10 q20 q258) rfl rfl rfl (by decide +kernel) ⟨Nat.le_of_ble_eq_true rfl, Nat.le_of_ble_eq_true rfl⟩) ⟨cd_bl0, va_recv hK hP (ci := 1) (q0 := 0) rfl rfl, cd_pr0 hP hK⟩ rfl rfl hl.1 rfl (lv_room (Nat.le_of_ble_eq_true rfl)) dX1_possible_27 ⟨Nat.le_of_ble_eq_true rfl, Nat.le_of_ble_eq_true rfl⟩) hP hS (fun r H locs hq hP hS => ?_)
          rcases hq with ⟨rfl, hth2⟩ | ⟨rfl, hth2⟩
          · refine cd_if_eq (tgt := 52) hx hb ⟨by decide, by decide⟩ dX1_possible_30 (by decide) (fun c_4 => absurd c_4 (by decide)) (fun c_4 => ?_)
            refine lv_aload_n hx hb dX1_possible_33 rfl (lv_at hl 2 rfl) ?_
            refine lv_iload_n hx hb dX1_possible_34 rfl (lv_at hl 1 rfl) ?_
            refine lv_iload_n hx hb dX1_possible_35 rfl (lv_at hl 0 rfl) ?_
            obtain ⟨ha, hb1, hc1⟩ := hok.2 i (by omega) hth1.2
            obtain ⟨ha2, hb2, hc2⟩ := hok.2 j (by omega) hth2.2
            refine cd_call1i (va_runV (As := [.int (cd_I ((i : Nat) : Int)), .int (cd_I ((j : Nat) : Int))]) (rest := []) ⟨hx, hb, hml, hown, hts⟩ (xm_meet l dC dI dA o0 o1 o2 o3 o4 h lv fa fb fc fl cx cy cu kn bx by_ bu ap aq H.size i j (by omega) (by omega) ha hb1 hc1 ha2 hb2 hc2) (cwV 2 hts (lw_V q259 q261 qs11 q20 q262) rfl rfl rfl (by decide +kernel) ⟨Nat.le_of_ble_eq_true rfl, Nat.le_of_ble_eq_true rfl⟩) ⟨cd_bl1, va_recv hK hP (ci := 1) (q0 := 0) rfl rfl, cd_pr1 hP hK hD⟩ rfl rfl hl.1 rfl (lv_room (Nat.le_of_ble_eq_true rfl)) dX1_possible_36 ⟨Nat.le_of_ble_eq_true rfl, Nat.le_of_ble_eq_true rfl⟩) hD hS hA (fun r u H locs hq hP hD hS => ?_)
            obtain ⟨u1, u2, u3⟩ := u
            have hP : va_P (dC, dI) vwCl [(o0, .inr (1, [.int (cd_I ((h : Nat) : Int)), .int (cd_I ((lv : Nat) : Int)), .ref o1, .ref o2, .ref o3, .ref o4, .long (cd_L u1), .long (cd_L u2), .long (cd_L u3), .int (cd_I kn), .long (cd_L bx), .long (cd_L by_), .long (cd_L bu), .int (cd_I ap), .int (cd_I aq)])), (o1, .inl (dA, 8, .inl (cd_n fl))), (o2, .inl (dA, 14, .inl (cd_c fa))), (o3, .inl (dA, 14, .inl (cd_c fb))), (o4, .inl (dA, 14, .inl (cd_c fc)))] H := hP
            have hD : va_D A [(o0, .inr (1, [.int (cd_I ((h : Nat) : Int)), .int (cd_I ((lv : Nat) : Int)), .ref o1, .ref o2, .ref o3, .ref o4, .long (cd_L u1), .long (cd_L u2), .long (cd_L u3), .int (cd_I kn), .long (cd_L bx), .long (cd_L by_), .long (cd_L bu), .int (cd_I ap), .int (cd_I aq)])), (o1, .inl (dA, 8, .inl (cd_n fl))), (o2, .inl (dA, 14, .inl (cd_c fa))), (o3, .inl (dA, 14, .inl (cd_c fb))), (o4, .inl (dA, 14, .inl (cd_c fc)))] := hD
            have hq : (r = cd_I 1 ∧ cd_cr fa fb fc i j u1 u2 u3) ∨ (r = cd_I 0 ∧ ∀ X Y W : Int, ¬ cd_cr fa fb fc i j X Y W) := hq
            rcases hq with ⟨rfl, hcr⟩ | ⟨rfl, hnm⟩
            · refine cd_if_eq (tgt := 52) hx hb ⟨by decide, by decide⟩ dX1_possible_39 (by decide) (fun c_5 => absurd c_5 (by decide)) (fun c_5 => ?_)
              refine lv_aload_n hx hb dX1_possible_42 rfl (lv_at hl 2 rfl) ?_
              refine lv_iconst (v := cd_I (-1)) hx hb dX1_possible_43 rfl ?_
              obtain ⟨hx1, hy1, hw1, hw0⟩ := cd_cr_b hcr ha hb1 hc1 ha2 hb2 hc2
              refine cd_call0i (va_runV (As := [.int (cd_I (-1))]) (rest := []) ⟨hx, hb, hml, hown, hts⟩ (xm_allowed l dC dI dA o0 o1 o2 o3 o4 h lv fa fb fc fl u1 u2 u3 kn bx by_ bu ap aq (-1) ⟨by decide, by decide⟩ hok hx1 hy1 hw1) (cwV 1 hts (lw_V q263 q265 qs12 q20 q266) rfl rfl rfl (by decide +kernel) ⟨Nat.le_of_ble_eq_true rfl, Nat.le_of_ble_eq_true rfl⟩) ⟨cd_bl0, va_recv hK hP (ci := 1) (q0 := 0) rfl rfl, cd_pr0 hP hK⟩ rfl rfl hl.1 rfl (lv_room (Nat.le_of_ble_eq_true rfl)) dX1_possible_44 ⟨Nat.le_of_ble_eq_true rfl, Nat.le_of_ble_eq_true rfl⟩) hP hS (fun r H locs hq hP hS => ?_)
              rcases hq with ⟨rfl, hall⟩ | ⟨rfl, hnall⟩
              · refine cd_if_eq (tgt := 52) hx hb ⟨by decide, by decide⟩ dX1_possible_47 (by decide) (fun c_6 => absurd c_6 (by decide)) (fun c_6 => ?_)
                refine lv_iconst (v := cd_I 1) hx hb dX1_possible_50 rfl ?_
                exact W.iret (v := cd_I 1) hx hb hr (fun t ht hW => ⟨⟨cd_I 1, (u1, u2, u3), rfl, Or.inl ⟨rfl, u1, u2, u3, ⟨i, j, ⟨by omega, hth1⟩, ⟨by omega, hth2⟩, hcr⟩, ⟨hw0, hall⟩⟩, ⟨by rw [ht]; exact hP, hD⟩⟩, hS.F ht⟩) hS.2.2 dX1_possible_51
              · refine cd_if_eq (tgt := 52) hx hb ⟨by decide, by decide⟩ dX1_possible_47 (by decide) (fun c_7 => ?_) (fun c_7 => absurd c_7 (by decide))
                refine cd_iinc (x := ((j : Nat) : Int)) (lv' := [(2, .int (cd_I (((j : Nat) : Int) + 1))), (1, .int (cd_I ((i : Nat) : Int))), (0, .ref o0)]) hx hb dX1_possible_52 hl (k := 0) rfl (by decide) rfl (fun ls hl => ?_)
                refine lv_goto (tgt := 10) hx hb dX1_possible_55 (by decide) ?_
                exact ih i (j + 1) u1 u2 u3 (by omega) (by omega) (by omega) (cd_cv_step hin (fun _ _ X Y W hc hF => absurd (by obtain ⟨e1, e2, e3⟩ := cd_cr_uniq hc hcr; rw [e1, e2, e3] at hF; exact hF.2) hnall)) H locs hP hD hS ls (lv_sub hl [0, 1, 2] rfl)
            · refine cd_if_eq (tgt := 52) hx hb ⟨by decide, by decide⟩ dX1_possible_39 (by decide) (fun c_8 => ?_) (fun c_8 => absurd c_8 (by decide))
              refine cd_iinc (x := ((j : Nat) : Int)) (lv' := [(2, .int (cd_I (((j : Nat) : Int) + 1))), (1, .int (cd_I ((i : Nat) : Int))), (0, .ref o0)]) hx hb dX1_possible_52 hl (k := 0) rfl (by decide) rfl (fun ls hl => ?_)
              refine lv_goto (tgt := 10) hx hb dX1_possible_55 (by decide) ?_
              exact ih i (j + 1) u1 u2 u3 (by omega) (by omega) (by omega) (cd_cv_step hin (fun _ _ X Y W hc _ => absurd hc (hnm X Y W))) H locs hP hD hS ls (lv_sub hl [0, 1, 2] rfl)
          · refine cd_if_eq (tgt := 52) hx hb ⟨by decide, by decide⟩ dX1_possible_30 (by decide) (fun c_9 => ?_) (fun c_9 => absurd c_9 (by decide))
            refine cd_iinc (x := ((j : Nat) : Int)) (lv' := [(2, .int (cd_I (((j : Nat) : Int) + 1))), (1, .int (cd_I ((i : Nat) : Int))), (0, .ref o0)]) hx hb dX1_possible_52 hl (k := 0) rfl (by decide) rfl (fun ls hl => ?_)
            refine lv_goto (tgt := 10) hx hb dX1_possible_55 (by decide) ?_
            exact ih i (j + 1) cx cy cu (by omega) (by omega) (by omega) (cd_cv_step hin (fun _ q2 _ _ _ _ _ => absurd q2.2 hth2)) H locs hP hD hS ls (lv_sub hl [0, 1, 2] rfl)
        · refine cd_if_eq (tgt := 52) hx hb ⟨by decide, by decide⟩ dX1_possible_21 (by decide) (fun c_10 => ?_) (fun c_10 => absurd c_10 (by decide))
          refine cd_iinc (x := ((j : Nat) : Int)) (lv' := [(2, .int (cd_I (((j : Nat) : Int) + 1))), (1, .int (cd_I ((i : Nat) : Int))), (0, .ref o0)]) hx hb dX1_possible_52 hl (k := 0) rfl (by decide) rfl (fun ls hl => ?_)
          refine lv_goto (tgt := 10) hx hb dX1_possible_55 (by decide) ?_
          exact ih i (j + 1) cx cy cu (by omega) (by omega) (by omega) (cd_cv_step hin (fun q1 _ _ _ _ _ _ => absurd q1.2 hth1)) H locs hP hD hS ls (lv_sub hl [0, 1, 2] rfl)
  refine lv_iconst (v := cd_I 0) hx hb dX1_possible_0 rfl ?_
  refine lv_istore_n (lv' := [(1, .int (cd_I 0)), (0, .ref o0)]) hx hb dX1_possible_1 rfl hl (by decide) rfl (fun ls hl => ?_)
  refine lv_iload_n hx hb dX1_possible_2 rfl (lv_at hl 0 rfl) ?_
  refine lv_bipush (v := cd_I 14) hx hb dX1_possible_3 (by decide) ?_
  refine cd_icmp_ge (tgt := 64) hx hb ⟨by decide, by decide⟩ ⟨by decide, by decide⟩ dX1_possible_5 (by decide) (fun c_11 => absurd c_11 (by decide)) (fun c_11 => ?_)
  refine lv_iconst (v := cd_I 0) hx hb dX1_possible_8 rfl ?_
  refine lv_istore_n (lv' := [(2, .int (cd_I 0)), (1, .int (cd_I 0)), (0, .ref o0)]) hx hb dX1_possible_9 rfl hl (by decide) rfl (fun ls hl => ?_)
  exact loop 210 0 0 cx cy cu (by decide) (by decide) (by decide) (fun X Y W q _ => cd_cv_0 q) s.heap [] hP hD hS ls (lv_sub hl [0, 1, 2] rfl)

set_option maxHeartbeats 4000000 in
set_option maxRecDepth 100000 in
/-- spared -/
theorem xm_spared (l : Launch) (dC : Nat → ClassId) (dI : Nat → Nat → Nat) (dA : ClassId) (o0 o1 o2 o3 o4 h lv : Nat) (fa fb fc : Nat → Int) (fl : Nat → Nat) (cx cy cu kn bx by_ bu ap aq : Int) (sz k : Nat) (hkh : k < h) (hok : cd_okM fa fb fc h) : Met l yX1_spared (ws_ yX1_spared cX1_spared 4 (some .boolean)) ({ frames := 2, cells := 0, slots := 0, locals := 44 }) (va_Pc [.ref o0, .int (cd_I ((k : Nat) : Int))] (cd_W1 (dC, dI) vwCl [(dA, .int)] (cd_M dA o0 o1 o2 o3 o4 h lv fa fb fc fl cx cy cu kn bx by_ bu ap aq) sz)) (va_Qi (fun (r : Int32) (u : Int × Int × Int) => (r = cd_I 1 ∧ cd_spM fa fb fc h k) ∨ (r = cd_I 0 ∧ ¬ cd_spM fa fb fc h k)) (cd_B (dC, dI) vwCl (va_A (cd_M dA o0 o1 o2 o3 o4 h lv fa fb fc fl cx cy cu kn bx by_ bu ap aq) sz) (fun u : Int × Int × Int => (cd_M dA o0 o1 o2 o3 o4 h lv fa fb fc fl u.1 u.2.1 u.2.2 kn bx by_ bu ap aq))) (va_A (cd_M dA o0 o1 o2 o3 o4 h lv fa fb fc fl cx cy cu kn bx by_ bu ap aq) sz)) 0 0 (va_A (cd_M dA o0 o1 o2 o3 o4 h lv fa fb fc fl cx cy cu kn bx by_ bu ap aq) sz) := by
  refine Met.ofW (cc := cX1_spared) (maxL := 4) (ret := (some .boolean)) (by decide) rfl ?_
  intro p e s m args below meth c s₁ B hml hv
  obtain ⟨rfl, hsz, hP, hK, hD0⟩ := hv
  have hx := B.exec
  have hb := B.bytes
  have hr := B.returns
  have hts := atoms_spec (ws := (ws_ yX1_spared cX1_spared 4 (some .boolean))) B.pre
  have hts : ∀ w ∈ lw_all, w.before _ s = true := fun w h => hts w (List.mem_cons_of_mem _ h)
  have hown : s.vm.findClass RX1 = some m.cls := findClass_of_methodNamed B.named
  have hlocks := B.notSynchronized
  subst hsz
  have hD := hD0.self (sz := s.heap.size)
  generalize hAe : va_A (cd_M dA o0 o1 o2 o3 o4 h lv fa fb fc fl cx cy cu kn bx by_ bu ap aq) s.heap.size = A at hD ⊢
  have hA : ∀ q : Nat, s.heap.size ≤ q → A q := fun q h => by rw [← hAe]; exact Or.inr h
  have hS : va_S A s.heap s.heap [] := va_S.rf
  have hl := lv_entry ([.ref o0, .int (cd_I ((k : Nat) : Int))]) (n := 4) (Nat.le_of_ble_eq_true rfl)
  rw [lg_entry_eq]
  generalize (lg_sl ([.ref o0, .int (cd_I ((k : Nat) : Int))]) ++ List.replicate (4 - (lg_sl ([.ref o0, .int (cd_I ((k : Nat) : Int))])).length) Slot.unset).toArray = ls at hl ⊢
  have hl : lv_has ls 4 [(0, .ref o0), (1, .int (cd_I ((k : Nat) : Int)))] := hl
  have hP : va_P (dC, dI) vwCl [(o0, .inr (1, [.int (cd_I ((h : Nat) : Int)), .int (cd_I ((lv : Nat) : Int)), .ref o1, .ref o2, .ref o3, .ref o4, .long (cd_L cx), .long (cd_L cy), .long (cd_L cu), .int (cd_I kn), .long (cd_L bx), .long (cd_L by_), .long (cd_L bu), .int (cd_I ap), .int (cd_I aq)])), (o1, .inl (dA, 8, .inl (cd_n fl))), (o2, .inl (dA, 14, .inl (cd_c fa))), (o3, .inl (dA, 14, .inl (cd_c fb))), (o4, .inl (dA, 14, .inl (cd_c fc)))] s.heap := hP
  have hD : va_D A [(o0, .inr (1, [.int (cd_I ((h : Nat) : Int)), .int (cd_I ((lv : Nat) : Int)), .ref o1, .ref o2, .ref o3, .ref o4, .long (cd_L cx), .long (cd_L cy), .long (cd_L cu), .int (cd_I kn), .long (cd_L bx), .long (cd_L by_), .long (cd_L bu), .int (cd_I ap), .int (cd_I aq)])), (o1, .inl (dA, 8, .inl (cd_n fl))), (o2, .inl (dA, 14, .inl (cd_c fa))), (o3, .inl (dA, 14, .inl (cd_c fb))), (o4, .inl (dA, 14, .inl (cd_c fc)))] := hD
  have hh10 : h ≤ 10 := hok.1
  have loop : ∀ (f i j : Nat) (cx cy cu : Int), i < 14 → j ≤ i → 210 ≤ 15 * i + j + f → (∀ X Y W : Int, cd_cv fa fb fc (cd_T h ((k : Nat) : Int)) i j X Y W → cd_feas fa fb fc (cd_T h ((k : Nat) : Int)) X Y W → cd_sat (fa k) (fb k) (fc k) X Y W) → ∀ (H : Heap) (locs : List Loc), va_P (dC, dI) vwCl (cd_M dA o0 o1 o2 o3 o4 h lv fa fb fc fl cx cy cu kn bx by_ bu ap aq) H → va_D A (cd_M dA o0 o1 o2 o3 o4 h lv fa fb fc fl cx cy cu kn bx by_ bu ap aq) → va_S A s.heap H locs → ∀ ls : Array Slot, lv_has ls 4 [(3, .int (cd_I ((j : Nat) : Int))), (2, .int (cd_I ((i : Nat) : Int))), (0, .ref o0), (1, .int (cd_I ((k : Nat) : Int)))] → W p l e (headSpec (ws_ yX1_spared cX1_spared 4 (some .boolean)) ({ frames := 2, cells := 0, slots := 0, locals := 44 })).room s m ([.ref o0, .int (cd_I ((k : Nat) : Int))] : List Value).toArray below meth c H locs 0 0 (MQ below (va_Qi (fun (r : Int32) (u : Int × Int × Int) => (r = cd_I 1 ∧ cd_spM fa fb fc h k) ∨ (r = cd_I 0 ∧ ¬ cd_spM fa fb fc h k)) (cd_B (dC, dI) vwCl A (fun u : Int × Int × Int => (cd_M dA o0 o1 o2 o3 o4 h lv fa fb fc fl u.1 u.2.1 u.2.2 kn bx by_ bu ap aq))) A) ([.ref o0, .int (cd_I ((k : Nat) : Int))] : List Value).toArray s 0 0 A) (F0 m 10 ls []) := by
    intro f
    induction f with
    | zero =>
      intro i j cx cy cu h1 h2 h3
      exact absurd h3 (by omega)
    | succ f ih =>
      intro i j cx cy cu hi hj hf hin H locs hP hD hS ls hl
      have hP : va_P (dC, dI) vwCl [(o0, .inr (1, [.int (cd_I ((h : Nat) : Int)), .int (cd_I ((lv : Nat) : Int)), .ref o1, .ref o2, .ref o3, .ref o4, .long (cd_L cx), .long (cd_L cy), .long (cd_L cu), .int (cd_I kn), .long (cd_L bx), .long (cd_L by_), .long (cd_L bu), .int (cd_I ap), .int (cd_I aq)])), (o1, .inl (dA, 8, .inl (cd_n fl))), (o2, .inl (dA, 14, .inl (cd_c fa))), (o3, .inl (dA, 14, .inl (cd_c fb))), (o4, .inl (dA, 14, .inl (cd_c fc)))] H := hP
      have hD : va_D A [(o0, .inr (1, [.int (cd_I ((h : Nat) : Int)), .int (cd_I ((lv : Nat) : Int)), .ref o1, .ref o2, .ref o3, .ref o4, .long (cd_L cx), .long (cd_L cy), .long (cd_L cu), .int (cd_I kn), .long (cd_L bx), .long (cd_L by_), .long (cd_L bu), .int (cd_I ap), .int (cd_I aq)])), (o1, .inl (dA, 8, .inl (cd_n fl))), (o2, .inl (dA, 14, .inl (cd_c fa))), (o3, .inl (dA, 14, .inl (cd_c fb))), (o4, .inl (dA, 14, .inl (cd_c fc)))] := hD
      refine lv_iload_n hx hb dX1_spared_10 rfl (lv_at hl 0 rfl) ?_
      refine lv_iload_n hx hb dX1_spared_11 rfl (lv_at hl 1 rfl) ?_
      refine cd_icmp_ge (tgt := 66) hx hb ⟨by omega, by omega⟩ ⟨by omega, by omega⟩ dX1_spared_12 (by decide) (fun c_1 => ?_) (fun c_1 => ?_)
      · have hji : j = i := by omega
        rw [hji] at hin
        refine cd_iinc (x := ((i : Nat) : Int)) (lv' := [(2, .int (cd_I (((i : Nat) : Int) + 1))), (3, .int (cd_I ((j : Nat) : Int))), (0, .ref o0), (1, .int (cd_I ((k : Nat) : Int)))]) hx hb dX1_spared_66 hl (k := 1) rfl (by decide) rfl (fun ls hl => ?_)
        refine lv_goto (tgt := 2) hx hb dX1_spared_69 (by decide) ?_
        refine lv_iload_n hx hb dX1_spared_2 rfl (lv_at hl 0 rfl) ?_
        refine lv_bipush (v := cd_I 14) hx hb dX1_spared_3 (by decide) ?_
        refine cd_icmp_ge (tgt := 72) hx hb (cd_bR32 (cd_bA (show cd_b 100 ((i : Nat) : Int) from ⟨by omega, by omega⟩) (show cd_b 1 1 from ⟨by decide, by decide⟩)) (by decide)) ⟨by decide, by decide⟩ dX1_spared_5 (by decide) (fun c_2 => ?_) (fun c_2 => ?_)
        · have hi13 : i = 13 := by omega
          rw [hi13] at hin
          refine lv_iconst (v := cd_I 1) hx hb dX1_spared_72 rfl ?_
          exact W.zret (v := cd_I 1) hx hb hr rfl (fun t ht hW => ⟨⟨cd_I 1, (cx, cy, cu), rfl, Or.inl ⟨rfl, fun X Y W q1 q2 => hin X Y W (cd_cv_all (fun _ q => q.1) q1) q2⟩, ⟨by rw [ht]; exact hP, hD⟩⟩, hS.F ht⟩) hS.2.2 dX1_spared_73
        · refine lv_iconst (v := cd_I 0) hx hb dX1_spared_8 rfl ?_
          refine lv_istore_n (lv' := [(3, .int (cd_I 0)), (2, .int (cd_I (((i : Nat) : Int) + 1))), (0, .ref o0), (1, .int (cd_I ((k : Nat) : Int)))]) hx hb dX1_spared_9 rfl hl (by decide) rfl (fun ls hl => ?_)
          exact ih (i + 1) 0 cx cy cu (by omega) (by omega) (by omega) (fun X Y W q => hin X Y W (cd_cv_row q)) H locs hP hD hS ls (lv_sub hl [0, 1, 2, 3] rfl)
      · refine lv_aload_n hx hb dX1_spared_15 rfl (lv_at hl 2 rfl) ?_
        refine lv_iload_n hx hb dX1_spared_16 rfl (lv_at hl 1 rfl) ?_
        refine lv_iload_n hx hb dX1_spared_17 rfl (lv_at hl 3 rfl) ?_
        refine cd_call0i (va_runV (As := [.int (cd_I ((i : Nat) : Int)), .int (cd_I ((k : Nat) : Int))]) (rest := []) ⟨hx, hb, hml, hown, hts⟩ (xm_there l dC dI dA o0 o1 o2 o3 o4 h lv fa fb fc fl cx cy cu kn bx by_ bu ap aq i ((k : Nat) : Int) (by omega) ⟨by omega, by omega⟩ hok.1) (cwV 2 hts (lw_V q255 q257 qs10 q20 q258) rfl rfl rfl (by decide +kernel) ⟨Nat.le_of_ble_eq_true rfl, Nat.le_of_ble_eq_true rfl⟩) ⟨cd_bl0, va_recv hK hP (ci := 1) (q0 := 0) rfl rfl, cd_pr0 hP hK⟩ rfl rfl hl.1 rfl (lv_room (Nat.le_of_ble_eq_true rfl)) dX1_spared_18 ⟨Nat.le_of_ble_eq_true rfl, Nat.le_of_ble_eq_true rfl⟩) hP hS (fun r H locs hq hP hS => ?_)
        rcases hq with ⟨rfl, hth1⟩ | ⟨rfl, hth1⟩
        · refine cd_if_eq (tgt := 60) hx hb ⟨by decide, by decide⟩ dX1_spared_21 (by decide) (fun c_3 => absurd c_3 (by decide)) (fun c_3 => ?_)
          refine lv_aload_n hx hb dX1_spared_24 rfl (lv_at hl 2 rfl) ?_
          refine lv_iload_n hx hb dX1_spared_25 rfl (lv_at hl 0 rfl) ?_
          refine lv_iload_n hx hb dX1_spared_26 rfl (lv_at hl 3 rfl) ?_
          refine cd_call0i (va_runV (As := [.int (cd_I ((j : Nat) : Int)), .int (cd_I ((k : Nat) : Int))]) (rest := []) ⟨hx, hb, hml, hown, hts⟩ (xm_there l dC dI dA o0 o1 o2 o3 o4 h lv fa fb fc fl cx cy cu kn bx by_ bu ap aq j ((k : Nat) : Int) (by omega) ⟨by omega, by omega⟩ hok.1) (cwV 2 hts (lw_V q255 q257 qs10 q20 q258) rfl rfl rfl (by decide +kernel) ⟨Nat.le_of_ble_eq_true rfl, Nat.le_of_ble_eq_true rfl⟩) ⟨cd_bl0, va_recv hK hP (ci := 1) (q0 := 0) rfl rfl, cd_pr0 hP hK⟩ rfl rfl hl.1 rfl (lv_room (Nat.le_of_ble_eq_true rfl)) dX1_spared_27 ⟨Nat.le_of_ble_eq_true rfl, Nat.le_of_ble_eq_true rfl⟩) hP hS (fun r H locs hq hP hS => ?_)
          rcases hq with ⟨rfl, hth2⟩ | ⟨rfl, hth2⟩
          · refine cd_if_eq (tgt := 60) hx hb ⟨by decide, by decide⟩ dX1_spared_30 (by decide) (fun c_4 => absurd c_4 (by decide)) (fun c_4 => ?_)
            refine lv_aload_n hx hb dX1_spared_33 rfl (lv_at hl 2 rfl) ?_
            refine lv_iload_n hx hb dX1_spared_34 rfl (lv_at hl 1 rfl) ?_
            refine lv_iload_n hx hb dX1_spared_35 rfl (lv_at hl 0 rfl) ?_
            obtain ⟨ha, hb1, hc1⟩ := hok.2 i (by omega) hth1.2
            obtain ⟨ha2, hb2, hc2⟩ := hok.2 j (by omega) hth2.2
            refine cd_call1i (va_runV (As := [.int (cd_I ((i : Nat) : Int)), .int (cd_I ((j : Nat) : Int))]) (rest := []) ⟨hx, hb, hml, hown, hts⟩ (xm_meet l dC dI dA o0 o1 o2 o3 o4 h lv fa fb fc fl cx cy cu kn bx by_ bu ap aq H.size i j (by omega) (by omega) ha hb1 hc1 ha2 hb2 hc2) (cwV 2 hts (lw_V q259 q261 qs11 q20 q262) rfl rfl rfl (by decide +kernel) ⟨Nat.le_of_ble_eq_true rfl, Nat.le_of_ble_eq_true rfl⟩) ⟨cd_bl1, va_recv hK hP (ci := 1) (q0 := 0) rfl rfl, cd_pr1 hP hK hD⟩ rfl rfl hl.1 rfl (lv_room (Nat.le_of_ble_eq_true rfl)) dX1_spared_36 ⟨Nat.le_of_ble_eq_true rfl, Nat.le_of_ble_eq_true rfl⟩) hD hS hA (fun r u H locs hq hP hD hS => ?_)
            obtain ⟨u1, u2, u3⟩ := u
            have hP : va_P (dC, dI) vwCl [(o0, .inr (1, [.int (cd_I ((h : Nat) : Int)), .int (cd_I ((lv : Nat) : Int)), .ref o1, .ref o2, .ref o3, .ref o4, .long (cd_L u1), .long (cd_L u2), .long (cd_L u3), .int (cd_I kn), .long (cd_L bx), .long (cd_L by_), .long (cd_L bu), .int (cd_I ap), .int (cd_I aq)])), (o1, .inl (dA, 8, .inl (cd_n fl))), (o2, .inl (dA, 14, .inl (cd_c fa))), (o3, .inl (dA, 14, .inl (cd_c fb))), (o4, .inl (dA, 14, .inl (cd_c fc)))] H := hP
            have hD : va_D A [(o0, .inr (1, [.int (cd_I ((h : Nat) : Int)), .int (cd_I ((lv : Nat) : Int)), .ref o1, .ref o2, .ref o3, .ref o4, .long (cd_L u1), .long (cd_L u2), .long (cd_L u3), .int (cd_I kn), .long (cd_L bx), .long (cd_L by_), .long (cd_L bu), .int (cd_I ap), .int (cd_I aq)])), (o1, .inl (dA, 8, .inl (cd_n fl))), (o2, .inl (dA, 14, .inl (cd_c fa))), (o3, .inl (dA, 14, .inl (cd_c fb))), (o4, .inl (dA, 14, .inl (cd_c fc)))] := hD
            have hq : (r = cd_I 1 ∧ cd_cr fa fb fc i j u1 u2 u3) ∨ (r = cd_I 0 ∧ ∀ X Y W : Int, ¬ cd_cr fa fb fc i j X Y W) := hq
            rcases hq with ⟨rfl, hcr⟩ | ⟨rfl, hnm⟩
            · refine cd_if_eq (tgt := 60) hx hb ⟨by decide, by decide⟩ dX1_spared_39 (by decide) (fun c_5 => absurd c_5 (by decide)) (fun c_5 => ?_)
              refine lv_aload_n hx hb dX1_spared_42 rfl (lv_at hl 2 rfl) ?_
              refine lv_iload_n hx hb dX1_spared_43 rfl (lv_at hl 3 rfl) ?_
              obtain ⟨hx1, hy1, hw1, hw0⟩ := cd_cr_b hcr ha hb1 hc1 ha2 hb2 hc2
              refine cd_call0i (va_runV (As := [.int (cd_I ((k : Nat) : Int))]) (rest := []) ⟨hx, hb, hml, hown, hts⟩ (xm_allowed l dC dI dA o0 o1 o2 o3 o4 h lv fa fb fc fl u1 u2 u3 kn bx by_ bu ap aq ((k : Nat) : Int) ⟨by omega, by omega⟩ hok hx1 hy1 hw1) (cwV 1 hts (lw_V q263 q265 qs12 q20 q266) rfl rfl rfl (by decide +kernel) ⟨Nat.le_of_ble_eq_true rfl, Nat.le_of_ble_eq_true rfl⟩) ⟨cd_bl0, va_recv hK hP (ci := 1) (q0 := 0) rfl rfl, cd_pr0 hP hK⟩ rfl rfl hl.1 rfl (lv_room (Nat.le_of_ble_eq_true rfl)) dX1_spared_44 ⟨Nat.le_of_ble_eq_true rfl, Nat.le_of_ble_eq_true rfl⟩) hP hS (fun r H locs hq hP hS => ?_)
              rcases hq with ⟨rfl, hall⟩ | ⟨rfl, hnall⟩
              · refine cd_if_eq (tgt := 60) hx hb ⟨by decide, by decide⟩ dX1_spared_47 (by decide) (fun c_6 => absurd c_6 (by decide)) (fun c_6 => ?_)
                refine lv_aload_n hx hb dX1_spared_50 rfl (lv_at hl 2 rfl) ?_
                refine lv_iload_n hx hb dX1_spared_51 rfl (lv_at hl 3 rfl) ?_
                obtain ⟨ha3, hb3, hc3⟩ := hok.2 k (by omega) (Or.inl hkh)
                refine cd_call0i (va_runV (As := [.int (cd_I ((k : Nat) : Int))]) (rest := []) ⟨hx, hb, hml, hown, hts⟩ (xm_meets l dC dI dA o0 o1 o2 o3 o4 h lv fa fb fc fl u1 u2 u3 kn bx by_ bu ap aq k (by omega) ha3 hb3 hc3 hx1 hy1 hw1) (cwV 1 hts (lw_V q267 q269 qs13 q20 q270) rfl rfl rfl (by decide +kernel) ⟨Nat.le_of_ble_eq_true rfl, Nat.le_of_ble_eq_true rfl⟩) ⟨cd_bl0, va_recv hK hP (ci := 1) (q0 := 0) rfl rfl, cd_pr0 hP hK⟩ rfl rfl hl.1 rfl (lv_room (Nat.le_of_ble_eq_true rfl)) dX1_spared_52 ⟨Nat.le_of_ble_eq_true rfl, Nat.le_of_ble_eq_true rfl⟩) hP hS (fun r H locs hq hP hS => ?_)
                rcases hq with ⟨rfl, hsat⟩ | ⟨rfl, hsat⟩
                · refine cd_if_ne (tgt := 60) hx hb ⟨by decide, by decide⟩ dX1_spared_55 (by decide) (fun c_7 => ?_) (fun c_7 => absurd c_7 (by decide))
                  refine cd_iinc (x := ((j : Nat) : Int)) (lv' := [(3, .int (cd_I (((j : Nat) : Int) + 1))), (2, .int (cd_I ((i : Nat) : Int))), (0, .ref o0), (1, .int (cd_I ((k : Nat) : Int)))]) hx hb dX1_spared_60 hl (k := 0) rfl (by decide) rfl (fun ls hl => ?_)
                  refine lv_goto (tgt := 10) hx hb dX1_spared_63 (by decide) ?_
                  exact ih i (j + 1) u1 u2 u3 (by omega) (by omega) (by omega) (cd_cv_step hin (fun _ _ X Y W hc _ => by obtain ⟨e1, e2, e3⟩ := cd_cr_uniq hc hcr; rw [e1, e2, e3]; exact hsat)) H locs hP hD hS ls (lv_sub hl [0, 1, 2, 3] rfl)
                · refine cd_if_ne (tgt := 60) hx hb ⟨by decide, by decide⟩ dX1_spared_55 (by decide) (fun c_8 => absurd c_8 (by decide)) (fun c_8 => ?_)
                  refine lv_iconst (v := cd_I 0) hx hb dX1_spared_58 rfl ?_
                  exact W.zret (v := cd_I 0) hx hb hr rfl (fun t ht hW => ⟨⟨cd_I 0, (u1, u2, u3), rfl, Or.inr ⟨rfl, fun q => hsat (q u1 u2 u3 ⟨i, j, ⟨by omega, hth1⟩, ⟨by omega, hth2⟩, hcr⟩ ⟨hw0, hall⟩)⟩, ⟨by rw [ht]; exact hP, hD⟩⟩, hS.F ht⟩) hS.2.2 dX1_spared_59
              · refine cd_if_eq (tgt := 60) hx hb ⟨by decide, by decide⟩ dX1_spared_47 (by decide) (fun c_9 => ?_) (fun c_9 => absurd c_9 (by decide))
                refine cd_iinc (x := ((j : Nat) : Int)) (lv' := [(3, .int (cd_I (((j : Nat) : Int) + 1))), (2, .int (cd_I ((i : Nat) : Int))), (0, .ref o0), (1, .int (cd_I ((k : Nat) : Int)))]) hx hb dX1_spared_60 hl (k := 0) rfl (by decide) rfl (fun ls hl => ?_)
                refine lv_goto (tgt := 10) hx hb dX1_spared_63 (by decide) ?_
                exact ih i (j + 1) u1 u2 u3 (by omega) (by omega) (by omega) (cd_cv_step hin (fun _ _ X Y W hc hF => absurd (by obtain ⟨e1, e2, e3⟩ := cd_cr_uniq hc hcr; rw [e1, e2, e3] at hF; exact hF.2) hnall)) H locs hP hD hS ls (lv_sub hl [0, 1, 2, 3] rfl)
            · refine cd_if_eq (tgt := 60) hx hb ⟨by decide, by decide⟩ dX1_spared_39 (by decide) (fun c_10 => ?_) (fun c_10 => absurd c_10 (by decide))
              refine cd_iinc (x := ((j : Nat) : Int)) (lv' := [(3, .int (cd_I (((j : Nat) : Int) + 1))), (2, .int (cd_I ((i : Nat) : Int))), (0, .ref o0), (1, .int (cd_I ((k : Nat) : Int)))]) hx hb dX1_spared_60 hl (k := 0) rfl (by decide) rfl (fun ls hl => ?_)
              refine lv_goto (tgt := 10) hx hb dX1_spared_63 (by decide) ?_
              exact ih i (j + 1) u1 u2 u3 (by omega) (by omega) (by omega) (cd_cv_step hin (fun _ _ X Y W hc _ => absurd hc (hnm X Y W))) H locs hP hD hS ls (lv_sub hl [0, 1, 2, 3] rfl)
          · refine cd_if_eq (tgt := 60) hx hb ⟨by decide, by decide⟩ dX1_spared_30 (by decide) (fun c_11 => ?_) (fun c_11 => absurd c_11 (by decide))
            refine cd_iinc (x := ((j : Nat) : Int)) (lv' := [(3, .int (cd_I (((j : Nat) : Int) + 1))), (2, .int (cd_I ((i : Nat) : Int))), (0, .ref o0), (1, .int (cd_I ((k : Nat) : Int)))]) hx hb dX1_spared_60 hl (k := 0) rfl (by decide) rfl (fun ls hl => ?_)
            refine lv_goto (tgt := 10) hx hb dX1_spared_63 (by decide) ?_
            exact ih i (j + 1) cx cy cu (by omega) (by omega) (by omega) (cd_cv_step hin (fun _ q2 _ _ _ _ _ => absurd q2.2 hth2)) H locs hP hD hS ls (lv_sub hl [0, 1, 2, 3] rfl)
        · refine cd_if_eq (tgt := 60) hx hb ⟨by decide, by decide⟩ dX1_spared_21 (by decide) (fun c_12 => ?_) (fun c_12 => absurd c_12 (by decide))
          refine cd_iinc (x := ((j : Nat) : Int)) (lv' := [(3, .int (cd_I (((j : Nat) : Int) + 1))), (2, .int (cd_I ((i : Nat) : Int))), (0, .ref o0), (1, .int (cd_I ((k : Nat) : Int)))]) hx hb dX1_spared_60 hl (k := 0) rfl (by decide) rfl (fun ls hl => ?_)
          refine lv_goto (tgt := 10) hx hb dX1_spared_63 (by decide) ?_
          exact ih i (j + 1) cx cy cu (by omega) (by omega) (by omega) (cd_cv_step hin (fun q1 _ _ _ _ _ _ => absurd q1.2 hth1)) H locs hP hD hS ls (lv_sub hl [0, 1, 2, 3] rfl)
  refine lv_iconst (v := cd_I 0) hx hb dX1_spared_0 rfl ?_
  refine lv_istore_n (lv' := [(2, .int (cd_I 0)), (0, .ref o0), (1, .int (cd_I ((k : Nat) : Int)))]) hx hb dX1_spared_1 rfl hl (by decide) rfl (fun ls hl => ?_)
  refine lv_iload_n hx hb dX1_spared_2 rfl (lv_at hl 0 rfl) ?_
  refine lv_bipush (v := cd_I 14) hx hb dX1_spared_3 (by decide) ?_
  refine cd_icmp_ge (tgt := 72) hx hb ⟨by decide, by decide⟩ ⟨by decide, by decide⟩ dX1_spared_5 (by decide) (fun c_13 => absurd c_13 (by decide)) (fun c_13 => ?_)
  refine lv_iconst (v := cd_I 0) hx hb dX1_spared_8 rfl ?_
  refine lv_istore_n (lv' := [(3, .int (cd_I 0)), (2, .int (cd_I 0)), (0, .ref o0), (1, .int (cd_I ((k : Nat) : Int)))]) hx hb dX1_spared_9 rfl hl (by decide) rfl (fun ls hl => ?_)
  exact loop 210 0 0 cx cy cu (by decide) (by decide) (by decide) (fun X Y W q _ => (cd_cv_0 q).elim) s.heap [] hP hD hS ls (lv_sub hl [0, 1, 2, 3] rfl)
end
section
/-! CornerDeskModel: its public methods -/
def cd_ga0 : Nat → Int := cd_u (cd_u (cd_u (cd_u (fun _ => 0) 10 1) 11 (-1)) 12 0) 13 0
def cd_gb0 : Nat → Int := cd_u (cd_u (cd_u (cd_u (fun _ => 0) 10 0) 11 0) 12 1) 13 (-1)
def cd_gc0 : Nat → Int := cd_u (cd_u (cd_u (cd_u (fun _ => 0) 10 50) 11 50) 12 50) 13 50
set_option maxHeartbeats 4000000 in
set_option maxRecDepth 100000 in
/-- the constructor -/
theorem xm_init (l : Launch) (dC : Nat → ClassId) (dI : Nat → Nat → Nat) (dA : ClassId) (o0 sz : Nat) : Met l yX1_init (ws_ yX1_init cX1_init 1 none) ({ frames := 1, cells := 4, slots := 50, locals := 24 }) (va_Pc [.ref o0] (cd_W1 (dC, dI) vwCl [(dA, .int)] [(o0, .inr (1, [.int (cd_I 0), .int (cd_I 0), .null, .null, .null, .null, .long (cd_L 0), .long (cd_L 0), .long (cd_L 0), .int (cd_I 0), .long (cd_L 0), .long (cd_L 0), .long (cd_L 0), .int (cd_I 0), .int (cd_I 0)]))] sz)) (va_Qv (fun (u : Nat × Nat × Nat × Nat) => True) (cd_B (dC, dI) vwCl (va_A [(o0, .inr (1, [.int (cd_I 0), .int (cd_I 0), .null, .null, .null, .null, .long (cd_L 0), .long (cd_L 0), .long (cd_L 0), .int (cd_I 0), .long (cd_L 0), .long (cd_L 0), .long (cd_L 0), .int (cd_I 0), .int (cd_I 0)]))] sz) (fun u : Nat × Nat × Nat × Nat => cd_M dA o0 u.1 u.2.1 u.2.2.1 u.2.2.2 0 1 cd_ga0 cd_gb0 cd_gc0 (fun _ => 0) 0 0 0 0 0 0 0 0 0)) (va_A [(o0, .inr (1, [.int (cd_I 0), .int (cd_I 0), .null, .null, .null, .null, .long (cd_L 0), .long (cd_L 0), .long (cd_L 0), .int (cd_I 0), .long (cd_L 0), .long (cd_L 0), .long (cd_L 0), .int (cd_I 0), .int (cd_I 0)]))] sz)) 4 50 (va_A [(o0, .inr (1, [.int (cd_I 0), .int (cd_I 0), .null, .null, .null, .null, .long (cd_L 0), .long (cd_L 0), .long (cd_L 0), .int (cd_I 0), .long (cd_L 0), .long (cd_L 0), .long (cd_L 0), .int (cd_I 0), .int (cd_I 0)]))] sz) := by
  refine Met.ofW (cc := cX1_init) (maxL := 1) (ret := none) (by decide) rfl ?_
  intro p e s m args below meth c s₁ B hml hv
  obtain ⟨rfl, hsz, hP, hK, hD0⟩ := hv
  have hx := B.exec
  have hb := B.bytes
  have hr := B.returns
  have hts := atoms_spec (ws := (ws_ yX1_init cX1_init 1 none)) B.pre
  have hts : ∀ w ∈ lw_all, w.before _ s = true := fun w h => hts w (List.mem_cons_of_mem _ h)
  have hown : s.vm.findClass RX1 = some m.cls := findClass_of_methodNamed B.named
  have hlocks := B.notSynchronized
  have hini : meth.name = "<init>" := (name_of_methodNamed B.named B.method).1
  subst hsz
  have hD := hD0.self (sz := s.heap.size)
  generalize hAe : va_A [(o0, .inr (1, [.int (cd_I 0), .int (cd_I 0), .null, .null, .null, .null, .long (cd_L 0), .long (cd_L 0), .long (cd_L 0), .int (cd_I 0), .long (cd_L 0), .long (cd_L 0), .long (cd_L 0), .int (cd_I 0), .int (cd_I 0)]))] s.heap.size = A at hD ⊢
  have hA : ∀ q : Nat, s.heap.size ≤ q → A q := fun q h => by rw [← hAe]; exact Or.inr h
  have hS : va_S A s.heap s.heap [] := va_S.rf
  have hl := lv_entry ([.ref o0]) (n := 1) (Nat.le_of_ble_eq_true rfl)
  rw [lg_entry_eq]
  generalize (lg_sl ([.ref o0]) ++ List.replicate (1 - (lg_sl ([.ref o0])).length) Slot.unset).toArray = ls at hl ⊢
  have hl : lv_has ls 1 [(0, .ref o0)] := hl
  have hP : va_P (dC, dI) vwCl [(o0, .inr (1, [.int (cd_I 0), .int (cd_I 0), .null, .null, .null, .null, .long (cd_L 0), .long (cd_L 0), .long (cd_L 0), .int (cd_I 0), .long (cd_L 0), .long (cd_L 0), .long (cd_L 0), .int (cd_I 0), .int (cd_I 0)]))] s.heap := hP
  have hD : va_D A [(o0, .inr (1, [.int (cd_I 0), .int (cd_I 0), .null, .null, .null, .null, .long (cd_L 0), .long (cd_L 0), .long (cd_L 0), .int (cd_I 0), .long (cd_L 0), .long (cd_L 0), .long (cd_L 0), .int (cd_I 0), .int (cd_I 0)]))] := hD
  refine lv_aload_n hx hb dX1_init_0 rfl (lv_at hl 0 rfl) ?_
  refine W.objInit hx hb hown (hts _ q185) (hts _ q27) (hts _ q28) rfl (by rw [hml]; exact hl.1) rfl dX1_init_1 (Nat.le_of_ble_eq_true rfl) (Nat.le_of_ble_eq_true rfl) ?_
  refine W.eq (g2 := F0 m 4 ls []) rfl ?_
  refine lv_aload_n hx hb dX1_init_4 rfl (lv_at hl 0 rfl) ?_
  refine lv_iconst (v := cd_I 1) hx hb dX1_init_5 rfl ?_
  refine cd_put1 (v := .int (cd_I 1)) (ty := .int) hx hb hts hown hK hP hD hS 0 rfl 1 (by decide) q191 rfl rfl rfl rfl rfl (Nat.le_of_ble_eq_true rfl) dX1_init_6 (fun H locs hP hD hS => ?_)
  have hP : va_P (dC, dI) vwCl [(o0, .inr (1, [.int (cd_I 0), .int (cd_I 1), .null, .null, .null, .null, .long (cd_L 0), .long (cd_L 0), .long (cd_L 0), .int (cd_I 0), .long (cd_L 0), .long (cd_L 0), .long (cd_L 0), .int (cd_I 0), .int (cd_I 0)]))] H := hP
  have hD : va_D A [(o0, .inr (1, [.int (cd_I 0), .int (cd_I 1), .null, .null, .null, .null, .long (cd_L 0), .long (cd_L 0), .long (cd_L 0), .int (cd_I 0), .long (cd_L 0), .long (cd_L 0), .long (cd_L 0), .int (cd_I 0), .int (cd_I 0)]))] := hD
  refine lv_aload_n hx hb dX1_init_9 rfl (lv_at hl 0 rfl) ?_
  refine lv_bipush (v := cd_I 8) hx hb dX1_init_10 (by decide) ?_
  refine va_newa (atype := .int) (a0 := (8, .inl (cd_n (fun _ => 0)))) (N' := 8) (ty := .int) hx hb (hts _ q99) rfl hK hP hD hS hA (fun cA => by rw [← cd_n0]; rfl) (by decide) (by decide) (by decide) (Nat.le_of_ble_eq_true rfl) (Nat.le_of_ble_eq_true rfl) dX1_init_12 (fun q1 cA H hK hP hD hS => ?_)
  have eA : dA = cA := Option.some.inj ((hK.2 0 _ rfl).2.symm.trans (hK.2 1 _ rfl).2)
  subst eA
  have hK : va_K (dC, dI) vwCl [(dA, .int)] s := hK.sub [0] rfl
  have hP : va_P (dC, dI) vwCl [(o0, .inr (1, [.int (cd_I 0), .int (cd_I 1), .null, .null, .null, .null, .long (cd_L 0), .long (cd_L 0), .long (cd_L 0), .int (cd_I 0), .long (cd_L 0), .long (cd_L 0), .long (cd_L 0), .int (cd_I 0), .int (cd_I 0)])), (q1, .inl (dA, 8, .inl (cd_n (fun _ => 0))))] H := hP
  have hD : va_D A [(o0, .inr (1, [.int (cd_I 0), .int (cd_I 1), .null, .null, .null, .null, .long (cd_L 0), .long (cd_L 0), .long (cd_L 0), .int (cd_I 0), .long (cd_L 0), .long (cd_L 0), .long (cd_L 0), .int (cd_I 0), .int (cd_I 0)])), (q1, .inl (dA, 8, .inl (cd_n (fun _ => 0))))] := hD
  refine cd_putF1 (v := .ref q1) (ty := .array .int) hx hb hts hown hK hP hD hS 0 rfl 2 (by decide) q192 rfl rfl hini rfl rfl rfl (Nat.le_of_ble_eq_true rfl) dX1_init_14 (fun H locs hP hD hS => ?_)
  have hP : va_P (dC, dI) vwCl [(o0, .inr (1, [.int (cd_I 0), .int (cd_I 1), .ref q1, .null, .null, .null, .long (cd_L 0), .long (cd_L 0), .long (cd_L 0), .int (cd_I 0), .long (cd_L 0), .long (cd_L 0), .long (cd_L 0), .int (cd_I 0), .int (cd_I 0)])), (q1, .inl (dA, 8, .inl (cd_n (fun _ => 0))))] H := hP
  have hD : va_D A [(o0, .inr (1, [.int (cd_I 0), .int (cd_I 1), .ref q1, .null, .null, .null, .long (cd_L 0), .long (cd_L 0), .long (cd_L 0), .int (cd_I 0), .long (cd_L 0), .long (cd_L 0), .long (cd_L 0), .int (cd_I 0), .int (cd_I 0)])), (q1, .inl (dA, 8, .inl (cd_n (fun _ => 0))))] := hD
  refine lv_aload_n hx hb dX1_init_17 rfl (lv_at hl 0 rfl) ?_
  refine lv_bipush (v := cd_I 14) hx hb dX1_init_18 (by decide) ?_
  refine va_newa (atype := .int) (a0 := (14, .inl (cd_c (fun _ => 0)))) (N' := 14) (ty := .int) hx hb (hts _ q99) rfl hK hP hD hS hA (fun cA => by rw [← cd_c0]; rfl) (by decide) (by decide) (by decide) (Nat.le_of_ble_eq_true rfl) (Nat.le_of_ble_eq_true rfl) dX1_init_20 (fun q2 cA H hK hP hD hS => ?_)
  have eA : dA = cA := Option.some.inj ((hK.2 0 _ rfl).2.symm.trans (hK.2 1 _ rfl).2)
  subst eA
  have hK : va_K (dC, dI) vwCl [(dA, .int)] s := hK.sub [0] rfl
  have hP : va_P (dC, dI) vwCl [(o0, .inr (1, [.int (cd_I 0), .int (cd_I 1), .ref q1, .null, .null, .null, .long (cd_L 0), .long (cd_L 0), .long (cd_L 0), .int (cd_I 0), .long (cd_L 0), .long (cd_L 0), .long (cd_L 0), .int (cd_I 0), .int (cd_I 0)])), (q1, .inl (dA, 8, .inl (cd_n (fun _ => 0)))), (q2, .inl (dA, 14, .inl (cd_c (fun _ => 0))))] H := hP
  have hD : va_D A [(o0, .inr (1, [.int (cd_I 0), .int (cd_I 1), .ref q1, .null, .null, .null, .long (cd_L 0), .long (cd_L 0), .long (cd_L 0), .int (cd_I 0), .long (cd_L 0), .long (cd_L 0), .long (cd_L 0), .int (cd_I 0), .int (cd_I 0)])), (q1, .inl (dA, 8, .inl (cd_n (fun _ => 0)))), (q2, .inl (dA, 14, .inl (cd_c (fun _ => 0))))] := hD
  refine cd_putF1 (v := .ref q2) (ty := .array .int) hx hb hts hown hK hP hD hS 0 rfl 3 (by decide) q193 rfl rfl hini rfl rfl rfl (Nat.le_of_ble_eq_true rfl) dX1_init_22 (fun H locs hP hD hS => ?_)
  have hP : va_P (dC, dI) vwCl [(o0, .inr (1, [.int (cd_I 0), .int (cd_I 1), .ref q1, .ref q2, .null, .null, .long (cd_L 0), .long (cd_L 0), .long (cd_L 0), .int (cd_I 0), .long (cd_L 0), .long (cd_L 0), .long (cd_L 0), .int (cd_I 0), .int (cd_I 0)])), (q1, .inl (dA, 8, .inl (cd_n (fun _ => 0)))), (q2, .inl (dA, 14, .inl (cd_c (fun _ => 0))))] H := hP
  have hD : va_D A [(o0, .inr (1, [.int (cd_I 0), .int (cd_I 1), .ref q1, .ref q2, .null, .null, .long (cd_L 0), .long (cd_L 0), .long (cd_L 0), .int (cd_I 0), .long (cd_L 0), .long (cd_L 0), .long (cd_L 0), .int (cd_I 0), .int (cd_I 0)])), (q1, .inl (dA, 8, .inl (cd_n (fun _ => 0)))), (q2, .inl (dA, 14, .inl (cd_c (fun _ => 0))))] := hD
  refine lv_aload_n hx hb dX1_init_25 rfl (lv_at hl 0 rfl) ?_
  refine lv_bipush (v := cd_I 14) hx hb dX1_init_26 (by decide) ?_
  refine va_newa (atype := .int) (a0 := (14, .inl (cd_c (fun _ => 0)))) (N' := 14) (ty := .int) hx hb (hts _ q99) rfl hK hP hD hS hA (fun cA => by rw [← cd_c0]; rfl) (by decide) (by decide) (by decide) (Nat.le_of_ble_eq_true rfl) (Nat.le_of_ble_eq_true rfl) dX1_init_28 (fun q3 cA H hK hP hD hS => ?_)
  have eA : dA = cA := Option.some.inj ((hK.2 0 _ rfl).2.symm.trans (hK.2 1 _ rfl).2)
  subst eA
  have hK : va_K (dC, dI) vwCl [(dA, .int)] s := hK.sub [0] rfl
  have hP : va_P (dC, dI) vwCl [(o0, .inr (1, [.int (cd_I 0), .int (cd_I 1), .ref q1, .ref q2, .null, .null, .long (cd_L 0), .long (cd_L 0), .long (cd_L 0), .int (cd_I 0), .long (cd_L 0), .long (cd_L 0), .long (cd_L 0), .int (cd_I 0), .int (cd_I 0)])), (q1, .inl (dA, 8, .inl (cd_n (fun _ => 0)))), (q2, .inl (dA, 14, .inl (cd_c (fun _ => 0)))), (q3, .inl (dA, 14, .inl (cd_c (fun _ => 0))))] H := hP
  have hD : va_D A [(o0, .inr (1, [.int (cd_I 0), .int (cd_I 1), .ref q1, .ref q2, .null, .null, .long (cd_L 0), .long (cd_L 0), .long (cd_L 0), .int (cd_I 0), .long (cd_L 0), .long (cd_L 0), .long (cd_L 0), .int (cd_I 0), .int (cd_I 0)])), (q1, .inl (dA, 8, .inl (cd_n (fun _ => 0)))), (q2, .inl (dA, 14, .inl (cd_c (fun _ => 0)))), (q3, .inl (dA, 14, .inl (cd_c (fun _ => 0))))] := hD
  refine cd_putF1 (v := .ref q3) (ty := .array .int) hx hb hts hown hK hP hD hS 0 rfl 4 (by decide) q194 rfl rfl hini rfl rfl rfl (Nat.le_of_ble_eq_true rfl) dX1_init_30 (fun H locs hP hD hS => ?_)
  have hP : va_P (dC, dI) vwCl [(o0, .inr (1, [.int (cd_I 0), .int (cd_I 1), .ref q1, .ref q2, .ref q3, .null, .long (cd_L 0), .long (cd_L 0), .long (cd_L 0), .int (cd_I 0), .long (cd_L 0), .long (cd_L 0), .long (cd_L 0), .int (cd_I 0), .int (cd_I 0)])), (q1, .inl (dA, 8, .inl (cd_n (fun _ => 0)))), (q2, .inl (dA, 14, .inl (cd_c (fun _ => 0)))), (q3, .inl (dA, 14, .inl (cd_c (fun _ => 0))))] H := hP
  have hD : va_D A [(o0, .inr (1, [.int (cd_I 0), .int (cd_I 1), .ref q1, .ref q2, .ref q3, .null, .long (cd_L 0), .long (cd_L 0), .long (cd_L 0), .int (cd_I 0), .long (cd_L 0), .long (cd_L 0), .long (cd_L 0), .int (cd_I 0), .int (cd_I 0)])), (q1, .inl (dA, 8, .inl (cd_n (fun _ => 0)))), (q2, .inl (dA, 14, .inl (cd_c (fun _ => 0)))), (q3, .inl (dA, 14, .inl (cd_c (fun _ => 0))))] := hD
  refine lv_aload_n hx hb dX1_init_33 rfl (lv_at hl 0 rfl) ?_
  refine lv_bipush (v := cd_I 14) hx hb dX1_init_34 (by decide) ?_
  refine va_newa (atype := .int) (a0 := (14, .inl (cd_c (fun _ => 0)))) (N' := 14) (ty := .int) hx hb (hts _ q99) rfl hK hP hD hS hA (fun cA => by rw [← cd_c0]; rfl) (by decide) (by decide) (by decide) (Nat.le_of_ble_eq_true rfl) (Nat.le_of_ble_eq_true rfl) dX1_init_36 (fun q4 cA H hK hP hD hS => ?_)
  have eA : dA = cA := Option.some.inj ((hK.2 0 _ rfl).2.symm.trans (hK.2 1 _ rfl).2)
  subst eA
  have hK : va_K (dC, dI) vwCl [(dA, .int)] s := hK.sub [0] rfl
  have hP : va_P (dC, dI) vwCl [(o0, .inr (1, [.int (cd_I 0), .int (cd_I 1), .ref q1, .ref q2, .ref q3, .null, .long (cd_L 0), .long (cd_L 0), .long (cd_L 0), .int (cd_I 0), .long (cd_L 0), .long (cd_L 0), .long (cd_L 0), .int (cd_I 0), .int (cd_I 0)])), (q1, .inl (dA, 8, .inl (cd_n (fun _ => 0)))), (q2, .inl (dA, 14, .inl (cd_c (fun _ => 0)))), (q3, .inl (dA, 14, .inl (cd_c (fun _ => 0)))), (q4, .inl (dA, 14, .inl (cd_c (fun _ => 0))))] H := hP
  have hD : va_D A [(o0, .inr (1, [.int (cd_I 0), .int (cd_I 1), .ref q1, .ref q2, .ref q3, .null, .long (cd_L 0), .long (cd_L 0), .long (cd_L 0), .int (cd_I 0), .long (cd_L 0), .long (cd_L 0), .long (cd_L 0), .int (cd_I 0), .int (cd_I 0)])), (q1, .inl (dA, 8, .inl (cd_n (fun _ => 0)))), (q2, .inl (dA, 14, .inl (cd_c (fun _ => 0)))), (q3, .inl (dA, 14, .inl (cd_c (fun _ => 0)))), (q4, .inl (dA, 14, .inl (cd_c (fun _ => 0))))] := hD
  refine cd_putF1 (v := .ref q4) (ty := .array .int) hx hb hts hown hK hP hD hS 0 rfl 5 (by decide) q195 rfl rfl hini rfl rfl rfl (Nat.le_of_ble_eq_true rfl) dX1_init_38 (fun H locs hP hD hS => ?_)
  have hP : va_P (dC, dI) vwCl [(o0, .inr (1, [.int (cd_I 0), .int (cd_I 1), .ref q1, .ref q2, .ref q3, .ref q4, .long (cd_L 0), .long (cd_L 0), .long (cd_L 0), .int (cd_I 0), .long (cd_L 0), .long (cd_L 0), .long (cd_L 0), .int (cd_I 0), .int (cd_I 0)])), (q1, .inl (dA, 8, .inl (cd_n (fun _ => 0)))), (q2, .inl (dA, 14, .inl (cd_c (fun _ => 0)))), (q3, .inl (dA, 14, .inl (cd_c (fun _ => 0)))), (q4, .inl (dA, 14, .inl (cd_c (fun _ => 0))))] H := hP
  have hD : va_D A [(o0, .inr (1, [.int (cd_I 0), .int (cd_I 1), .ref q1, .ref q2, .ref q3, .ref q4, .long (cd_L 0), .long (cd_L 0), .long (cd_L 0), .int (cd_I 0), .long (cd_L 0), .long (cd_L 0), .long (cd_L 0), .int (cd_I 0), .int (cd_I 0)])), (q1, .inl (dA, 8, .inl (cd_n (fun _ => 0)))), (q2, .inl (dA, 14, .inl (cd_c (fun _ => 0)))), (q3, .inl (dA, 14, .inl (cd_c (fun _ => 0)))), (q4, .inl (dA, 14, .inl (cd_c (fun _ => 0))))] := hD
  refine lv_aload_n hx hb dX1_init_41 rfl (lv_at hl 0 rfl) ?_
  refine lv_bipush (v := cd_I 10) hx hb dX1_init_42 (by decide) ?_
  refine lv_iconst (v := cd_I 1) hx hb dX1_init_44 rfl ?_
  refine lv_iconst (v := cd_I 0) hx hb dX1_init_45 rfl ?_
  refine lv_bipush (v := cd_I 50) hx hb dX1_init_46 (by decide) ?_
  refine cd_call1v (va_runV (As := [.int (cd_I 10), .int (cd_I 1), .int (cd_I 0), .int (cd_I 50)]) (rest := []) ⟨hx, hb, hml, hown, hts⟩ (xm_write l dC dI dA o0 q1 q2 q3 q4 0 1 (fun _ => 0) (fun _ => 0) (fun _ => 0) (fun _ => 0) 0 0 0 0 0 0 0 0 0 H.size 10 1 0 50 (by decide)) (cwV 4 hts (lw_V q186 q188 qs9 q20 q189) rfl rfl rfl (by decide +kernel) ⟨Nat.le_of_ble_eq_true rfl, Nat.le_of_ble_eq_true rfl⟩) ⟨cd_bl1, va_recv hK hP (ci := 1) (q0 := 0) rfl rfl, cd_pr1 hP hK hD⟩ rfl rfl hl.1 rfl (lv_room (Nat.le_of_ble_eq_true rfl)) dX1_init_48 ⟨Nat.le_of_ble_eq_true rfl, Nat.le_of_ble_eq_true rfl⟩) hD hS hA (fun u H locs hq hP hD hS => ?_)
  have hP : va_P (dC, dI) vwCl [(o0, .inr (1, [.int (cd_I 0), .int (cd_I 1), .ref q1, .ref q2, .ref q3, .ref q4, .long (cd_L 0), .long (cd_L 0), .long (cd_L 0), .int (cd_I 0), .long (cd_L 0), .long (cd_L 0), .long (cd_L 0), .int (cd_I 0), .int (cd_I 0)])), (q1, .inl (dA, 8, .inl (cd_n (fun _ => 0)))), (q2, .inl (dA, 14, .inl (cd_c (cd_u (fun _ => 0) 10 1)))), (q3, .inl (dA, 14, .inl (cd_c (cd_u (fun _ => 0) 10 0)))), (q4, .inl (dA, 14, .inl (cd_c (cd_u (fun _ => 0) 10 50))))] H := hP
  have hD : va_D A [(o0, .inr (1, [.int (cd_I 0), .int (cd_I 1), .ref q1, .ref q2, .ref q3, .ref q4, .long (cd_L 0), .long (cd_L 0), .long (cd_L 0), .int (cd_I 0), .long (cd_L 0), .long (cd_L 0), .long (cd_L 0), .int (cd_I 0), .int (cd_I 0)])), (q1, .inl (dA, 8, .inl (cd_n (fun _ => 0)))), (q2, .inl (dA, 14, .inl (cd_c (cd_u (fun _ => 0) 10 1)))), (q3, .inl (dA, 14, .inl (cd_c (cd_u (fun _ => 0) 10 0)))), (q4, .inl (dA, 14, .inl (cd_c (cd_u (fun _ => 0) 10 50))))] := hD
  refine lv_aload_n hx hb dX1_init_51 rfl (lv_at hl 0 rfl) ?_
  refine lv_bipush (v := cd_I 11) hx hb dX1_init_52 (by decide) ?_
  refine lv_iconst (v := cd_I (-1)) hx hb dX1_init_54 rfl ?_
  refine lv_iconst (v := cd_I 0) hx hb dX1_init_55 rfl ?_
  refine lv_bipush (v := cd_I 50) hx hb dX1_init_56 (by decide) ?_
  refine cd_call1v (va_runV (As := [.int (cd_I 11), .int (cd_I (-1)), .int (cd_I 0), .int (cd_I 50)]) (rest := []) ⟨hx, hb, hml, hown, hts⟩ (xm_write l dC dI dA o0 q1 q2 q3 q4 0 1 (cd_u (fun _ => 0) 10 1) (cd_u (fun _ => 0) 10 0) (cd_u (fun _ => 0) 10 50) (fun _ => 0) 0 0 0 0 0 0 0 0 0 H.size 11 (-1) 0 50 (by decide)) (cwV 4 hts (lw_V q186 q188 qs9 q20 q189) rfl rfl rfl (by decide +kernel) ⟨Nat.le_of_ble_eq_true rfl, Nat.le_of_ble_eq_true rfl⟩) ⟨cd_bl1, va_recv hK hP (ci := 1) (q0 := 0) rfl rfl, cd_pr1 hP hK hD⟩ rfl rfl hl.1 rfl (lv_room (Nat.le_of_ble_eq_true rfl)) dX1_init_58 ⟨Nat.le_of_ble_eq_true rfl, Nat.le_of_ble_eq_true rfl⟩) hD hS hA (fun u H locs hq hP hD hS => ?_)
  have hP : va_P (dC, dI) vwCl [(o0, .inr (1, [.int (cd_I 0), .int (cd_I 1), .ref q1, .ref q2, .ref q3, .ref q4, .long (cd_L 0), .long (cd_L 0), .long (cd_L 0), .int (cd_I 0), .long (cd_L 0), .long (cd_L 0), .long (cd_L 0), .int (cd_I 0), .int (cd_I 0)])), (q1, .inl (dA, 8, .inl (cd_n (fun _ => 0)))), (q2, .inl (dA, 14, .inl (cd_c (cd_u (cd_u (fun _ => 0) 10 1) 11 (-1))))), (q3, .inl (dA, 14, .inl (cd_c (cd_u (cd_u (fun _ => 0) 10 0) 11 0)))), (q4, .inl (dA, 14, .inl (cd_c (cd_u (cd_u (fun _ => 0) 10 50) 11 50))))] H := hP
  have hD : va_D A [(o0, .inr (1, [.int (cd_I 0), .int (cd_I 1), .ref q1, .ref q2, .ref q3, .ref q4, .long (cd_L 0), .long (cd_L 0), .long (cd_L 0), .int (cd_I 0), .long (cd_L 0), .long (cd_L 0), .long (cd_L 0), .int (cd_I 0), .int (cd_I 0)])), (q1, .inl (dA, 8, .inl (cd_n (fun _ => 0)))), (q2, .inl (dA, 14, .inl (cd_c (cd_u (cd_u (fun _ => 0) 10 1) 11 (-1))))), (q3, .inl (dA, 14, .inl (cd_c (cd_u (cd_u (fun _ => 0) 10 0) 11 0)))), (q4, .inl (dA, 14, .inl (cd_c (cd_u (cd_u (fun _ => 0) 10 50) 11 50))))] := hD
  refine lv_aload_n hx hb dX1_init_61 rfl (lv_at hl 0 rfl) ?_
  refine lv_bipush (v := cd_I 12) hx hb dX1_init_62 (by decide) ?_
  refine lv_iconst (v := cd_I 0) hx hb dX1_init_64 rfl ?_
  refine lv_iconst (v := cd_I 1) hx hb dX1_init_65 rfl ?_
  refine lv_bipush (v := cd_I 50) hx hb dX1_init_66 (by decide) ?_
  refine cd_call1v (va_runV (As := [.int (cd_I 12), .int (cd_I 0), .int (cd_I 1), .int (cd_I 50)]) (rest := []) ⟨hx, hb, hml, hown, hts⟩ (xm_write l dC dI dA o0 q1 q2 q3 q4 0 1 (cd_u (cd_u (fun _ => 0) 10 1) 11 (-1)) (cd_u (cd_u (fun _ => 0) 10 0) 11 0) (cd_u (cd_u (fun _ => 0) 10 50) 11 50) (fun _ => 0) 0 0 0 0 0 0 0 0 0 H.size 12 0 1 50 (by decide)) (cwV 4 hts (lw_V q186 q188 qs9 q20 q189) rfl rfl rfl (by decide +kernel) ⟨Nat.le_of_ble_eq_true rfl, Nat.le_of_ble_eq_true rfl⟩) ⟨cd_bl1, va_recv hK hP (ci := 1) (q0 := 0) rfl rfl, cd_pr1 hP hK hD⟩ rfl rfl hl.1 rfl (lv_room (Nat.le_of_ble_eq_true rfl)) dX1_init_68 ⟨Nat.le_of_ble_eq_true rfl, Nat.le_of_ble_eq_true rfl⟩) hD hS hA (fun u H locs hq hP hD hS => ?_)
  have hP : va_P (dC, dI) vwCl [(o0, .inr (1, [.int (cd_I 0), .int (cd_I 1), .ref q1, .ref q2, .ref q3, .ref q4, .long (cd_L 0), .long (cd_L 0), .long (cd_L 0), .int (cd_I 0), .long (cd_L 0), .long (cd_L 0), .long (cd_L 0), .int (cd_I 0), .int (cd_I 0)])), (q1, .inl (dA, 8, .inl (cd_n (fun _ => 0)))), (q2, .inl (dA, 14, .inl (cd_c (cd_u (cd_u (cd_u (fun _ => 0) 10 1) 11 (-1)) 12 0)))), (q3, .inl (dA, 14, .inl (cd_c (cd_u (cd_u (cd_u (fun _ => 0) 10 0) 11 0) 12 1)))), (q4, .inl (dA, 14, .inl (cd_c (cd_u (cd_u (cd_u (fun _ => 0) 10 50) 11 50) 12 50))))] H := hP
  have hD : va_D A [(o0, .inr (1, [.int (cd_I 0), .int (cd_I 1), .ref q1, .ref q2, .ref q3, .ref q4, .long (cd_L 0), .long (cd_L 0), .long (cd_L 0), .int (cd_I 0), .long (cd_L 0), .long (cd_L 0), .long (cd_L 0), .int (cd_I 0), .int (cd_I 0)])), (q1, .inl (dA, 8, .inl (cd_n (fun _ => 0)))), (q2, .inl (dA, 14, .inl (cd_c (cd_u (cd_u (cd_u (fun _ => 0) 10 1) 11 (-1)) 12 0)))), (q3, .inl (dA, 14, .inl (cd_c (cd_u (cd_u (cd_u (fun _ => 0) 10 0) 11 0) 12 1)))), (q4, .inl (dA, 14, .inl (cd_c (cd_u (cd_u (cd_u (fun _ => 0) 10 50) 11 50) 12 50))))] := hD
  refine lv_aload_n hx hb dX1_init_71 rfl (lv_at hl 0 rfl) ?_
  refine lv_bipush (v := cd_I 13) hx hb dX1_init_72 (by decide) ?_
  refine lv_iconst (v := cd_I 0) hx hb dX1_init_74 rfl ?_
  refine lv_iconst (v := cd_I (-1)) hx hb dX1_init_75 rfl ?_
  refine lv_bipush (v := cd_I 50) hx hb dX1_init_76 (by decide) ?_
  refine cd_call1v (va_runV (As := [.int (cd_I 13), .int (cd_I 0), .int (cd_I (-1)), .int (cd_I 50)]) (rest := []) ⟨hx, hb, hml, hown, hts⟩ (xm_write l dC dI dA o0 q1 q2 q3 q4 0 1 (cd_u (cd_u (cd_u (fun _ => 0) 10 1) 11 (-1)) 12 0) (cd_u (cd_u (cd_u (fun _ => 0) 10 0) 11 0) 12 1) (cd_u (cd_u (cd_u (fun _ => 0) 10 50) 11 50) 12 50) (fun _ => 0) 0 0 0 0 0 0 0 0 0 H.size 13 0 (-1) 50 (by decide)) (cwV 4 hts (lw_V q186 q188 qs9 q20 q189) rfl rfl rfl (by decide +kernel) ⟨Nat.le_of_ble_eq_true rfl, Nat.le_of_ble_eq_true rfl⟩) ⟨cd_bl1, va_recv hK hP (ci := 1) (q0 := 0) rfl rfl, cd_pr1 hP hK hD⟩ rfl rfl hl.1 rfl (lv_room (Nat.le_of_ble_eq_true rfl)) dX1_init_78 ⟨Nat.le_of_ble_eq_true rfl, Nat.le_of_ble_eq_true rfl⟩) hD hS hA (fun u H locs hq hP hD hS => ?_)
  have hP : va_P (dC, dI) vwCl [(o0, .inr (1, [.int (cd_I 0), .int (cd_I 1), .ref q1, .ref q2, .ref q3, .ref q4, .long (cd_L 0), .long (cd_L 0), .long (cd_L 0), .int (cd_I 0), .long (cd_L 0), .long (cd_L 0), .long (cd_L 0), .int (cd_I 0), .int (cd_I 0)])), (q1, .inl (dA, 8, .inl (cd_n (fun _ => 0)))), (q2, .inl (dA, 14, .inl (cd_c (cd_u (cd_u (cd_u (cd_u (fun _ => 0) 10 1) 11 (-1)) 12 0) 13 0)))), (q3, .inl (dA, 14, .inl (cd_c (cd_u (cd_u (cd_u (cd_u (fun _ => 0) 10 0) 11 0) 12 1) 13 (-1))))), (q4, .inl (dA, 14, .inl (cd_c (cd_u (cd_u (cd_u (cd_u (fun _ => 0) 10 50) 11 50) 12 50) 13 50))))] H := hP
  have hD : va_D A [(o0, .inr (1, [.int (cd_I 0), .int (cd_I 1), .ref q1, .ref q2, .ref q3, .ref q4, .long (cd_L 0), .long (cd_L 0), .long (cd_L 0), .int (cd_I 0), .long (cd_L 0), .long (cd_L 0), .long (cd_L 0), .int (cd_I 0), .int (cd_I 0)])), (q1, .inl (dA, 8, .inl (cd_n (fun _ => 0)))), (q2, .inl (dA, 14, .inl (cd_c (cd_u (cd_u (cd_u (cd_u (fun _ => 0) 10 1) 11 (-1)) 12 0) 13 0)))), (q3, .inl (dA, 14, .inl (cd_c (cd_u (cd_u (cd_u (cd_u (fun _ => 0) 10 0) 11 0) 12 1) 13 (-1))))), (q4, .inl (dA, 14, .inl (cd_c (cd_u (cd_u (cd_u (cd_u (fun _ => 0) 10 50) 11 50) 12 50) 13 50))))] := hD
  refine W.widen (k := 4) (n := 50) (Nat.le_of_ble_eq_true rfl) (Nat.le_of_ble_eq_true rfl) ?_
  exact W.vret hx hb hr (fun t ht hW => ⟨⟨(q1, q2, q3, q4), rfl, trivial, ⟨by rw [ht]; exact hP, hD⟩⟩, hS.F ht⟩) hS.2.2 dX1_init_81

set_option maxHeartbeats 4000000 in
set_option maxRecDepth 100000 in
/-- add -/
theorem xm_add (l : Launch) (dC : Nat → ClassId) (dI : Nat → Nat → Nat) (dA : ClassId) (o0 o1 o2 o3 o4 h lv : Nat) (fa fb fc : Nat → Int) (fl : Nat → Nat) (cx cy cu kn bx by_ bu ap aq : Int) (sz : Nat) (a b d : Int) (ha : cd_R32 a) (hb1 : cd_R32 b) (hd : cd_R32 d) (hh : h ≤ 10) : Met l yX1_add (ws_ yX1_add cX1_add 4 (some .int)) ({ frames := 1, cells := 0, slots := 0, locals := 24 }) (va_Pc [.ref o0, .int (cd_I a), .int (cd_I b), .int (cd_I d)] (cd_W1 (dC, dI) vwCl [(dA, .int)] (cd_M dA o0 o1 o2 o3 o4 h lv fa fb fc fl cx cy cu kn bx by_ bu ap aq) sz)) (va_Qi (fun (r : Int32) (u : Nat × (Nat → Int) × (Nat → Int) × (Nat → Int)) => (r = cd_I (-1) ∧ (u.1 = h ∧ u.2.1 = fa ∧ u.2.2.1 = fb ∧ u.2.2.2 = fc) ∧ (¬ cd_cond a b d ∨ h = 10)) ∨ (r = cd_I ((h : Int) + 1) ∧ (u.1 = h + 1 ∧ u.2.1 = cd_u fa h a ∧ u.2.2.1 = cd_u fb h b ∧ u.2.2.2 = cd_u fc h d) ∧ cd_cond a b d ∧ ¬ h = 10)) (cd_B (dC, dI) vwCl (va_A (cd_M dA o0 o1 o2 o3 o4 h lv fa fb fc fl cx cy cu kn bx by_ bu ap aq) sz) (fun u : Nat × (Nat → Int) × (Nat → Int) × (Nat → Int) => (cd_M dA o0 o1 o2 o3 o4 u.1 lv u.2.1 u.2.2.1 u.2.2.2 fl cx cy cu kn bx by_ bu ap aq))) (va_A (cd_M dA o0 o1 o2 o3 o4 h lv fa fb fc fl cx cy cu kn bx by_ bu ap aq) sz)) 0 0 (va_A (cd_M dA o0 o1 o2 o3 o4 h lv fa fb fc fl cx cy cu kn bx by_ bu ap aq) sz) := by
  refine Met.ofW (cc := cX1_add) (maxL := 4) (ret := (some .int)) (by decide) rfl ?_
  intro p e s m args below meth c s₁ B hml hv
  obtain ⟨rfl, hsz, hP, hK, hD0⟩ := hv
  have hx := B.exec
  have hb := B.bytes
  have hr := B.returns
  have hts := atoms_spec (ws := (ws_ yX1_add cX1_add 4 (some .int))) B.pre
  have hts : ∀ w ∈ lw_all, w.before _ s = true := fun w h => hts w (List.mem_cons_of_mem _ h)
  have hown : s.vm.findClass RX1 = some m.cls := findClass_of_methodNamed B.named
  have hlocks := B.notSynchronized
  subst hsz
  have hD := hD0.self (sz := s.heap.size)
  generalize hAe : va_A (cd_M dA o0 o1 o2 o3 o4 h lv fa fb fc fl cx cy cu kn bx by_ bu ap aq) s.heap.size = A at hD ⊢
  have hA : ∀ q : Nat, s.heap.size ≤ q → A q := fun q h => by rw [← hAe]; exact Or.inr h
  have hS : va_S A s.heap s.heap [] := va_S.rf
  have hl := lv_entry ([.ref o0, .int (cd_I a), .int (cd_I b), .int (cd_I d)]) (n := 4) (Nat.le_of_ble_eq_true rfl)
  rw [lg_entry_eq]
  generalize (lg_sl ([.ref o0, .int (cd_I a), .int (cd_I b), .int (cd_I d)]) ++ List.replicate (4 - (lg_sl ([.ref o0, .int (cd_I a), .int (cd_I b), .int (cd_I d)])).length) Slot.unset).toArray = ls at hl ⊢
  have hl : lv_has ls 4 [(0, .ref o0), (1, .int (cd_I a)), (2, .int (cd_I b)), (3, .int (cd_I d))] := hl
  have hP : va_P (dC, dI) vwCl [(o0, .inr (1, [.int (cd_I ((h : Nat) : Int)), .int (cd_I ((lv : Nat) : Int)), .ref o1, .ref o2, .ref o3, .ref o4, .long (cd_L cx), .long (cd_L cy), .long (cd_L cu), .int (cd_I kn), .long (cd_L bx), .long (cd_L by_), .long (cd_L bu), .int (cd_I ap), .int (cd_I aq)])), (o1, .inl (dA, 8, .inl (cd_n fl))), (o2, .inl (dA, 14, .inl (cd_c fa))), (o3, .inl (dA, 14, .inl (cd_c fb))), (o4, .inl (dA, 14, .inl (cd_c fc)))] s.heap := hP
  have hD : va_D A [(o0, .inr (1, [.int (cd_I ((h : Nat) : Int)), .int (cd_I ((lv : Nat) : Int)), .ref o1, .ref o2, .ref o3, .ref o4, .long (cd_L cx), .long (cd_L cy), .long (cd_L cu), .int (cd_I kn), .long (cd_L bx), .long (cd_L by_), .long (cd_L bu), .int (cd_I ap), .int (cd_I aq)])), (o1, .inl (dA, 8, .inl (cd_n fl))), (o2, .inl (dA, 14, .inl (cd_c fa))), (o3, .inl (dA, 14, .inl (cd_c fb))), (o4, .inl (dA, 14, .inl (cd_c fc)))] := hD
  refine lv_iload_n hx hb dX1_add_0 rfl (lv_at hl 1 rfl) ?_
  refine lv_iload_n hx hb dX1_add_1 rfl (lv_at hl 2 rfl) ?_
  refine lv_iload_n hx hb dX1_add_2 rfl (lv_at hl 3 rfl) ?_
  refine cd_call0i (va_runS (As := [.int (cd_I a), .int (cd_I b), .int (cd_I d)]) (rest := []) ⟨hx, hb, hml, hown, hts⟩ (xm_bad l a b d ha hb1 hd) (va_cwS 3 hts (lw_S q240 q241 q20 q242) rfl rfl rfl (by decide +kernel) ⟨Nat.le_of_ble_eq_true rfl, Nat.le_of_ble_eq_true rfl⟩) ⟨cd_blT, cd_prT⟩ rfl rfl hl.1 rfl (lv_room (Nat.le_of_ble_eq_true rfl)) dX1_add_3 ⟨Nat.le_of_ble_eq_true rfl, Nat.le_of_ble_eq_true rfl⟩) hP hS (fun r H locs hq hP hS => ?_)
  rcases hq with ⟨rfl, hcd⟩ | ⟨rfl, hcd⟩
  · refine cd_if_ne (tgt := 18) hx hb ⟨by decide, by decide⟩ dX1_add_6 (by decide) (fun c_1 => absurd c_1 (by decide)) (fun c_1 => ?_)
    refine lv_aload_n hx hb dX1_add_9 rfl (lv_at hl 0 rfl) ?_
    refine cd_get1 (v := .int (cd_I ((h : Nat) : Int))) hx hb hts hown hK hP 0 rfl 0 (by decide) q190 rfl rfl dX1_add_10 ?_
    refine lv_bipush (v := cd_I 10) hx hb dX1_add_13 (by decide) ?_
    refine cd_icmp_ne (tgt := 20) hx hb ⟨by omega, by omega⟩ ⟨by decide, by decide⟩ dX1_add_15 (by decide) (fun c_2 => ?_) (fun c_2 => ?_)
    · refine lv_aload_n hx hb dX1_add_20 rfl (lv_at hl 0 rfl) ?_
      refine lv_aload_n hx hb dX1_add_21 rfl (lv_at hl 0 rfl) ?_
      refine cd_get1 (v := .int (cd_I ((h : Nat) : Int))) hx hb hts hown hK hP 0 rfl 0 (by decide) q190 rfl rfl dX1_add_22 ?_
      refine lv_iload_n hx hb dX1_add_25 rfl (lv_at hl 1 rfl) ?_
      refine lv_iload_n hx hb dX1_add_26 rfl (lv_at hl 2 rfl) ?_
      refine lv_iload_n hx hb dX1_add_27 rfl (lv_at hl 3 rfl) ?_
      refine cd_call1v (va_runV (As := [.int (cd_I ((h : Nat) : Int)), .int (cd_I a), .int (cd_I b), .int (cd_I d)]) (rest := []) ⟨hx, hb, hml, hown, hts⟩ (xm_write l dC dI dA o0 o1 o2 o3 o4 h lv fa fb fc fl cx cy cu kn bx by_ bu ap aq H.size h a b d (by omega)) (cwV 4 hts (lw_V q186 q188 qs9 q20 q189) rfl rfl rfl (by decide +kernel) ⟨Nat.le_of_ble_eq_true rfl, Nat.le_of_ble_eq_true rfl⟩) ⟨cd_bl1, va_recv hK hP (ci := 1) (q0 := 0) rfl rfl, cd_pr1 hP hK hD⟩ rfl rfl hl.1 rfl (lv_room (Nat.le_of_ble_eq_true rfl)) dX1_add_28 ⟨Nat.le_of_ble_eq_true rfl, Nat.le_of_ble_eq_true rfl⟩) hD hS hA (fun u H locs hq hP hD hS => ?_)
      have hP : va_P (dC, dI) vwCl [(o0, .inr (1, [.int (cd_I ((h : Nat) : Int)), .int (cd_I ((lv : Nat) : Int)), .ref o1, .ref o2, .ref o3, .ref o4, .long (cd_L cx), .long (cd_L cy), .long (cd_L cu), .int (cd_I kn), .long (cd_L bx), .long (cd_L by_), .long (cd_L bu), .int (cd_I ap), .int (cd_I aq)])), (o1, .inl (dA, 8, .inl (cd_n fl))), (o2, .inl (dA, 14, .inl (cd_c (cd_u fa h a)))), (o3, .inl (dA, 14, .inl (cd_c (cd_u fb h b)))), (o4, .inl (dA, 14, .inl (cd_c (cd_u fc h d))))] H := hP
      have hD : va_D A [(o0, .inr (1, [.int (cd_I ((h : Nat) : Int)), .int (cd_I ((lv : Nat) : Int)), .ref o1, .ref o2, .ref o3, .ref o4, .long (cd_L cx), .long (cd_L cy), .long (cd_L cu), .int (cd_I kn), .long (cd_L bx), .long (cd_L by_), .long (cd_L bu), .int (cd_I ap), .int (cd_I aq)])), (o1, .inl (dA, 8, .inl (cd_n fl))), (o2, .inl (dA, 14, .inl (cd_c (cd_u fa h a)))), (o3, .inl (dA, 14, .inl (cd_c (cd_u fb h b)))), (o4, .inl (dA, 14, .inl (cd_c (cd_u fc h d))))] := hD
      refine lv_aload_n hx hb dX1_add_31 rfl (lv_at hl 0 rfl) ?_
      refine lv_dup hx hb dX1_add_32 rfl ?_
      refine cd_get1 (v := .int (cd_I ((h : Nat) : Int))) hx hb hts hown hK hP 0 rfl 0 (by decide) q190 rfl rfl dX1_add_33 ?_
      refine lv_iconst (v := cd_I 1) hx hb dX1_add_36 rfl ?_
      refine cd_iadd hx hb dX1_add_37 ?_
      refine cd_put1 (v := .int (cd_I (((h : Nat) : Int) + 1))) (ty := .int) hx hb hts hown hK hP hD hS 0 rfl 0 (by decide) q190 rfl rfl rfl rfl rfl (Nat.le_of_ble_eq_true rfl) dX1_add_38 (fun H locs hP hD hS => ?_)
      have hP : va_P (dC, dI) vwCl [(o0, .inr (1, [.int (cd_I (((h : Nat) : Int) + 1)), .int (cd_I ((lv : Nat) : Int)), .ref o1, .ref o2, .ref o3, .ref o4, .long (cd_L cx), .long (cd_L cy), .long (cd_L cu), .int (cd_I kn), .long (cd_L bx), .long (cd_L by_), .long (cd_L bu), .int (cd_I ap), .int (cd_I aq)])), (o1, .inl (dA, 8, .inl (cd_n fl))), (o2, .inl (dA, 14, .inl (cd_c (cd_u fa h a)))), (o3, .inl (dA, 14, .inl (cd_c (cd_u fb h b)))), (o4, .inl (dA, 14, .inl (cd_c (cd_u fc h d))))] H := hP
      have hD : va_D A [(o0, .inr (1, [.int (cd_I (((h : Nat) : Int) + 1)), .int (cd_I ((lv : Nat) : Int)), .ref o1, .ref o2, .ref o3, .ref o4, .long (cd_L cx), .long (cd_L cy), .long (cd_L cu), .int (cd_I kn), .long (cd_L bx), .long (cd_L by_), .long (cd_L bu), .int (cd_I ap), .int (cd_I aq)])), (o1, .inl (dA, 8, .inl (cd_n fl))), (o2, .inl (dA, 14, .inl (cd_c (cd_u fa h a)))), (o3, .inl (dA, 14, .inl (cd_c (cd_u fb h b)))), (o4, .inl (dA, 14, .inl (cd_c (cd_u fc h d))))] := hD
      refine lv_aload_n hx hb dX1_add_41 rfl (lv_at hl 0 rfl) ?_
      refine cd_get1 (v := .int (cd_I (((h : Nat) : Int) + 1))) hx hb hts hown hK hP 0 rfl 0 (by decide) q190 rfl rfl dX1_add_42 ?_
      exact W.iret (v := cd_I (((h : Nat) : Int) + 1)) hx hb hr (fun t ht hW => ⟨⟨cd_I (((h : Nat) : Int) + 1), (h + 1, (cd_u fa h a), (cd_u fb h b), (cd_u fc h d)), rfl, Or.inr ⟨rfl, ⟨rfl, rfl, rfl, rfl⟩, hcd, by omega⟩, ⟨by rw [ht]; exact hP, hD⟩⟩, hS.F ht⟩) hS.2.2 dX1_add_45
    · refine lv_iconst (v := cd_I (-1)) hx hb dX1_add_18 rfl ?_
      exact W.iret (v := cd_I (-1)) hx hb hr (fun t ht hW => ⟨⟨cd_I (-1), (h, fa, fb, fc), rfl, Or.inl ⟨rfl, ⟨rfl, rfl, rfl, rfl⟩, by first | exact Or.inl hcd | (right; omega)⟩, ⟨by rw [ht]; exact hP, hD⟩⟩, hS.F ht⟩) hS.2.2 dX1_add_19
  · refine cd_if_ne (tgt := 18) hx hb ⟨by decide, by decide⟩ dX1_add_6 (by decide) (fun c_3 => ?_) (fun c_3 => absurd c_3 (by decide))
    refine lv_iconst (v := cd_I (-1)) hx hb dX1_add_18 rfl ?_
    exact W.iret (v := cd_I (-1)) hx hb hr (fun t ht hW => ⟨⟨cd_I (-1), (h, fa, fb, fc), rfl, Or.inl ⟨rfl, ⟨rfl, rfl, rfl, rfl⟩, by first | exact Or.inl hcd | (right; omega)⟩, ⟨by rw [ht]; exact hP, hD⟩⟩, hS.F ht⟩) hS.2.2 dX1_add_19

set_option maxHeartbeats 4000000 in
set_option maxRecDepth 100000 in
/-- push -/
theorem xm_push (l : Launch) (dC : Nat → ClassId) (dI : Nat → Nat → Nat) (dA : ClassId) (o0 o1 o2 o3 o4 h lv : Nat) (fa fb fc : Nat → Int) (fl : Nat → Nat) (cx cy cu kn bx by_ bu ap aq : Int) (sz : Nat) (hlv : lv ≤ 8) : Met l yX1_push (ws_ yX1_push cX1_push 1 (some .int)) ({ frames := 0, cells := 0, slots := 0, locals := 0 }) (va_Pc [.ref o0] (cd_W1 (dC, dI) vwCl [(dA, .int)] (cd_M dA o0 o1 o2 o3 o4 h lv fa fb fc fl cx cy cu kn bx by_ bu ap aq) sz)) (va_Qi (fun (r : Int32) (u : Nat × (Nat → Nat)) => (r = cd_I (-1) ∧ (u.1 = lv ∧ u.2 = fl) ∧ 8 ≤ lv) ∨ (r = cd_I ((lv : Int) + 1) ∧ (u.1 = lv + 1 ∧ u.2 = cd_un fl lv h) ∧ lv < 8)) (cd_B (dC, dI) vwCl (va_A (cd_M dA o0 o1 o2 o3 o4 h lv fa fb fc fl cx cy cu kn bx by_ bu ap aq) sz) (fun u : Nat × (Nat → Nat) => (cd_M dA o0 o1 o2 o3 o4 h u.1 fa fb fc u.2 cx cy cu kn bx by_ bu ap aq))) (va_A (cd_M dA o0 o1 o2 o3 o4 h lv fa fb fc fl cx cy cu kn bx by_ bu ap aq) sz)) 0 0 (va_A (cd_M dA o0 o1 o2 o3 o4 h lv fa fb fc fl cx cy cu kn bx by_ bu ap aq) sz) := by
  refine Met.ofW (cc := cX1_push) (maxL := 1) (ret := (some .int)) (by decide) rfl ?_
  intro p e s m args below meth c s₁ B hml hv
  obtain ⟨rfl, hsz, hP, hK, hD0⟩ := hv
  have hx := B.exec
  have hb := B.bytes
  have hr := B.returns
  have hts := atoms_spec (ws := (ws_ yX1_push cX1_push 1 (some .int))) B.pre
  have hts : ∀ w ∈ lw_all, w.before _ s = true := fun w h => hts w (List.mem_cons_of_mem _ h)
  have hown : s.vm.findClass RX1 = some m.cls := findClass_of_methodNamed B.named
  have hlocks := B.notSynchronized
  subst hsz
  have hD := hD0.self (sz := s.heap.size)
  generalize hAe : va_A (cd_M dA o0 o1 o2 o3 o4 h lv fa fb fc fl cx cy cu kn bx by_ bu ap aq) s.heap.size = A at hD ⊢
  have hA : ∀ q : Nat, s.heap.size ≤ q → A q := fun q h => by rw [← hAe]; exact Or.inr h
  have hS : va_S A s.heap s.heap [] := va_S.rf
  have hl := lv_entry ([.ref o0]) (n := 1) (Nat.le_of_ble_eq_true rfl)
  rw [lg_entry_eq]
  generalize (lg_sl ([.ref o0]) ++ List.replicate (1 - (lg_sl ([.ref o0])).length) Slot.unset).toArray = ls at hl ⊢
  have hl : lv_has ls 1 [(0, .ref o0)] := hl
  have hP : va_P (dC, dI) vwCl [(o0, .inr (1, [.int (cd_I ((h : Nat) : Int)), .int (cd_I ((lv : Nat) : Int)), .ref o1, .ref o2, .ref o3, .ref o4, .long (cd_L cx), .long (cd_L cy), .long (cd_L cu), .int (cd_I kn), .long (cd_L bx), .long (cd_L by_), .long (cd_L bu), .int (cd_I ap), .int (cd_I aq)])), (o1, .inl (dA, 8, .inl (cd_n fl))), (o2, .inl (dA, 14, .inl (cd_c fa))), (o3, .inl (dA, 14, .inl (cd_c fb))), (o4, .inl (dA, 14, .inl (cd_c fc)))] s.heap := hP
  have hD : va_D A [(o0, .inr (1, [.int (cd_I ((h : Nat) : Int)), .int (cd_I ((lv : Nat) : Int)), .ref o1, .ref o2, .ref o3, .ref o4, .long (cd_L cx), .long (cd_L cy), .long (cd_L cu), .int (cd_I kn), .long (cd_L bx), .long (cd_L by_), .long (cd_L bu), .int (cd_I ap), .int (cd_I aq)])), (o1, .inl (dA, 8, .inl (cd_n fl))), (o2, .inl (dA, 14, .inl (cd_c fa))), (o3, .inl (dA, 14, .inl (cd_c fb))), (o4, .inl (dA, 14, .inl (cd_c fc)))] := hD
  refine lv_aload_n hx hb dX1_push_0 rfl (lv_at hl 0 rfl) ?_
  refine cd_get1 (v := .int (cd_I ((lv : Nat) : Int))) hx hb hts hown hK hP 0 rfl 1 (by decide) q191 rfl rfl dX1_push_1 ?_
  refine lv_bipush (v := cd_I 8) hx hb dX1_push_4 (by decide) ?_
  refine cd_icmp_ne (tgt := 11) hx hb ⟨by omega, by omega⟩ ⟨by decide, by decide⟩ dX1_push_6 (by decide) (fun c_1 => ?_) (fun c_1 => ?_)
  · refine lv_aload_n hx hb dX1_push_11 rfl (lv_at hl 0 rfl) ?_
    refine cd_get1 (v := .ref o1) hx hb hts hown hK hP 0 rfl 2 (by decide) q192 rfl rfl dX1_push_12 ?_
    refine lv_aload_n hx hb dX1_push_15 rfl (lv_at hl 0 rfl) ?_
    refine cd_get1 (v := .int (cd_I ((lv : Nat) : Int))) hx hb hts hown hK hP 0 rfl 1 (by decide) q191 rfl rfl dX1_push_16 ?_
    refine lv_aload_n hx hb dX1_push_19 rfl (lv_at hl 0 rfl) ?_
    refine cd_get1 (v := .int (cd_I ((h : Nat) : Int))) hx hb hts hown hK hP 0 rfl 0 (by decide) q190 rfl rfl dX1_push_20 ?_
    refine cd_iastn (k := lv) (v := h) hx hb hK hP hD hS 1 0 rfl rfl (by omega) (by decide) dX1_push_23 (fun H locs hP hD hS => ?_)
    have hP : va_P (dC, dI) vwCl [(o0, .inr (1, [.int (cd_I ((h : Nat) : Int)), .int (cd_I ((lv : Nat) : Int)), .ref o1, .ref o2, .ref o3, .ref o4, .long (cd_L cx), .long (cd_L cy), .long (cd_L cu), .int (cd_I kn), .long (cd_L bx), .long (cd_L by_), .long (cd_L bu), .int (cd_I ap), .int (cd_I aq)])), (o1, .inl (dA, 8, .inl (cd_n (cd_un fl lv h)))), (o2, .inl (dA, 14, .inl (cd_c fa))), (o3, .inl (dA, 14, .inl (cd_c fb))), (o4, .inl (dA, 14, .inl (cd_c fc)))] H := hP
    have hD : va_D A [(o0, .inr (1, [.int (cd_I ((h : Nat) : Int)), .int (cd_I ((lv : Nat) : Int)), .ref o1, .ref o2, .ref o3, .ref o4, .long (cd_L cx), .long (cd_L cy), .long (cd_L cu), .int (cd_I kn), .long (cd_L bx), .long (cd_L by_), .long (cd_L bu), .int (cd_I ap), .int (cd_I aq)])), (o1, .inl (dA, 8, .inl (cd_n (cd_un fl lv h)))), (o2, .inl (dA, 14, .inl (cd_c fa))), (o3, .inl (dA, 14, .inl (cd_c fb))), (o4, .inl (dA, 14, .inl (cd_c fc)))] := hD
    refine lv_aload_n hx hb dX1_push_24 rfl (lv_at hl 0 rfl) ?_
    refine lv_dup hx hb dX1_push_25 rfl ?_
    refine cd_get1 (v := .int (cd_I ((lv : Nat) : Int))) hx hb hts hown hK hP 0 rfl 1 (by decide) q191 rfl rfl dX1_push_26 ?_
    refine lv_iconst (v := cd_I 1) hx hb dX1_push_29 rfl ?_
    refine cd_iadd hx hb dX1_push_30 ?_
    refine cd_put1 (v := .int (cd_I (((lv : Nat) : Int) + 1))) (ty := .int) hx hb hts hown hK hP hD hS 0 rfl 1 (by decide) q191 rfl rfl rfl rfl rfl (Nat.le_of_ble_eq_true rfl) dX1_push_31 (fun H locs hP hD hS => ?_)
    have hP : va_P (dC, dI) vwCl [(o0, .inr (1, [.int (cd_I ((h : Nat) : Int)), .int (cd_I (((lv : Nat) : Int) + 1)), .ref o1, .ref o2, .ref o3, .ref o4, .long (cd_L cx), .long (cd_L cy), .long (cd_L cu), .int (cd_I kn), .long (cd_L bx), .long (cd_L by_), .long (cd_L bu), .int (cd_I ap), .int (cd_I aq)])), (o1, .inl (dA, 8, .inl (cd_n (cd_un fl lv h)))), (o2, .inl (dA, 14, .inl (cd_c fa))), (o3, .inl (dA, 14, .inl (cd_c fb))), (o4, .inl (dA, 14, .inl (cd_c fc)))] H := hP
    have hD : va_D A [(o0, .inr (1, [.int (cd_I ((h : Nat) : Int)), .int (cd_I (((lv : Nat) : Int) + 1)), .ref o1, .ref o2, .ref o3, .ref o4, .long (cd_L cx), .long (cd_L cy), .long (cd_L cu), .int (cd_I kn), .long (cd_L bx), .long (cd_L by_), .long (cd_L bu), .int (cd_I ap), .int (cd_I aq)])), (o1, .inl (dA, 8, .inl (cd_n (cd_un fl lv h)))), (o2, .inl (dA, 14, .inl (cd_c fa))), (o3, .inl (dA, 14, .inl (cd_c fb))), (o4, .inl (dA, 14, .inl (cd_c fc)))] := hD
    refine lv_aload_n hx hb dX1_push_34 rfl (lv_at hl 0 rfl) ?_
    refine cd_get1 (v := .int (cd_I (((lv : Nat) : Int) + 1))) hx hb hts hown hK hP 0 rfl 1 (by decide) q191 rfl rfl dX1_push_35 ?_
    exact W.iret (v := cd_I (((lv : Nat) : Int) + 1)) hx hb hr (fun t ht hW => ⟨⟨cd_I (((lv : Nat) : Int) + 1), (lv + 1, (cd_un fl lv h)), rfl, Or.inr ⟨rfl, ⟨rfl, rfl⟩, by omega⟩, ⟨by rw [ht]; exact hP, hD⟩⟩, hS.F ht⟩) hS.2.2 dX1_push_38
  · refine lv_iconst (v := cd_I (-1)) hx hb dX1_push_9 rfl ?_
    exact W.iret (v := cd_I (-1)) hx hb hr (fun t ht hW => ⟨⟨cd_I (-1), (lv, fl), rfl, Or.inl ⟨rfl, ⟨rfl, rfl⟩, by omega⟩, ⟨by rw [ht]; exact hP, hD⟩⟩, hS.F ht⟩) hS.2.2 dX1_push_10

set_option maxHeartbeats 4000000 in
set_option maxRecDepth 100000 in
/-- pop -/
theorem xm_pop (l : Launch) (dC : Nat → ClassId) (dI : Nat → Nat → Nat) (dA : ClassId) (o0 o1 o2 o3 o4 h lv : Nat) (fa fb fc : Nat → Int) (fl : Nat → Nat) (cx cy cu kn bx by_ bu ap aq : Int) (sz : Nat) (hlv : lv ≤ 8) (hlv1 : 1 ≤ lv) : Met l yX1_pop (ws_ yX1_pop cX1_pop 1 (some .int)) ({ frames := 0, cells := 0, slots := 0, locals := 0 }) (va_Pc [.ref o0] (cd_W1 (dC, dI) vwCl [(dA, .int)] (cd_M dA o0 o1 o2 o3 o4 h lv fa fb fc fl cx cy cu kn bx by_ bu ap aq) sz)) (va_Qi (fun (r : Int32) (u : Nat × Nat) => (r = cd_I (-1) ∧ (u.1 = h ∧ u.2 = lv) ∧ lv ≤ 1) ∨ (r = cd_I ((fl (lv - 1) : Nat) : Int) ∧ (u.1 = fl (lv - 1) ∧ u.2 = lv - 1) ∧ 1 < lv)) (cd_B (dC, dI) vwCl (va_A (cd_M dA o0 o1 o2 o3 o4 h lv fa fb fc fl cx cy cu kn bx by_ bu ap aq) sz) (fun u : Nat × Nat => (cd_M dA o0 o1 o2 o3 o4 u.1 u.2 fa fb fc fl cx cy cu kn bx by_ bu ap aq))) (va_A (cd_M dA o0 o1 o2 o3 o4 h lv fa fb fc fl cx cy cu kn bx by_ bu ap aq) sz)) 0 0 (va_A (cd_M dA o0 o1 o2 o3 o4 h lv fa fb fc fl cx cy cu kn bx by_ bu ap aq) sz) := by
  refine Met.ofW (cc := cX1_pop) (maxL := 1) (ret := (some .int)) (by decide) rfl ?_
  intro p e s m args below meth c s₁ B hml hv
  obtain ⟨rfl, hsz, hP, hK, hD0⟩ := hv
  have hx := B.exec
  have hb := B.bytes
  have hr := B.returns
  have hts := atoms_spec (ws := (ws_ yX1_pop cX1_pop 1 (some .int))) B.pre
  have hts : ∀ w ∈ lw_all, w.before _ s = true := fun w h => hts w (List.mem_cons_of_mem _ h)
  have hown : s.vm.findClass RX1 = some m.cls := findClass_of_methodNamed B.named
  have hlocks := B.notSynchronized
  subst hsz
  have hD := hD0.self (sz := s.heap.size)
  generalize hAe : va_A (cd_M dA o0 o1 o2 o3 o4 h lv fa fb fc fl cx cy cu kn bx by_ bu ap aq) s.heap.size = A at hD ⊢
  have hA : ∀ q : Nat, s.heap.size ≤ q → A q := fun q h => by rw [← hAe]; exact Or.inr h
  have hS : va_S A s.heap s.heap [] := va_S.rf
  have hl := lv_entry ([.ref o0]) (n := 1) (Nat.le_of_ble_eq_true rfl)
  rw [lg_entry_eq]
  generalize (lg_sl ([.ref o0]) ++ List.replicate (1 - (lg_sl ([.ref o0])).length) Slot.unset).toArray = ls at hl ⊢
  have hl : lv_has ls 1 [(0, .ref o0)] := hl
  have hP : va_P (dC, dI) vwCl [(o0, .inr (1, [.int (cd_I ((h : Nat) : Int)), .int (cd_I ((lv : Nat) : Int)), .ref o1, .ref o2, .ref o3, .ref o4, .long (cd_L cx), .long (cd_L cy), .long (cd_L cu), .int (cd_I kn), .long (cd_L bx), .long (cd_L by_), .long (cd_L bu), .int (cd_I ap), .int (cd_I aq)])), (o1, .inl (dA, 8, .inl (cd_n fl))), (o2, .inl (dA, 14, .inl (cd_c fa))), (o3, .inl (dA, 14, .inl (cd_c fb))), (o4, .inl (dA, 14, .inl (cd_c fc)))] s.heap := hP
  have hD : va_D A [(o0, .inr (1, [.int (cd_I ((h : Nat) : Int)), .int (cd_I ((lv : Nat) : Int)), .ref o1, .ref o2, .ref o3, .ref o4, .long (cd_L cx), .long (cd_L cy), .long (cd_L cu), .int (cd_I kn), .long (cd_L bx), .long (cd_L by_), .long (cd_L bu), .int (cd_I ap), .int (cd_I aq)])), (o1, .inl (dA, 8, .inl (cd_n fl))), (o2, .inl (dA, 14, .inl (cd_c fa))), (o3, .inl (dA, 14, .inl (cd_c fb))), (o4, .inl (dA, 14, .inl (cd_c fc)))] := hD
  refine lv_aload_n hx hb dX1_pop_0 rfl (lv_at hl 0 rfl) ?_
  refine cd_get1 (v := .int (cd_I ((lv : Nat) : Int))) hx hb hts hown hK hP 0 rfl 1 (by decide) q191 rfl rfl dX1_pop_1 ?_
  refine lv_iconst (v := cd_I 1) hx hb dX1_pop_4 rfl ?_
  refine cd_icmp_ne (tgt := 10) hx hb ⟨by omega, by omega⟩ ⟨by decide, by decide⟩ dX1_pop_5 (by decide) (fun c_1 => ?_) (fun c_1 => ?_)
  · refine lv_aload_n hx hb dX1_pop_10 rfl (lv_at hl 0 rfl) ?_
    refine lv_dup hx hb dX1_pop_11 rfl ?_
    refine cd_get1 (v := .int (cd_I ((lv : Nat) : Int))) hx hb hts hown hK hP 0 rfl 1 (by decide) q191 rfl rfl dX1_pop_12 ?_
    refine lv_iconst (v := cd_I 1) hx hb dX1_pop_15 rfl ?_
    refine cd_isub hx hb dX1_pop_16 ?_
    refine cd_toI (y := ((lv - 1 : Nat) : Int)) (by omega) ?_
    refine cd_put1 (v := .int (cd_I ((lv - 1 : Nat) : Int))) (ty := .int) hx hb hts hown hK hP hD hS 0 rfl 1 (by decide) q191 rfl rfl rfl rfl rfl (Nat.le_of_ble_eq_true rfl) dX1_pop_17 (fun H locs hP hD hS => ?_)
    have hP : va_P (dC, dI) vwCl [(o0, .inr (1, [.int (cd_I ((h : Nat) : Int)), .int (cd_I ((lv - 1 : Nat) : Int)), .ref o1, .ref o2, .ref o3, .ref o4, .long (cd_L cx), .long (cd_L cy), .long (cd_L cu), .int (cd_I kn), .long (cd_L bx), .long (cd_L by_), .long (cd_L bu), .int (cd_I ap), .int (cd_I aq)])), (o1, .inl (dA, 8, .inl (cd_n fl))), (o2, .inl (dA, 14, .inl (cd_c fa))), (o3, .inl (dA, 14, .inl (cd_c fb))), (o4, .inl (dA, 14, .inl (cd_c fc)))] H := hP
    have hD : va_D A [(o0, .inr (1, [.int (cd_I ((h : Nat) : Int)), .int (cd_I ((lv - 1 : Nat) : Int)), .ref o1, .ref o2, .ref o3, .ref o4, .long (cd_L cx), .long (cd_L cy), .long (cd_L cu), .int (cd_I kn), .long (cd_L bx), .long (cd_L by_), .long (cd_L bu), .int (cd_I ap), .int (cd_I aq)])), (o1, .inl (dA, 8, .inl (cd_n fl))), (o2, .inl (dA, 14, .inl (cd_c fa))), (o3, .inl (dA, 14, .inl (cd_c fb))), (o4, .inl (dA, 14, .inl (cd_c fc)))] := hD
    refine lv_aload_n hx hb dX1_pop_20 rfl (lv_at hl 0 rfl) ?_
    refine lv_aload_n hx hb dX1_pop_21 rfl (lv_at hl 0 rfl) ?_
    refine cd_get1 (v := .ref o1) hx hb hts hown hK hP 0 rfl 2 (by decide) q192 rfl rfl dX1_pop_22 ?_
    refine lv_aload_n hx hb dX1_pop_25 rfl (lv_at hl 0 rfl) ?_
    refine cd_get1 (v := .int (cd_I ((lv - 1 : Nat) : Int))) hx hb hts hown hK hP 0 rfl 1 (by decide) q191 rfl rfl dX1_pop_26 ?_
    refine cd_ialdn (k := (lv - 1)) hx hb hK hP 1 0 rfl rfl (by omega) (by decide) dX1_pop_29 ?_
    refine cd_put1 (v := .int (cd_I ((fl (lv - 1) : Nat) : Int))) (ty := .int) hx hb hts hown hK hP hD hS 0 rfl 0 (by decide) q190 rfl rfl rfl rfl rfl (Nat.le_of_ble_eq_true rfl) dX1_pop_30 (fun H locs hP hD hS => ?_)
    have hP : va_P (dC, dI) vwCl [(o0, .inr (1, [.int (cd_I ((fl (lv - 1) : Nat) : Int)), .int (cd_I ((lv - 1 : Nat) : Int)), .ref o1, .ref o2, .ref o3, .ref o4, .long (cd_L cx), .long (cd_L cy), .long (cd_L cu), .int (cd_I kn), .long (cd_L bx), .long (cd_L by_), .long (cd_L bu), .int (cd_I ap), .int (cd_I aq)])), (o1, .inl (dA, 8, .inl (cd_n fl))), (o2, .inl (dA, 14, .inl (cd_c fa))), (o3, .inl (dA, 14, .inl (cd_c fb))), (o4, .inl (dA, 14, .inl (cd_c fc)))] H := hP
    have hD : va_D A [(o0, .inr (1, [.int (cd_I ((fl (lv - 1) : Nat) : Int)), .int (cd_I ((lv - 1 : Nat) : Int)), .ref o1, .ref o2, .ref o3, .ref o4, .long (cd_L cx), .long (cd_L cy), .long (cd_L cu), .int (cd_I kn), .long (cd_L bx), .long (cd_L by_), .long (cd_L bu), .int (cd_I ap), .int (cd_I aq)])), (o1, .inl (dA, 8, .inl (cd_n fl))), (o2, .inl (dA, 14, .inl (cd_c fa))), (o3, .inl (dA, 14, .inl (cd_c fb))), (o4, .inl (dA, 14, .inl (cd_c fc)))] := hD
    refine lv_aload_n hx hb dX1_pop_33 rfl (lv_at hl 0 rfl) ?_
    refine cd_get1 (v := .int (cd_I ((fl (lv - 1) : Nat) : Int))) hx hb hts hown hK hP 0 rfl 0 (by decide) q190 rfl rfl dX1_pop_34 ?_
    exact W.iret (v := cd_I ((fl (lv - 1) : Nat) : Int)) hx hb hr (fun t ht hW => ⟨⟨cd_I ((fl (lv - 1) : Nat) : Int), (fl (lv - 1), lv - 1), rfl, Or.inr ⟨rfl, ⟨rfl, rfl⟩, by omega⟩, ⟨by rw [ht]; exact hP, hD⟩⟩, hS.F ht⟩) hS.2.2 dX1_pop_37
  · refine lv_iconst (v := cd_I (-1)) hx hb dX1_pop_8 rfl ?_
    exact W.iret (v := cd_I (-1)) hx hb hr (fun t ht hW => ⟨⟨cd_I (-1), (h, lv), rfl, Or.inl ⟨rfl, ⟨rfl, rfl⟩, by omega⟩, ⟨by rw [ht]; exact hP, hD⟩⟩, hS.F ht⟩) hS.2.2 dX1_pop_9

set_option maxHeartbeats 4000000 in
set_option maxRecDepth 100000 in
/-- best -/
theorem xm_best (l : Launch) (dC : Nat → ClassId) (dI : Nat → Nat → Nat) (dA : ClassId) (o0 o1 o2 o3 o4 h lv : Nat) (fa fb fc : Nat → Int) (fl : Nat → Nat) (cx cy cu kn bx by_ bu ap aq : Int) (sz : Nat) (pp qq : Int) (hp : cd_R32 pp) (hq1 : cd_R32 qq) (hok : cd_okM fa fb fc h) : Met l yX1_best (ws_ yX1_best cX1_best 3 (some .int)) ({ frames := 3, cells := 0, slots := 0, locals := 69 }) (va_Pc [.ref o0, .int (cd_I pp), .int (cd_I qq)] (cd_W1 (dC, dI) vwCl [(dA, .int)] (cd_M dA o0 o1 o2 o3 o4 h lv fa fb fc fl cx cy cu kn bx by_ bu ap aq) sz)) (va_Qi (fun (r : Int32) (u : Int × Int × Int × Int × Int × Int × Int × Int × Int) => (r = cd_I (-1) ∧ (u.2.2.2.1 = kn ∧ u.2.2.2.2.1 = bx ∧ u.2.2.2.2.2.1 = by_ ∧ u.2.2.2.2.2.2.1 = bu ∧ u.2.2.2.2.2.2.2.1 = ap ∧ u.2.2.2.2.2.2.2.2 = aq) ∧ ¬ (cd_b 9 pp ∧ cd_b 9 qq)) ∨ ((cd_b 9 pp ∧ cd_b 9 qq) ∧ r = cd_I 1 ∧ u.2.2.2.1 = 1 ∧ (u.2.2.2.2.2.2.2.1 = pp ∧ u.2.2.2.2.2.2.2.2 = qq) ∧ cd_sOK fa fb fc (cd_T h (-1)) pp qq u.2.2.2.2.1 u.2.2.2.2.2.1 u.2.2.2.2.2.2.1) ∨ ((cd_b 9 pp ∧ cd_b 9 qq) ∧ r = cd_I 0 ∧ u.2.2.2.1 = 0 ∧ cd_sNo fa fb fc (cd_T h (-1)))) (cd_B (dC, dI) vwCl (va_A (cd_M dA o0 o1 o2 o3 o4 h lv fa fb fc fl cx cy cu kn bx by_ bu ap aq) sz) (fun u : Int × Int × Int × Int × Int × Int × Int × Int × Int => (cd_M dA o0 o1 o2 o3 o4 h lv fa fb fc fl u.1 u.2.1 u.2.2.1 u.2.2.2.1 u.2.2.2.2.1 u.2.2.2.2.2.1 u.2.2.2.2.2.2.1 u.2.2.2.2.2.2.2.1 u.2.2.2.2.2.2.2.2))) (va_A (cd_M dA o0 o1 o2 o3 o4 h lv fa fb fc fl cx cy cu kn bx by_ bu ap aq) sz)) 0 0 (va_A (cd_M dA o0 o1 o2 o3 o4 h lv fa fb fc fl cx cy cu kn bx by_ bu ap aq) sz) := by
  refine Met.ofW (cc := cX1_best) (maxL := 3) (ret := (some .int)) (by decide) rfl ?_
  intro p e s m args below meth c s₁ B hml hv
  obtain ⟨rfl, hsz, hP, hK, hD0⟩ := hv
  have hx := B.exec
  have hb := B.bytes
  have hr := B.returns
  have hts := atoms_spec (ws := (ws_ yX1_best cX1_best 3 (some .int))) B.pre
  have hts : ∀ w ∈ lw_all, w.before _ s = true := fun w h => hts w (List.mem_cons_of_mem _ h)
  have hown : s.vm.findClass RX1 = some m.cls := findClass_of_methodNamed B.named
  have hlocks := B.notSynchronized
  subst hsz
  have hD := hD0.self (sz := s.heap.size)
  generalize hAe : va_A (cd_M dA o0 o1 o2 o3 o4 h lv fa fb fc fl cx cy cu kn bx by_ bu ap aq) s.heap.size = A at hD ⊢
  have hA : ∀ q : Nat, s.heap.size ≤ q → A q := fun q h => by rw [← hAe]; exact Or.inr h
  have hS : va_S A s.heap s.heap [] := va_S.rf
  have hl := lv_entry ([.ref o0, .int (cd_I pp), .int (cd_I qq)]) (n := 3) (Nat.le_of_ble_eq_true rfl)
  rw [lg_entry_eq]
  generalize (lg_sl ([.ref o0, .int (cd_I pp), .int (cd_I qq)]) ++ List.replicate (3 - (lg_sl ([.ref o0, .int (cd_I pp), .int (cd_I qq)])).length) Slot.unset).toArray = ls at hl ⊢
  have hl : lv_has ls 3 [(0, .ref o0), (1, .int (cd_I pp)), (2, .int (cd_I qq))] := hl
  have hP : va_P (dC, dI) vwCl [(o0, .inr (1, [.int (cd_I ((h : Nat) : Int)), .int (cd_I ((lv : Nat) : Int)), .ref o1, .ref o2, .ref o3, .ref o4, .long (cd_L cx), .long (cd_L cy), .long (cd_L cu), .int (cd_I kn), .long (cd_L bx), .long (cd_L by_), .long (cd_L bu), .int (cd_I ap), .int (cd_I aq)])), (o1, .inl (dA, 8, .inl (cd_n fl))), (o2, .inl (dA, 14, .inl (cd_c fa))), (o3, .inl (dA, 14, .inl (cd_c fb))), (o4, .inl (dA, 14, .inl (cd_c fc)))] s.heap := hP
  have hD : va_D A [(o0, .inr (1, [.int (cd_I ((h : Nat) : Int)), .int (cd_I ((lv : Nat) : Int)), .ref o1, .ref o2, .ref o3, .ref o4, .long (cd_L cx), .long (cd_L cy), .long (cd_L cu), .int (cd_I kn), .long (cd_L bx), .long (cd_L by_), .long (cd_L bu), .int (cd_I ap), .int (cd_I aq)])), (o1, .inl (dA, 8, .inl (cd_n fl))), (o2, .inl (dA, 14, .inl (cd_c fa))), (o3, .inl (dA, 14, .inl (cd_c fb))), (o4, .inl (dA, 14, .inl (cd_c fc)))] := hD
  refine lv_iload_n hx hb dX1_best_0 rfl (lv_at hl 1 rfl) ?_
  refine lv_bipush (v := cd_I (-9)) hx hb dX1_best_1 (by decide) ?_
  refine cd_icmp_lt (tgt := 24) hx hb hp ⟨by decide, by decide⟩ dX1_best_3 (by decide) (fun c_1 => ?_) (fun c_1 => ?_)
  · refine lv_iconst (v := cd_I (-1)) hx hb dX1_best_24 rfl ?_
    exact W.iret (v := cd_I (-1)) hx hb hr (fun t ht hW => ⟨⟨cd_I (-1), (cx, cy, cu, kn, bx, by_, bu, ap, aq), rfl, Or.inl ⟨rfl, ⟨rfl, rfl, rfl, rfl, rfl, rfl⟩, by rintro ⟨⟨z1, z2⟩, z3, z4⟩; omega⟩, ⟨by rw [ht]; exact hP, hD⟩⟩, hS.F ht⟩) hS.2.2 dX1_best_25
  · refine lv_iload_n hx hb dX1_best_6 rfl (lv_at hl 1 rfl) ?_
    refine lv_bipush (v := cd_I 9) hx hb dX1_best_7 (by decide) ?_
    refine cd_icmp_gt (tgt := 24) hx hb hp ⟨by decide, by decide⟩ dX1_best_9 (by decide) (fun c_2 => ?_) (fun c_2 => ?_)
    · refine lv_iconst (v := cd_I (-1)) hx hb dX1_best_24 rfl ?_
      exact W.iret (v := cd_I (-1)) hx hb hr (fun t ht hW => ⟨⟨cd_I (-1), (cx, cy, cu, kn, bx, by_, bu, ap, aq), rfl, Or.inl ⟨rfl, ⟨rfl, rfl, rfl, rfl, rfl, rfl⟩, by rintro ⟨⟨z1, z2⟩, z3, z4⟩; omega⟩, ⟨by rw [ht]; exact hP, hD⟩⟩, hS.F ht⟩) hS.2.2 dX1_best_25
    · refine lv_iload_n hx hb dX1_best_12 rfl (lv_at hl 2 rfl) ?_
      refine lv_bipush (v := cd_I (-9)) hx hb dX1_best_13 (by decide) ?_
      refine cd_icmp_lt (tgt := 24) hx hb hq1 ⟨by decide, by decide⟩ dX1_best_15 (by decide) (fun c_3 => ?_) (fun c_3 => ?_)
      · refine lv_iconst (v := cd_I (-1)) hx hb dX1_best_24 rfl ?_
        exact W.iret (v := cd_I (-1)) hx hb hr (fun t ht hW => ⟨⟨cd_I (-1), (cx, cy, cu, kn, bx, by_, bu, ap, aq), rfl, Or.inl ⟨rfl, ⟨rfl, rfl, rfl, rfl, rfl, rfl⟩, by rintro ⟨⟨z1, z2⟩, z3, z4⟩; omega⟩, ⟨by rw [ht]; exact hP, hD⟩⟩, hS.F ht⟩) hS.2.2 dX1_best_25
      · refine lv_iload_n hx hb dX1_best_18 rfl (lv_at hl 2 rfl) ?_
        refine lv_bipush (v := cd_I 9) hx hb dX1_best_19 (by decide) ?_
        refine cd_icmp_le (tgt := 26) hx hb hq1 ⟨by decide, by decide⟩ dX1_best_21 (by decide) (fun c_4 => ?_) (fun c_4 => ?_)
        · refine lv_aload_n hx hb dX1_best_26 rfl (lv_at hl 0 rfl) ?_
          refine lv_aload_n hx hb dX1_best_27 rfl (lv_at hl 0 rfl) ?_
          refine lv_iload_n hx hb dX1_best_28 rfl (lv_at hl 1 rfl) ?_
          refine lv_iload_n hx hb dX1_best_29 rfl (lv_at hl 2 rfl) ?_
          have hp9 : cd_b 9 pp := ⟨by omega, by omega⟩
          have hq9 : cd_b 9 qq := ⟨by omega, by omega⟩
          refine cd_call1i (va_runV (As := [.int (cd_I pp), .int (cd_I qq)]) (rest := [.ref o0]) ⟨hx, hb, hml, hown, hts⟩ (xm_search l dC dI dA o0 o1 o2 o3 o4 h lv fa fb fc fl cx cy cu kn bx by_ bu ap aq s.heap.size pp qq hp9 hq9 hok) (cwV 2 hts (lw_V q275 q277 qs14 q20 q278) rfl rfl rfl (by decide +kernel) ⟨Nat.le_of_ble_eq_true rfl, Nat.le_of_ble_eq_true rfl⟩) ⟨cd_bl1, va_recv hK hP (ci := 1) (q0 := 0) rfl rfl, cd_pr1 hP hK hD⟩ rfl rfl hl.1 rfl (lv_room (Nat.le_of_ble_eq_true rfl)) dX1_best_30 ⟨Nat.le_of_ble_eq_true rfl, Nat.le_of_ble_eq_true rfl⟩) hD hS hA (fun r u H locs hq hP hD hS => ?_)
          obtain ⟨u1, u2, u3, u4, u5, u6⟩ := u
          have hP : va_P (dC, dI) vwCl [(o0, .inr (1, [.int (cd_I ((h : Nat) : Int)), .int (cd_I ((lv : Nat) : Int)), .ref o1, .ref o2, .ref o3, .ref o4, .long (cd_L u1), .long (cd_L u2), .long (cd_L u3), .int (cd_I kn), .long (cd_L u4), .long (cd_L u5), .long (cd_L u6), .int (cd_I ap), .int (cd_I aq)])), (o1, .inl (dA, 8, .inl (cd_n fl))), (o2, .inl (dA, 14, .inl (cd_c fa))), (o3, .inl (dA, 14, .inl (cd_c fb))), (o4, .inl (dA, 14, .inl (cd_c fc)))] H := hP
          have hD : va_D A [(o0, .inr (1, [.int (cd_I ((h : Nat) : Int)), .int (cd_I ((lv : Nat) : Int)), .ref o1, .ref o2, .ref o3, .ref o4, .long (cd_L u1), .long (cd_L u2), .long (cd_L u3), .int (cd_I kn), .long (cd_L u4), .long (cd_L u5), .long (cd_L u6), .int (cd_I ap), .int (cd_I aq)])), (o1, .inl (dA, 8, .inl (cd_n fl))), (o2, .inl (dA, 14, .inl (cd_c fa))), (o3, .inl (dA, 14, .inl (cd_c fb))), (o4, .inl (dA, 14, .inl (cd_c fc)))] := hD
          have hq : (r = cd_I 1 ∧ cd_sOK fa fb fc (cd_T h (-1)) pp qq u4 u5 u6) ∨ (r = cd_I 0 ∧ cd_sNo fa fb fc (cd_T h (-1))) := hq
          rcases hq with ⟨rfl, hso⟩ | ⟨rfl, hso⟩
          · refine cd_put1 (v := .int (cd_I 1)) (ty := .boolean) hx hb hts hown hK hP hD hS 0 rfl 9 (by decide) q199 rfl rfl rfl rfl rfl (Nat.le_of_ble_eq_true rfl) dX1_best_33 (fun H locs hP hD hS => ?_)
            have hP : va_P (dC, dI) vwCl [(o0, .inr (1, [.int (cd_I ((h : Nat) : Int)), .int (cd_I ((lv : Nat) : Int)), .ref o1, .ref o2, .ref o3, .ref o4, .long (cd_L u1), .long (cd_L u2), .long (cd_L u3), .int (cd_I 1), .long (cd_L u4), .long (cd_L u5), .long (cd_L u6), .int (cd_I ap), .int (cd_I aq)])), (o1, .inl (dA, 8, .inl (cd_n fl))), (o2, .inl (dA, 14, .inl (cd_c fa))), (o3, .inl (dA, 14, .inl (cd_c fb))), (o4, .inl (dA, 14, .inl (cd_c fc)))] H := hP
            have hD : va_D A [(o0, .inr (1, [.int (cd_I ((h : Nat) : Int)), .int (cd_I ((lv : Nat) : Int)), .ref o1, .ref o2, .ref o3, .ref o4, .long (cd_L u1), .long (cd_L u2), .long (cd_L u3), .int (cd_I 1), .long (cd_L u4), .long (cd_L u5), .long (cd_L u6), .int (cd_I ap), .int (cd_I aq)])), (o1, .inl (dA, 8, .inl (cd_n fl))), (o2, .inl (dA, 14, .inl (cd_c fa))), (o3, .inl (dA, 14, .inl (cd_c fb))), (o4, .inl (dA, 14, .inl (cd_c fc)))] := hD
            refine lv_aload_n hx hb dX1_best_36 rfl (lv_at hl 0 rfl) ?_
            refine lv_iload_n hx hb dX1_best_37 rfl (lv_at hl 1 rfl) ?_
            refine cd_put1 (v := .int (cd_I pp)) (ty := .int) hx hb hts hown hK hP hD hS 0 rfl 13 (by decide) q203 rfl rfl rfl rfl rfl (Nat.le_of_ble_eq_true rfl) dX1_best_38 (fun H locs hP hD hS => ?_)
            have hP : va_P (dC, dI) vwCl [(o0, .inr (1, [.int (cd_I ((h : Nat) : Int)), .int (cd_I ((lv : Nat) : Int)), .ref o1, .ref o2, .ref o3, .ref o4, .long (cd_L u1), .long (cd_L u2), .long (cd_L u3), .int (cd_I 1), .long (cd_L u4), .long (cd_L u5), .long (cd_L u6), .int (cd_I pp), .int (cd_I aq)])), (o1, .inl (dA, 8, .inl (cd_n fl))), (o2, .inl (dA, 14, .inl (cd_c fa))), (o3, .inl (dA, 14, .inl (cd_c fb))), (o4, .inl (dA, 14, .inl (cd_c fc)))] H := hP
            have hD : va_D A [(o0, .inr (1, [.int (cd_I ((h : Nat) : Int)), .int (cd_I ((lv : Nat) : Int)), .ref o1, .ref o2, .ref o3, .ref o4, .long (cd_L u1), .long (cd_L u2), .long (cd_L u3), .int (cd_I 1), .long (cd_L u4), .long (cd_L u5), .long (cd_L u6), .int (cd_I pp), .int (cd_I aq)])), (o1, .inl (dA, 8, .inl (cd_n fl))), (o2, .inl (dA, 14, .inl (cd_c fa))), (o3, .inl (dA, 14, .inl (cd_c fb))), (o4, .inl (dA, 14, .inl (cd_c fc)))] := hD
            refine lv_aload_n hx hb dX1_best_41 rfl (lv_at hl 0 rfl) ?_
            refine lv_iload_n hx hb dX1_best_42 rfl (lv_at hl 2 rfl) ?_
            refine cd_put1 (v := .int (cd_I qq)) (ty := .int) hx hb hts hown hK hP hD hS 0 rfl 14 (by decide) q204 rfl rfl rfl rfl rfl (Nat.le_of_ble_eq_true rfl) dX1_best_43 (fun H locs hP hD hS => ?_)
            have hP : va_P (dC, dI) vwCl [(o0, .inr (1, [.int (cd_I ((h : Nat) : Int)), .int (cd_I ((lv : Nat) : Int)), .ref o1, .ref o2, .ref o3, .ref o4, .long (cd_L u1), .long (cd_L u2), .long (cd_L u3), .int (cd_I 1), .long (cd_L u4), .long (cd_L u5), .long (cd_L u6), .int (cd_I pp), .int (cd_I qq)])), (o1, .inl (dA, 8, .inl (cd_n fl))), (o2, .inl (dA, 14, .inl (cd_c fa))), (o3, .inl (dA, 14, .inl (cd_c fb))), (o4, .inl (dA, 14, .inl (cd_c fc)))] H := hP
            have hD : va_D A [(o0, .inr (1, [.int (cd_I ((h : Nat) : Int)), .int (cd_I ((lv : Nat) : Int)), .ref o1, .ref o2, .ref o3, .ref o4, .long (cd_L u1), .long (cd_L u2), .long (cd_L u3), .int (cd_I 1), .long (cd_L u4), .long (cd_L u5), .long (cd_L u6), .int (cd_I pp), .int (cd_I qq)])), (o1, .inl (dA, 8, .inl (cd_n fl))), (o2, .inl (dA, 14, .inl (cd_c fa))), (o3, .inl (dA, 14, .inl (cd_c fb))), (o4, .inl (dA, 14, .inl (cd_c fc)))] := hD
            refine lv_aload_n hx hb dX1_best_46 rfl (lv_at hl 0 rfl) ?_
            refine cd_get1 (v := .int (cd_I 1)) hx hb hts hown hK hP 0 rfl 9 (by decide) q199 rfl rfl dX1_best_47 ?_
            refine cd_if_eq (tgt := 57) hx hb ⟨by decide, by decide⟩ dX1_best_50 (by decide) (fun c_5 => absurd c_5 (by decide)) (fun c_5 => ?_)
            refine lv_iconst (v := cd_I 1) hx hb dX1_best_53 rfl ?_
            refine lv_goto (tgt := 58) hx hb dX1_best_54 (by decide) ?_
            exact W.iret (v := cd_I 1) hx hb hr (fun t ht hW => ⟨⟨cd_I 1, (u1, u2, u3, 1, u4, u5, u6, pp, qq), rfl, Or.inr (Or.inl ⟨⟨hp9, hq9⟩, rfl, rfl, ⟨rfl, rfl⟩, hso⟩), ⟨by rw [ht]; exact hP, hD⟩⟩, hS.F ht⟩) hS.2.2 dX1_best_58
          · refine cd_put1 (v := .int (cd_I 0)) (ty := .boolean) hx hb hts hown hK hP hD hS 0 rfl 9 (by decide) q199 rfl rfl rfl rfl rfl (Nat.le_of_ble_eq_true rfl) dX1_best_33 (fun H locs hP hD hS => ?_)
            have hP : va_P (dC, dI) vwCl [(o0, .inr (1, [.int (cd_I ((h : Nat) : Int)), .int (cd_I ((lv : Nat) : Int)), .ref o1, .ref o2, .ref o3, .ref o4, .long (cd_L u1), .long (cd_L u2), .long (cd_L u3), .int (cd_I 0), .long (cd_L u4), .long (cd_L u5), .long (cd_L u6), .int (cd_I ap), .int (cd_I aq)])), (o1, .inl (dA, 8, .inl (cd_n fl))), (o2, .inl (dA, 14, .inl (cd_c fa))), (o3, .inl (dA, 14, .inl (cd_c fb))), (o4, .inl (dA, 14, .inl (cd_c fc)))] H := hP
            have hD : va_D A [(o0, .inr (1, [.int (cd_I ((h : Nat) : Int)), .int (cd_I ((lv : Nat) : Int)), .ref o1, .ref o2, .ref o3, .ref o4, .long (cd_L u1), .long (cd_L u2), .long (cd_L u3), .int (cd_I 0), .long (cd_L u4), .long (cd_L u5), .long (cd_L u6), .int (cd_I ap), .int (cd_I aq)])), (o1, .inl (dA, 8, .inl (cd_n fl))), (o2, .inl (dA, 14, .inl (cd_c fa))), (o3, .inl (dA, 14, .inl (cd_c fb))), (o4, .inl (dA, 14, .inl (cd_c fc)))] := hD
            refine lv_aload_n hx hb dX1_best_36 rfl (lv_at hl 0 rfl) ?_
            refine lv_iload_n hx hb dX1_best_37 rfl (lv_at hl 1 rfl) ?_
            refine cd_put1 (v := .int (cd_I pp)) (ty := .int) hx hb hts hown hK hP hD hS 0 rfl 13 (by decide) q203 rfl rfl rfl rfl rfl (Nat.le_of_ble_eq_true rfl) dX1_best_38 (fun H locs hP hD hS => ?_)
            have hP : va_P (dC, dI) vwCl [(o0, .inr (1, [.int (cd_I ((h : Nat) : Int)), .int (cd_I ((lv : Nat) : Int)), .ref o1, .ref o2, .ref o3, .ref o4, .long (cd_L u1), .long (cd_L u2), .long (cd_L u3), .int (cd_I 0), .long (cd_L u4), .long (cd_L u5), .long (cd_L u6), .int (cd_I pp), .int (cd_I aq)])), (o1, .inl (dA, 8, .inl (cd_n fl))), (o2, .inl (dA, 14, .inl (cd_c fa))), (o3, .inl (dA, 14, .inl (cd_c fb))), (o4, .inl (dA, 14, .inl (cd_c fc)))] H := hP
            have hD : va_D A [(o0, .inr (1, [.int (cd_I ((h : Nat) : Int)), .int (cd_I ((lv : Nat) : Int)), .ref o1, .ref o2, .ref o3, .ref o4, .long (cd_L u1), .long (cd_L u2), .long (cd_L u3), .int (cd_I 0), .long (cd_L u4), .long (cd_L u5), .long (cd_L u6), .int (cd_I pp), .int (cd_I aq)])), (o1, .inl (dA, 8, .inl (cd_n fl))), (o2, .inl (dA, 14, .inl (cd_c fa))), (o3, .inl (dA, 14, .inl (cd_c fb))), (o4, .inl (dA, 14, .inl (cd_c fc)))] := hD
            refine lv_aload_n hx hb dX1_best_41 rfl (lv_at hl 0 rfl) ?_
            refine lv_iload_n hx hb dX1_best_42 rfl (lv_at hl 2 rfl) ?_
            refine cd_put1 (v := .int (cd_I qq)) (ty := .int) hx hb hts hown hK hP hD hS 0 rfl 14 (by decide) q204 rfl rfl rfl rfl rfl (Nat.le_of_ble_eq_true rfl) dX1_best_43 (fun H locs hP hD hS => ?_)
            have hP : va_P (dC, dI) vwCl [(o0, .inr (1, [.int (cd_I ((h : Nat) : Int)), .int (cd_I ((lv : Nat) : Int)), .ref o1, .ref o2, .ref o3, .ref o4, .long (cd_L u1), .long (cd_L u2), .long (cd_L u3), .int (cd_I 0), .long (cd_L u4), .long (cd_L u5), .long (cd_L u6), .int (cd_I pp), .int (cd_I qq)])), (o1, .inl (dA, 8, .inl (cd_n fl))), (o2, .inl (dA, 14, .inl (cd_c fa))), (o3, .inl (dA, 14, .inl (cd_c fb))), (o4, .inl (dA, 14, .inl (cd_c fc)))] H := hP
            have hD : va_D A [(o0, .inr (1, [.int (cd_I ((h : Nat) : Int)), .int (cd_I ((lv : Nat) : Int)), .ref o1, .ref o2, .ref o3, .ref o4, .long (cd_L u1), .long (cd_L u2), .long (cd_L u3), .int (cd_I 0), .long (cd_L u4), .long (cd_L u5), .long (cd_L u6), .int (cd_I pp), .int (cd_I qq)])), (o1, .inl (dA, 8, .inl (cd_n fl))), (o2, .inl (dA, 14, .inl (cd_c fa))), (o3, .inl (dA, 14, .inl (cd_c fb))), (o4, .inl (dA, 14, .inl (cd_c fc)))] := hD
            refine lv_aload_n hx hb dX1_best_46 rfl (lv_at hl 0 rfl) ?_
            refine cd_get1 (v := .int (cd_I 0)) hx hb hts hown hK hP 0 rfl 9 (by decide) q199 rfl rfl dX1_best_47 ?_
            refine cd_if_eq (tgt := 57) hx hb ⟨by decide, by decide⟩ dX1_best_50 (by decide) (fun c_6 => ?_) (fun c_6 => absurd c_6 (by decide))
            refine lv_iconst (v := cd_I 0) hx hb dX1_best_57 rfl ?_
            exact W.iret (v := cd_I 0) hx hb hr (fun t ht hW => ⟨⟨cd_I 0, (u1, u2, u3, 0, u4, u5, u6, pp, qq), rfl, Or.inr (Or.inr ⟨⟨hp9, hq9⟩, rfl, rfl, hso⟩), ⟨by rw [ht]; exact hP, hD⟩⟩, hS.F ht⟩) hS.2.2 dX1_best_58
        · refine lv_iconst (v := cd_I (-1)) hx hb dX1_best_24 rfl ?_
          exact W.iret (v := cd_I (-1)) hx hb hr (fun t ht hW => ⟨⟨cd_I (-1), (cx, cy, cu, kn, bx, by_, bu, ap, aq), rfl, Or.inl ⟨rfl, ⟨rfl, rfl, rfl, rfl, rfl, rfl⟩, by rintro ⟨⟨z1, z2⟩, z3, z4⟩; omega⟩, ⟨by rw [ht]; exact hP, hD⟩⟩, hS.F ht⟩) hS.2.2 dX1_best_25

set_option maxHeartbeats 4000000 in
set_option maxRecDepth 100000 in
/-- numerator -/
theorem xm_numerator (l : Launch) (dC : Nat → ClassId) (dI : Nat → Nat → Nat) (dA : ClassId) (o0 o1 o2 o3 o4 h lv : Nat) (fa fb fc : Nat → Int) (fl : Nat → Nat) (cx cy cu kn bx by_ bu ap aq : Int) (z : Int) (hz : cd_R32 z) (hkn : kn = 0 ∨ (kn = 1 ∧ cd_b 1782 bx ∧ cd_b 1782 by_ ∧ cd_b 162 bu ∧ 0 < bu ∧ cd_b 9 ap ∧ cd_b 9 aq)) : Met l yX1_numerator (ws_ yX1_numerator cX1_numerator 6 (some .int)) ({ frames := 1, cells := 0, slots := 0, locals := 30 }) (va_Pc [.ref o0, .int (cd_I z)] (cd_W0 (dC, dI) vwCl [(dA, .int)] (cd_M dA o0 o1 o2 o3 o4 h lv fa fb fc fl cx cy cu kn bx by_ bu ap aq))) (va_Qi (fun (r : Int32) (_ : Unit) => (r = cd_I 0 ∧ ¬ (kn = 1 ∧ 0 ≤ z ∧ z ≤ 2)) ∨ (r = cd_I (Int.tdiv (cd_up z bx by_ ap aq) ((Nat.gcd (cd_up z bx by_ ap aq).natAbs bu.natAbs : Nat) : Int)) ∧ (kn = 1 ∧ 0 ≤ z ∧ z ≤ 2))) (fun _ _ => True) (fun _ => False)) 0 0 (fun _ => False) := by
  refine Met.ofW (cc := cX1_numerator) (maxL := 6) (ret := (some .int)) (by decide) rfl ?_
  intro p e s m args below meth c s₁ B hml hv
  obtain ⟨rfl, hP, hK⟩ := hv
  have hx := B.exec
  have hb := B.bytes
  have hr := B.returns
  have hts := atoms_spec (ws := (ws_ yX1_numerator cX1_numerator 6 (some .int))) B.pre
  have hts : ∀ w ∈ lw_all, w.before _ s = true := fun w h => hts w (List.mem_cons_of_mem _ h)
  have hown : s.vm.findClass RX1 = some m.cls := findClass_of_methodNamed B.named
  have hlocks := B.notSynchronized
  have hS : va_S (fun _ => False) s.heap s.heap [] := va_S.rf
  have hl := lv_entry ([.ref o0, .int (cd_I z)]) (n := 6) (Nat.le_of_ble_eq_true rfl)
  rw [lg_entry_eq]
  generalize (lg_sl ([.ref o0, .int (cd_I z)]) ++ List.replicate (6 - (lg_sl ([.ref o0, .int (cd_I z)])).length) Slot.unset).toArray = ls at hl ⊢
  have hl : lv_has ls 6 [(0, .ref o0), (1, .int (cd_I z))] := hl
  have hP : va_P (dC, dI) vwCl [(o0, .inr (1, [.int (cd_I ((h : Nat) : Int)), .int (cd_I ((lv : Nat) : Int)), .ref o1, .ref o2, .ref o3, .ref o4, .long (cd_L cx), .long (cd_L cy), .long (cd_L cu), .int (cd_I kn), .long (cd_L bx), .long (cd_L by_), .long (cd_L bu), .int (cd_I ap), .int (cd_I aq)])), (o1, .inl (dA, 8, .inl (cd_n fl))), (o2, .inl (dA, 14, .inl (cd_c fa))), (o3, .inl (dA, 14, .inl (cd_c fb))), (o4, .inl (dA, 14, .inl (cd_c fc)))] s.heap := hP
  rcases hkn with hkn | ⟨hkn, hbx, hby, hbu, hbu0, hap, haq⟩
  · subst hkn
    refine lv_aload_n hx hb dX1_numerator_0 rfl (lv_at hl 0 rfl) ?_
    refine cd_get1 (v := .int (cd_I 0)) hx hb hts hown hK hP 0 rfl 9 (by decide) q199 rfl rfl dX1_numerator_1 ?_
    refine cd_if_eq (tgt := 16) hx hb ⟨by decide, by decide⟩ dX1_numerator_4 (by decide) (fun c_1 => ?_) (fun c_1 => absurd c_1 (by decide))
    refine lv_iconst (v := cd_I 0) hx hb dX1_numerator_16 rfl ?_
    exact W.iret (v := cd_I 0) hx hb hr (fun t ht hW => ⟨⟨cd_I 0, (), rfl, Or.inl ⟨rfl, by omega⟩, trivial⟩, hS.F ht⟩) hS.2.2 dX1_numerator_17
  · subst hkn
    have hup : cd_b 32076 (cd_up z bx by_ ap aq) := cd_up_b hbx hby hap haq
    have hgc := cd_gcd_b (z := (cd_up z bx by_ ap aq)) hbu hbu0
    refine lv_aload_n hx hb dX1_numerator_0 rfl (lv_at hl 0 rfl) ?_
    refine cd_get1 (v := .int (cd_I 1)) hx hb hts hown hK hP 0 rfl 9 (by decide) q199 rfl rfl dX1_numerator_1 ?_
    refine cd_if_eq (tgt := 16) hx hb ⟨by decide, by decide⟩ dX1_numerator_4 (by decide) (fun c_2 => absurd c_2 (by decide)) (fun c_2 => ?_)
    refine lv_iload_n hx hb dX1_numerator_7 rfl (lv_at hl 1 rfl) ?_
    refine cd_if_lt (tgt := 16) hx hb hz dX1_numerator_8 (by decide) (fun c_3 => ?_) (fun c_3 => ?_)
    · refine lv_iconst (v := cd_I 0) hx hb dX1_numerator_16 rfl ?_
      exact W.iret (v := cd_I 0) hx hb hr (fun t ht hW => ⟨⟨cd_I 0, (), rfl, Or.inl ⟨rfl, by omega⟩, trivial⟩, hS.F ht⟩) hS.2.2 dX1_numerator_17
    · refine lv_iload_n hx hb dX1_numerator_11 rfl (lv_at hl 1 rfl) ?_
      refine lv_iconst (v := cd_I 2) hx hb dX1_numerator_12 rfl ?_
      refine cd_icmp_le (tgt := 18) hx hb hz ⟨by decide, by decide⟩ dX1_numerator_13 (by decide) (fun c_4 => ?_) (fun c_4 => ?_)
      · refine lv_aload_n hx hb dX1_numerator_18 rfl (lv_at hl 0 rfl) ?_
        refine lv_iload_n hx hb dX1_numerator_19 rfl (lv_at hl 1 rfl) ?_
        refine cd_call0l (va_runV (As := [.int (cd_I z)]) (rest := []) ⟨hx, hb, hml, hown, hts⟩ (xm_top l dC dI dA o0 o1 o2 o3 o4 h lv fa fb fc fl cx cy cu 1 bx by_ bu ap aq z hz hap haq) (cwV 1 hts (lw_V q287 q289 qs16 q20 q290) rfl rfl rfl (by decide +kernel) ⟨Nat.le_of_ble_eq_true rfl, Nat.le_of_ble_eq_true rfl⟩) ⟨cd_bl0, va_recv hK hP (ci := 1) (q0 := 0) rfl rfl, cd_pr0 hP hK⟩ rfl rfl hl.1 rfl (lv_room (Nat.le_of_ble_eq_true rfl)) dX1_numerator_20 ⟨Nat.le_of_ble_eq_true rfl, Nat.le_of_ble_eq_true rfl⟩) hP hS (fun r H locs hq hP hS => ?_)
        subst hq
        refine cd_toL (y := (cd_up z bx by_ ap aq)) rfl ?_
        refine lv_lstore_n (lv' := [(2, .long (cd_L (cd_up z bx by_ ap aq))), (0, .ref o0), (1, .int (cd_I z))]) hx hb dX1_numerator_23 rfl hl (by decide) rfl (fun ls hl => ?_)
        refine lv_lload_n hx hb dX1_numerator_24 rfl (lv_at hl 0 rfl) ?_
        refine lv_aload_n hx hb dX1_numerator_25 rfl (lv_at hl 1 rfl) ?_
        refine cd_get1 (v := .long (cd_L bu)) hx hb hts hown hK hP 0 rfl 12 (by decide) q202 rfl rfl dX1_numerator_26 ?_
        refine cd_call0l (va_runS (As := [.long (cd_L (cd_up z bx by_ ap aq)), .long (cd_L bu)]) (rest := []) ⟨hx, hb, hml, hown, hts⟩ (xm_divisor l (cd_up z bx by_ ap aq) bu (cd_bW hup (by decide)) (cd_bW hbu (by decide)) hbu0) (va_cwS 2 hts (lw_S q291 q292 q20 q293) rfl rfl rfl (by decide +kernel) ⟨Nat.le_of_ble_eq_true rfl, Nat.le_of_ble_eq_true rfl⟩) ⟨cd_blT, cd_prT⟩ rfl rfl hl.1 rfl (lv_room (Nat.le_of_ble_eq_true rfl)) dX1_numerator_29 ⟨Nat.le_of_ble_eq_true rfl, Nat.le_of_ble_eq_true rfl⟩) hP hS (fun r H locs hq hP hS => ?_)
        subst hq
        refine lv_lstore (lv' := [(4, .long (cd_L ((Nat.gcd (cd_up z bx by_ ap aq).natAbs bu.natAbs : Nat) : Int))), (2, .long (cd_L (cd_up z bx by_ ap aq))), (0, .ref o0), (1, .int (cd_I z))]) hx hb dX1_numerator_32 hl (by decide) rfl (fun ls hl => ?_)
        refine lv_lload hx hb dX1_numerator_34 (lv_at hl 0 rfl) ?_
        refine lv_lconst (v := cd_L 0) hx hb dX1_numerator_36 (by decide) ?_
        refine cd_lcmp_ne (tgt := 45) hx hb ⟨by omega, by omega⟩ ⟨by decide, by decide⟩ dX1_numerator_37 dX1_numerator_38 (by decide) (fun c_5 => ?_) (fun c_5 => absurd c_5 (by omega))
        refine lv_lload_n hx hb dX1_numerator_45 rfl (lv_at hl 1 rfl) ?_
        refine lv_lload hx hb dX1_numerator_46 (lv_at hl 0 rfl) ?_
        refine cd_ldiv hx hb (cd_bR64 hup (by decide)) ⟨by omega, by omega⟩ hgc.1 dX1_numerator_48 ?_
        refine cd_l2i hx hb dX1_numerator_49 ?_
        exact W.iret (v := cd_I (Int.tdiv (cd_up z bx by_ ap aq) ((Nat.gcd (cd_up z bx by_ ap aq).natAbs bu.natAbs : Nat) : Int))) hx hb hr (fun t ht hW => ⟨⟨cd_I (Int.tdiv (cd_up z bx by_ ap aq) ((Nat.gcd (cd_up z bx by_ ap aq).natAbs bu.natAbs : Nat) : Int)), (), rfl, Or.inr ⟨rfl, rfl, by omega, by omega⟩, trivial⟩, hS.F ht⟩) hS.2.2 dX1_numerator_50
      · refine lv_iconst (v := cd_I 0) hx hb dX1_numerator_16 rfl ?_
        exact W.iret (v := cd_I 0) hx hb hr (fun t ht hW => ⟨⟨cd_I 0, (), rfl, Or.inl ⟨rfl, by omega⟩, trivial⟩, hS.F ht⟩) hS.2.2 dX1_numerator_17

set_option maxHeartbeats 4000000 in
set_option maxRecDepth 100000 in
/-- denominator -/
theorem xm_denominator (l : Launch) (dC : Nat → ClassId) (dI : Nat → Nat → Nat) (dA : ClassId) (o0 o1 o2 o3 o4 h lv : Nat) (fa fb fc : Nat → Int) (fl : Nat → Nat) (cx cy cu kn bx by_ bu ap aq : Int) (z : Int) (hz : cd_R32 z) (hkn : kn = 0 ∨ (kn = 1 ∧ cd_b 1782 bx ∧ cd_b 1782 by_ ∧ cd_b 162 bu ∧ 0 < bu ∧ cd_b 9 ap ∧ cd_b 9 aq)) : Met l yX1_denominator (ws_ yX1_denominator cX1_denominator 6 (some .int)) ({ frames := 1, cells := 0, slots := 0, locals := 30 }) (va_Pc [.ref o0, .int (cd_I z)] (cd_W0 (dC, dI) vwCl [(dA, .int)] (cd_M dA o0 o1 o2 o3 o4 h lv fa fb fc fl cx cy cu kn bx by_ bu ap aq))) (va_Qi (fun (r : Int32) (_ : Unit) => (r = cd_I 0 ∧ ¬ (kn = 1 ∧ 0 ≤ z ∧ z ≤ 2)) ∨ (r = cd_I (Int.tdiv bu ((Nat.gcd (cd_up z bx by_ ap aq).natAbs bu.natAbs : Nat) : Int)) ∧ (kn = 1 ∧ 0 ≤ z ∧ z ≤ 2))) (fun _ _ => True) (fun _ => False)) 0 0 (fun _ => False) := by
  refine Met.ofW (cc := cX1_denominator) (maxL := 6) (ret := (some .int)) (by decide) rfl ?_
  intro p e s m args below meth c s₁ B hml hv
  obtain ⟨rfl, hP, hK⟩ := hv
  have hx := B.exec
  have hb := B.bytes
  have hr := B.returns
  have hts := atoms_spec (ws := (ws_ yX1_denominator cX1_denominator 6 (some .int))) B.pre
  have hts : ∀ w ∈ lw_all, w.before _ s = true := fun w h => hts w (List.mem_cons_of_mem _ h)
  have hown : s.vm.findClass RX1 = some m.cls := findClass_of_methodNamed B.named
  have hlocks := B.notSynchronized
  have hS : va_S (fun _ => False) s.heap s.heap [] := va_S.rf
  have hl := lv_entry ([.ref o0, .int (cd_I z)]) (n := 6) (Nat.le_of_ble_eq_true rfl)
  rw [lg_entry_eq]
  generalize (lg_sl ([.ref o0, .int (cd_I z)]) ++ List.replicate (6 - (lg_sl ([.ref o0, .int (cd_I z)])).length) Slot.unset).toArray = ls at hl ⊢
  have hl : lv_has ls 6 [(0, .ref o0), (1, .int (cd_I z))] := hl
  have hP : va_P (dC, dI) vwCl [(o0, .inr (1, [.int (cd_I ((h : Nat) : Int)), .int (cd_I ((lv : Nat) : Int)), .ref o1, .ref o2, .ref o3, .ref o4, .long (cd_L cx), .long (cd_L cy), .long (cd_L cu), .int (cd_I kn), .long (cd_L bx), .long (cd_L by_), .long (cd_L bu), .int (cd_I ap), .int (cd_I aq)])), (o1, .inl (dA, 8, .inl (cd_n fl))), (o2, .inl (dA, 14, .inl (cd_c fa))), (o3, .inl (dA, 14, .inl (cd_c fb))), (o4, .inl (dA, 14, .inl (cd_c fc)))] s.heap := hP
  rcases hkn with hkn | ⟨hkn, hbx, hby, hbu, hbu0, hap, haq⟩
  · subst hkn
    refine lv_aload_n hx hb dX1_denominator_0 rfl (lv_at hl 0 rfl) ?_
    refine cd_get1 (v := .int (cd_I 0)) hx hb hts hown hK hP 0 rfl 9 (by decide) q199 rfl rfl dX1_denominator_1 ?_
    refine cd_if_eq (tgt := 16) hx hb ⟨by decide, by decide⟩ dX1_denominator_4 (by decide) (fun c_1 => ?_) (fun c_1 => absurd c_1 (by decide))
    refine lv_iconst (v := cd_I 0) hx hb dX1_denominator_16 rfl ?_
    exact W.iret (v := cd_I 0) hx hb hr (fun t ht hW => ⟨⟨cd_I 0, (), rfl, Or.inl ⟨rfl, by omega⟩, trivial⟩, hS.F ht⟩) hS.2.2 dX1_denominator_17
  · subst hkn
    have hup : cd_b 32076 (cd_up z bx by_ ap aq) := cd_up_b hbx hby hap haq
    have hgc := cd_gcd_b (z := (cd_up z bx by_ ap aq)) hbu hbu0
    refine lv_aload_n hx hb dX1_denominator_0 rfl (lv_at hl 0 rfl) ?_
    refine cd_get1 (v := .int (cd_I 1)) hx hb hts hown hK hP 0 rfl 9 (by decide) q199 rfl rfl dX1_denominator_1 ?_
    refine cd_if_eq (tgt := 16) hx hb ⟨by decide, by decide⟩ dX1_denominator_4 (by decide) (fun c_2 => absurd c_2 (by decide)) (fun c_2 => ?_)
    refine lv_iload_n hx hb dX1_denominator_7 rfl (lv_at hl 1 rfl) ?_
    refine cd_if_lt (tgt := 16) hx hb hz dX1_denominator_8 (by decide) (fun c_3 => ?_) (fun c_3 => ?_)
    · refine lv_iconst (v := cd_I 0) hx hb dX1_denominator_16 rfl ?_
      exact W.iret (v := cd_I 0) hx hb hr (fun t ht hW => ⟨⟨cd_I 0, (), rfl, Or.inl ⟨rfl, by omega⟩, trivial⟩, hS.F ht⟩) hS.2.2 dX1_denominator_17
    · refine lv_iload_n hx hb dX1_denominator_11 rfl (lv_at hl 1 rfl) ?_
      refine lv_iconst (v := cd_I 2) hx hb dX1_denominator_12 rfl ?_
      refine cd_icmp_le (tgt := 18) hx hb hz ⟨by decide, by decide⟩ dX1_denominator_13 (by decide) (fun c_4 => ?_) (fun c_4 => ?_)
      · refine lv_aload_n hx hb dX1_denominator_18 rfl (lv_at hl 0 rfl) ?_
        refine lv_iload_n hx hb dX1_denominator_19 rfl (lv_at hl 1 rfl) ?_
        refine cd_call0l (va_runV (As := [.int (cd_I z)]) (rest := []) ⟨hx, hb, hml, hown, hts⟩ (xm_top l dC dI dA o0 o1 o2 o3 o4 h lv fa fb fc fl cx cy cu 1 bx by_ bu ap aq z hz hap haq) (cwV 1 hts (lw_V q287 q289 qs16 q20 q290) rfl rfl rfl (by decide +kernel) ⟨Nat.le_of_ble_eq_true rfl, Nat.le_of_ble_eq_true rfl⟩) ⟨cd_bl0, va_recv hK hP (ci := 1) (q0 := 0) rfl rfl, cd_pr0 hP hK⟩ rfl rfl hl.1 rfl (lv_room (Nat.le_of_ble_eq_true rfl)) dX1_denominator_20 ⟨Nat.le_of_ble_eq_true rfl, Nat.le_of_ble_eq_true rfl⟩) hP hS (fun r H locs hq hP hS => ?_)
        subst hq
        refine cd_toL (y := (cd_up z bx by_ ap aq)) rfl ?_
        refine lv_lstore_n (lv' := [(2, .long (cd_L (cd_up z bx by_ ap aq))), (0, .ref o0), (1, .int (cd_I z))]) hx hb dX1_denominator_23 rfl hl (by decide) rfl (fun ls hl => ?_)
        refine lv_lload_n hx hb dX1_denominator_24 rfl (lv_at hl 0 rfl) ?_
        refine lv_aload_n hx hb dX1_denominator_25 rfl (lv_at hl 1 rfl) ?_
        refine cd_get1 (v := .long (cd_L bu)) hx hb hts hown hK hP 0 rfl 12 (by decide) q202 rfl rfl dX1_denominator_26 ?_
        refine cd_call0l (va_runS (As := [.long (cd_L (cd_up z bx by_ ap aq)), .long (cd_L bu)]) (rest := []) ⟨hx, hb, hml, hown, hts⟩ (xm_divisor l (cd_up z bx by_ ap aq) bu (cd_bW hup (by decide)) (cd_bW hbu (by decide)) hbu0) (va_cwS 2 hts (lw_S q291 q292 q20 q293) rfl rfl rfl (by decide +kernel) ⟨Nat.le_of_ble_eq_true rfl, Nat.le_of_ble_eq_true rfl⟩) ⟨cd_blT, cd_prT⟩ rfl rfl hl.1 rfl (lv_room (Nat.le_of_ble_eq_true rfl)) dX1_denominator_29 ⟨Nat.le_of_ble_eq_true rfl, Nat.le_of_ble_eq_true rfl⟩) hP hS (fun r H locs hq hP hS => ?_)
        subst hq
        refine lv_lstore (lv' := [(4, .long (cd_L ((Nat.gcd (cd_up z bx by_ ap aq).natAbs bu.natAbs : Nat) : Int))), (2, .long (cd_L (cd_up z bx by_ ap aq))), (0, .ref o0), (1, .int (cd_I z))]) hx hb dX1_denominator_32 hl (by decide) rfl (fun ls hl => ?_)
        refine lv_lload hx hb dX1_denominator_34 (lv_at hl 0 rfl) ?_
        refine lv_lconst (v := cd_L 0) hx hb dX1_denominator_36 (by decide) ?_
        refine cd_lcmp_ne (tgt := 45) hx hb ⟨by omega, by omega⟩ ⟨by decide, by decide⟩ dX1_denominator_37 dX1_denominator_38 (by decide) (fun c_5 => ?_) (fun c_5 => absurd c_5 (by omega))
        refine lv_aload_n hx hb dX1_denominator_45 rfl (lv_at hl 2 rfl) ?_
        refine cd_get1 (v := .long (cd_L bu)) hx hb hts hown hK hP 0 rfl 12 (by decide) q202 rfl rfl dX1_denominator_46 ?_
        refine lv_lload hx hb dX1_denominator_49 (lv_at hl 0 rfl) ?_
        refine cd_ldiv hx hb (cd_bR64 hbu (by decide)) ⟨by omega, by omega⟩ hgc.1 dX1_denominator_51 ?_
        refine cd_l2i hx hb dX1_denominator_52 ?_
        exact W.iret (v := cd_I (Int.tdiv bu ((Nat.gcd (cd_up z bx by_ ap aq).natAbs bu.natAbs : Nat) : Int))) hx hb hr (fun t ht hW => ⟨⟨cd_I (Int.tdiv bu ((Nat.gcd (cd_up z bx by_ ap aq).natAbs bu.natAbs : Nat) : Int)), (), rfl, Or.inr ⟨rfl, rfl, by omega, by omega⟩, trivial⟩, hS.F ht⟩) hS.2.2 dX1_denominator_53
      · refine lv_iconst (v := cd_I 0) hx hb dX1_denominator_16 rfl ?_
        exact W.iret (v := cd_I 0) hx hb hr (fun t ht hW => ⟨⟨cd_I 0, (), rfl, Or.inl ⟨rfl, by omega⟩, trivial⟩, hS.F ht⟩) hS.2.2 dX1_denominator_17

set_option maxHeartbeats 4000000 in
set_option maxRecDepth 100000 in
/-- test -/
theorem xm_test (l : Launch) (dC : Nat → ClassId) (dI : Nat → Nat → Nat) (dA : ClassId) (o0 o1 o2 o3 o4 h lv : Nat) (fa fb fc : Nat → Int) (fl : Nat → Nat) (cx cy cu kn bx by_ bu ap aq : Int) (a b d : Int) (ha : cd_R32 a) (hb1 : cd_R32 b) (hd : cd_R32 d) (hkn : kn = 0 ∨ (kn = 1 ∧ cd_b 1782 bx ∧ cd_b 1782 by_ ∧ cd_b 162 bu ∧ 0 < bu ∧ cd_b 9 ap ∧ cd_b 9 aq)) : Met l yX1_test (ws_ yX1_test cX1_test 8 (some .int)) ({ frames := 1, cells := 0, slots := 0, locals := 22 }) (va_Pc [.ref o0, .int (cd_I a), .int (cd_I b), .int (cd_I d)] (cd_W0 (dC, dI) vwCl [(dA, .int)] (cd_M dA o0 o1 o2 o3 o4 h lv fa fb fc fl cx cy cu kn bx by_ bu ap aq))) (va_Qi (fun (r : Int32) (_ : Unit) => (r = cd_I (-1) ∧ ¬ (kn = 1 ∧ cd_cond a b d)) ∨ ((kn = 1 ∧ cd_cond a b d) ∧ ((r = cd_I 1 ∧ (a * bx + b * by_) = (d * bu)) ∨ (r = cd_I 2 ∧ (a * bx + b * by_) < (d * bu)) ∨ (r = cd_I 0 ∧ (d * bu) < (a * bx + b * by_))))) (fun _ _ => True) (fun _ => False)) 0 0 (fun _ => False) := by
  refine Met.ofW (cc := cX1_test) (maxL := 8) (ret := (some .int)) (by decide) rfl ?_
  intro p e s m args below meth c s₁ B hml hv
  obtain ⟨rfl, hP, hK⟩ := hv
  have hx := B.exec
  have hb := B.bytes
  have hr := B.returns
  have hts := atoms_spec (ws := (ws_ yX1_test cX1_test 8 (some .int))) B.pre
  have hts : ∀ w ∈ lw_all, w.before _ s = true := fun w h => hts w (List.mem_cons_of_mem _ h)
  have hown : s.vm.findClass RX1 = some m.cls := findClass_of_methodNamed B.named
  have hlocks := B.notSynchronized
  have hS : va_S (fun _ => False) s.heap s.heap [] := va_S.rf
  have hl := lv_entry ([.ref o0, .int (cd_I a), .int (cd_I b), .int (cd_I d)]) (n := 8) (Nat.le_of_ble_eq_true rfl)
  rw [lg_entry_eq]
  generalize (lg_sl ([.ref o0, .int (cd_I a), .int (cd_I b), .int (cd_I d)]) ++ List.replicate (8 - (lg_sl ([.ref o0, .int (cd_I a), .int (cd_I b), .int (cd_I d)])).length) Slot.unset).toArray = ls at hl ⊢
  have hl : lv_has ls 8 [(0, .ref o0), (1, .int (cd_I a)), (2, .int (cd_I b)), (3, .int (cd_I d))] := hl
  have hP : va_P (dC, dI) vwCl [(o0, .inr (1, [.int (cd_I ((h : Nat) : Int)), .int (cd_I ((lv : Nat) : Int)), .ref o1, .ref o2, .ref o3, .ref o4, .long (cd_L cx), .long (cd_L cy), .long (cd_L cu), .int (cd_I kn), .long (cd_L bx), .long (cd_L by_), .long (cd_L bu), .int (cd_I ap), .int (cd_I aq)])), (o1, .inl (dA, 8, .inl (cd_n fl))), (o2, .inl (dA, 14, .inl (cd_c fa))), (o3, .inl (dA, 14, .inl (cd_c fb))), (o4, .inl (dA, 14, .inl (cd_c fc)))] s.heap := hP
  rcases hkn with hkn | ⟨hkn, hbx, hby, hbu, hbu0, hap, haq⟩
  · subst hkn
    refine lv_aload_n hx hb dX1_test_0 rfl (lv_at hl 0 rfl) ?_
    refine cd_get1 (v := .int (cd_I 0)) hx hb hts hown hK hP 0 rfl 9 (by decide) q199 rfl rfl dX1_test_1 ?_
    refine cd_if_eq (tgt := 16) hx hb ⟨by decide, by decide⟩ dX1_test_4 (by decide) (fun c_1 => ?_) (fun c_1 => absurd c_1 (by decide))
    refine lv_iconst (v := cd_I (-1)) hx hb dX1_test_16 rfl ?_
    exact W.iret (v := cd_I (-1)) hx hb hr (fun t ht hW => ⟨⟨cd_I (-1), (), rfl, Or.inl ⟨rfl, fun q => absurd q.1 (by decide)⟩, trivial⟩, hS.F ht⟩) hS.2.2 dX1_test_17
  · subst hkn
    refine lv_aload_n hx hb dX1_test_0 rfl (lv_at hl 0 rfl) ?_
    refine cd_get1 (v := .int (cd_I 1)) hx hb hts hown hK hP 0 rfl 9 (by decide) q199 rfl rfl dX1_test_1 ?_
    refine cd_if_eq (tgt := 16) hx hb ⟨by decide, by decide⟩ dX1_test_4 (by decide) (fun c_2 => absurd c_2 (by decide)) (fun c_2 => ?_)
    refine lv_iload_n hx hb dX1_test_7 rfl (lv_at hl 1 rfl) ?_
    refine lv_iload_n hx hb dX1_test_8 rfl (lv_at hl 2 rfl) ?_
    refine lv_iload_n hx hb dX1_test_9 rfl (lv_at hl 3 rfl) ?_
    refine cd_call0i (va_runS (As := [.int (cd_I a), .int (cd_I b), .int (cd_I d)]) (rest := []) ⟨hx, hb, hml, hown, hts⟩ (xm_bad l a b d ha hb1 hd) (va_cwS 3 hts (lw_S q240 q241 q20 q242) rfl rfl rfl (by decide +kernel) ⟨Nat.le_of_ble_eq_true rfl, Nat.le_of_ble_eq_true rfl⟩) ⟨cd_blT, cd_prT⟩ rfl rfl hl.1 rfl (lv_room (Nat.le_of_ble_eq_true rfl)) dX1_test_10 ⟨Nat.le_of_ble_eq_true rfl, Nat.le_of_ble_eq_true rfl⟩) hP hS (fun r H locs hq hP hS => ?_)
    rcases hq with ⟨rfl, hcd⟩ | ⟨rfl, hcd⟩
    · refine cd_if_eq (tgt := 18) hx hb ⟨by decide, by decide⟩ dX1_test_13 (by decide) (fun c_3 => ?_) (fun c_3 => absurd c_3 (by decide))
      obtain ⟨⟨z1, z2, z3, z4, z5, z6⟩, z7⟩ := id hcd
      have h9a : cd_b 9 a := ⟨z1, z2⟩
      have h9b : cd_b 9 b := ⟨z3, z4⟩
      have h9d : cd_b 99 d := ⟨z5, z6⟩
      refine lv_iload_n hx hb dX1_test_18 rfl (lv_at hl 1 rfl) ?_
      refine cd_i2l hx hb ha dX1_test_19 ?_
      refine lv_aload_n hx hb dX1_test_20 rfl (lv_at hl 0 rfl) ?_
      refine cd_get1 (v := .long (cd_L bx)) hx hb hts hown hK hP 0 rfl 10 (by decide) q200 rfl rfl dX1_test_21 ?_
      refine cd_lmul hx hb dX1_test_24 ?_
      refine lv_iload_n hx hb dX1_test_25 rfl (lv_at hl 2 rfl) ?_
      refine cd_i2l hx hb hb1 dX1_test_26 ?_
      refine lv_aload_n hx hb dX1_test_27 rfl (lv_at hl 0 rfl) ?_
      refine cd_get1 (v := .long (cd_L by_)) hx hb hts hown hK hP 0 rfl 11 (by decide) q201 rfl rfl dX1_test_28 ?_
      refine cd_lmul hx hb dX1_test_31 ?_
      refine cd_ladd hx hb dX1_test_32 ?_
      refine lv_lstore (lv' := [(4, .long (cd_L ((a * bx) + (b * by_)))), (0, .ref o0), (1, .int (cd_I a)), (2, .int (cd_I b)), (3, .int (cd_I d))]) hx hb dX1_test_33 hl (by decide) rfl (fun ls hl => ?_)
      refine lv_iload_n hx hb dX1_test_35 rfl (lv_at hl 4 rfl) ?_
      refine cd_i2l hx hb hd dX1_test_36 ?_
      refine lv_aload_n hx hb dX1_test_37 rfl (lv_at hl 1 rfl) ?_
      refine cd_get1 (v := .long (cd_L bu)) hx hb hts hown hK hP 0 rfl 12 (by decide) q202 rfl rfl dX1_test_38 ?_
      refine cd_lmul hx hb dX1_test_41 ?_
      refine lv_lstore (lv' := [(6, .long (cd_L (d * bu))), (4, .long (cd_L ((a * bx) + (b * by_)))), (0, .ref o0), (1, .int (cd_I a)), (2, .int (cd_I b)), (3, .int (cd_I d))]) hx hb dX1_test_42 hl (by decide) rfl (fun ls hl => ?_)
      refine lv_lload hx hb dX1_test_44 (lv_at hl 1 rfl) ?_
      refine lv_lload hx hb dX1_test_46 (lv_at hl 0 rfl) ?_
      refine cd_lcmp_ne (tgt := 56) hx hb (cd_bR64 (cd_bA (cd_bM h9a hbx) (cd_bM h9b hby)) (by decide)) (cd_bR64 (cd_bM h9d hbu) (by decide)) dX1_test_48 dX1_test_49 (by decide) (fun c_4 => ?_) (fun c_4 => ?_)
      · refine lv_lload hx hb dX1_test_56 (lv_at hl 1 rfl) ?_
        refine lv_lload hx hb dX1_test_58 (lv_at hl 0 rfl) ?_
        refine cd_lcmp_ge (tgt := 68) hx hb (cd_bR64 (cd_bA (cd_bM h9a hbx) (cd_bM h9b hby)) (by decide)) (cd_bR64 (cd_bM h9d hbu) (by decide)) dX1_test_60 dX1_test_61 (by decide) (fun c_5 => ?_) (fun c_5 => ?_)
        · refine lv_iconst (v := cd_I 0) hx hb dX1_test_68 rfl ?_
          exact W.iret (v := cd_I 0) hx hb hr (fun t ht hW => ⟨⟨cd_I 0, (), rfl, Or.inr ⟨⟨rfl, hcd⟩, Or.inr (Or.inr ⟨rfl, by omega⟩)⟩, trivial⟩, hS.F ht⟩) hS.2.2 dX1_test_69
        · refine lv_iconst (v := cd_I 2) hx hb dX1_test_64 rfl ?_
          refine lv_goto (tgt := 69) hx hb dX1_test_65 (by decide) ?_
          exact W.iret (v := cd_I 2) hx hb hr (fun t ht hW => ⟨⟨cd_I 2, (), rfl, Or.inr ⟨⟨rfl, hcd⟩, Or.inr (Or.inl ⟨rfl, by omega⟩)⟩, trivial⟩, hS.F ht⟩) hS.2.2 dX1_test_69
      · refine lv_iconst (v := cd_I 1) hx hb dX1_test_52 rfl ?_
        refine lv_goto (tgt := 69) hx hb dX1_test_53 (by decide) ?_
        exact W.iret (v := cd_I 1) hx hb hr (fun t ht hW => ⟨⟨cd_I 1, (), rfl, Or.inr ⟨⟨rfl, hcd⟩, Or.inl ⟨rfl, by omega⟩⟩, trivial⟩, hS.F ht⟩) hS.2.2 dX1_test_69
    · refine cd_if_eq (tgt := 18) hx hb ⟨by decide, by decide⟩ dX1_test_13 (by decide) (fun c_6 => absurd c_6 (by decide)) (fun c_6 => ?_)
      refine lv_iconst (v := cd_I (-1)) hx hb dX1_test_16 rfl ?_
      exact W.iret (v := cd_I (-1)) hx hb hr (fun t ht hW => ⟨⟨cd_I (-1), (), rfl, Or.inl ⟨rfl, fun q => hcd q.2⟩, trivial⟩, hS.F ht⟩) hS.2.2 dX1_test_17

set_option maxHeartbeats 4000000 in
set_option maxRecDepth 100000 in
/-- spare -/
theorem xm_spare (l : Launch) (dC : Nat → ClassId) (dI : Nat → Nat → Nat) (dA : ClassId) (o0 o1 o2 o3 o4 h lv : Nat) (fa fb fc : Nat → Int) (fl : Nat → Nat) (cx cy cu kn bx by_ bu ap aq : Int) (sz : Nat) (hok : cd_okM fa fb fc h) : Met l yX1_spare (ws_ yX1_spare cX1_spare 3 (some .int)) ({ frames := 3, cells := 0, slots := 0, locals := 67 }) (va_Pc [.ref o0] (cd_W1 (dC, dI) vwCl [(dA, .int)] (cd_M dA o0 o1 o2 o3 o4 h lv fa fb fc fl cx cy cu kn bx by_ bu ap aq) sz)) (va_Qi (fun (r : Int32) (u : Int × Int × Int) => r = cd_I ((cd_cnt (fun i => cd_spM fa fb fc h i) h : Nat) : Int)) (cd_B (dC, dI) vwCl (va_A (cd_M dA o0 o1 o2 o3 o4 h lv fa fb fc fl cx cy cu kn bx by_ bu ap aq) sz) (fun u : Int × Int × Int => (cd_M dA o0 o1 o2 o3 o4 h lv fa fb fc fl u.1 u.2.1 u.2.2 kn bx by_ bu ap aq))) (va_A (cd_M dA o0 o1 o2 o3 o4 h lv fa fb fc fl cx cy cu kn bx by_ bu ap aq) sz)) 0 0 (va_A (cd_M dA o0 o1 o2 o3 o4 h lv fa fb fc fl cx cy cu kn bx by_ bu ap aq) sz) := by
  refine Met.ofW (cc := cX1_spare) (maxL := 3) (ret := (some .int)) (by decide) rfl ?_
  intro p e s m args below meth c s₁ B hml hv
  obtain ⟨rfl, hsz, hP, hK, hD0⟩ := hv
  have hx := B.exec
  have hb := B.bytes
  have hr := B.returns
  have hts := atoms_spec (ws := (ws_ yX1_spare cX1_spare 3 (some .int))) B.pre
  have hts : ∀ w ∈ lw_all, w.before _ s = true := fun w h => hts w (List.mem_cons_of_mem _ h)
  have hown : s.vm.findClass RX1 = some m.cls := findClass_of_methodNamed B.named
  have hlocks := B.notSynchronized
  subst hsz
  have hD := hD0.self (sz := s.heap.size)
  generalize hAe : va_A (cd_M dA o0 o1 o2 o3 o4 h lv fa fb fc fl cx cy cu kn bx by_ bu ap aq) s.heap.size = A at hD ⊢
  have hA : ∀ q : Nat, s.heap.size ≤ q → A q := fun q h => by rw [← hAe]; exact Or.inr h
  have hS : va_S A s.heap s.heap [] := va_S.rf
  have hl := lv_entry ([.ref o0]) (n := 3) (Nat.le_of_ble_eq_true rfl)
  rw [lg_entry_eq]
  generalize (lg_sl ([.ref o0]) ++ List.replicate (3 - (lg_sl ([.ref o0])).length) Slot.unset).toArray = ls at hl ⊢
  have hl : lv_has ls 3 [(0, .ref o0)] := hl
  have hP : va_P (dC, dI) vwCl [(o0, .inr (1, [.int (cd_I ((h : Nat) : Int)), .int (cd_I ((lv : Nat) : Int)), .ref o1, .ref o2, .ref o3, .ref o4, .long (cd_L cx), .long (cd_L cy), .long (cd_L cu), .int (cd_I kn), .long (cd_L bx), .long (cd_L by_), .long (cd_L bu), .int (cd_I ap), .int (cd_I aq)])), (o1, .inl (dA, 8, .inl (cd_n fl))), (o2, .inl (dA, 14, .inl (cd_c fa))), (o3, .inl (dA, 14, .inl (cd_c fb))), (o4, .inl (dA, 14, .inl (cd_c fc)))] s.heap := hP
  have hD : va_D A [(o0, .inr (1, [.int (cd_I ((h : Nat) : Int)), .int (cd_I ((lv : Nat) : Int)), .ref o1, .ref o2, .ref o3, .ref o4, .long (cd_L cx), .long (cd_L cy), .long (cd_L cu), .int (cd_I kn), .long (cd_L bx), .long (cd_L by_), .long (cd_L bu), .int (cd_I ap), .int (cd_I aq)])), (o1, .inl (dA, 8, .inl (cd_n fl))), (o2, .inl (dA, 14, .inl (cd_c fa))), (o3, .inl (dA, 14, .inl (cd_c fb))), (o4, .inl (dA, 14, .inl (cd_c fc)))] := hD
  have hh10 : h ≤ 10 := hok.1
  have loop : ∀ (f i : Nat) (cx cy cu : Int), i ≤ h → h + 1 ≤ i + f → ∀ (H : Heap) (locs : List Loc), va_P (dC, dI) vwCl (cd_M dA o0 o1 o2 o3 o4 h lv fa fb fc fl cx cy cu kn bx by_ bu ap aq) H → va_D A (cd_M dA o0 o1 o2 o3 o4 h lv fa fb fc fl cx cy cu kn bx by_ bu ap aq) → va_S A s.heap H locs → ∀ ls : Array Slot, lv_has ls 3 [(2, .int (cd_I ((i : Nat) : Int))), (1, .int (cd_I ((cd_cnt (fun i => cd_spM fa fb fc h i) i : Nat) : Int))), (0, .ref o0)] → W p l e (headSpec (ws_ yX1_spare cX1_spare 3 (some .int)) ({ frames := 3, cells := 0, slots := 0, locals := 67 })).room s m ([.ref o0] : List Value).toArray below meth c H locs 0 0 (MQ below (va_Qi (fun (r : Int32) (u : Int × Int × Int) => r = cd_I ((cd_cnt (fun i => cd_spM fa fb fc h i) h : Nat) : Int)) (cd_B (dC, dI) vwCl A (fun u : Int × Int × Int => (cd_M dA o0 o1 o2 o3 o4 h lv fa fb fc fl u.1 u.2.1 u.2.2 kn bx by_ bu ap aq))) A) ([.ref o0] : List Value).toArray s 0 0 A) (F0 m 4 ls []) := by
    intro f
    induction f with
    | zero =>
      intro i cx cy cu h0 h1
      exact absurd h1 (by omega)
    | succ f ih =>
      intro i cx cy cu hi1 hi2 H locs hP hD hS ls hl
      have hP : va_P (dC, dI) vwCl [(o0, .inr (1, [.int (cd_I ((h : Nat) : Int)), .int (cd_I ((lv : Nat) : Int)), .ref o1, .ref o2, .ref o3, .ref o4, .long (cd_L cx), .long (cd_L cy), .long (cd_L cu), .int (cd_I kn), .long (cd_L bx), .long (cd_L by_), .long (cd_L bu), .int (cd_I ap), .int (cd_I aq)])), (o1, .inl (dA, 8, .inl (cd_n fl))), (o2, .inl (dA, 14, .inl (cd_c fa))), (o3, .inl (dA, 14, .inl (cd_c fb))), (o4, .inl (dA, 14, .inl (cd_c fc)))] H := hP
      have hD : va_D A [(o0, .inr (1, [.int (cd_I ((h : Nat) : Int)), .int (cd_I ((lv : Nat) : Int)), .ref o1, .ref o2, .ref o3, .ref o4, .long (cd_L cx), .long (cd_L cy), .long (cd_L cu), .int (cd_I kn), .long (cd_L bx), .long (cd_L by_), .long (cd_L bu), .int (cd_I ap), .int (cd_I aq)])), (o1, .inl (dA, 8, .inl (cd_n fl))), (o2, .inl (dA, 14, .inl (cd_c fa))), (o3, .inl (dA, 14, .inl (cd_c fb))), (o4, .inl (dA, 14, .inl (cd_c fc)))] := hD
      refine lv_iload_n hx hb dX1_spare_4 rfl (lv_at hl 0 rfl) ?_
      refine lv_aload_n hx hb dX1_spare_5 rfl (lv_at hl 2 rfl) ?_
      refine cd_get1 (v := .int (cd_I ((h : Nat) : Int))) hx hb hts hown hK hP 0 rfl 0 (by decide) q190 rfl rfl dX1_spare_6 ?_
      refine cd_icmp_ge (tgt := 29) hx hb ⟨by omega, by omega⟩ ⟨by omega, by omega⟩ dX1_spare_9 (by decide) (fun c_1 => ?_) (fun c_1 => ?_)
      · have hin : i = h := by omega
        refine lv_iload_n hx hb dX1_spare_29 rfl (lv_at hl 1 rfl) ?_
        exact W.iret (v := cd_I ((cd_cnt (fun i => cd_spM fa fb fc h i) i : Nat) : Int)) hx hb hr (fun t ht hW => ⟨⟨cd_I ((cd_cnt (fun i => cd_spM fa fb fc h i) i : Nat) : Int), (cx, cy, cu), rfl, by rw [hin], ⟨by rw [ht]; exact hP, hD⟩⟩, hS.F ht⟩) hS.2.2 dX1_spare_30
      · refine lv_aload_n hx hb dX1_spare_12 rfl (lv_at hl 2 rfl) ?_
        refine lv_iload_n hx hb dX1_spare_13 rfl (lv_at hl 0 rfl) ?_
        refine cd_call1i (va_runV (As := [.int (cd_I ((i : Nat) : Int))]) (rest := []) ⟨hx, hb, hml, hown, hts⟩ (xm_spared l dC dI dA o0 o1 o2 o3 o4 h lv fa fb fc fl cx cy cu kn bx by_ bu ap aq H.size i (by omega) hok) (cwV 1 hts (lw_V q306 q308 qs17 q20 q309) rfl rfl rfl (by decide +kernel) ⟨Nat.le_of_ble_eq_true rfl, Nat.le_of_ble_eq_true rfl⟩) ⟨cd_bl1, va_recv hK hP (ci := 1) (q0 := 0) rfl rfl, cd_pr1 hP hK hD⟩ rfl rfl hl.1 rfl (lv_room (Nat.le_of_ble_eq_true rfl)) dX1_spare_14 ⟨Nat.le_of_ble_eq_true rfl, Nat.le_of_ble_eq_true rfl⟩) hD hS hA (fun r u H locs hq hP hD hS => ?_)
        obtain ⟨u1, u2, u3⟩ := u
        have hP : va_P (dC, dI) vwCl [(o0, .inr (1, [.int (cd_I ((h : Nat) : Int)), .int (cd_I ((lv : Nat) : Int)), .ref o1, .ref o2, .ref o3, .ref o4, .long (cd_L u1), .long (cd_L u2), .long (cd_L u3), .int (cd_I kn), .long (cd_L bx), .long (cd_L by_), .long (cd_L bu), .int (cd_I ap), .int (cd_I aq)])), (o1, .inl (dA, 8, .inl (cd_n fl))), (o2, .inl (dA, 14, .inl (cd_c fa))), (o3, .inl (dA, 14, .inl (cd_c fb))), (o4, .inl (dA, 14, .inl (cd_c fc)))] H := hP
        have hD : va_D A [(o0, .inr (1, [.int (cd_I ((h : Nat) : Int)), .int (cd_I ((lv : Nat) : Int)), .ref o1, .ref o2, .ref o3, .ref o4, .long (cd_L u1), .long (cd_L u2), .long (cd_L u3), .int (cd_I kn), .long (cd_L bx), .long (cd_L by_), .long (cd_L bu), .int (cd_I ap), .int (cd_I aq)])), (o1, .inl (dA, 8, .inl (cd_n fl))), (o2, .inl (dA, 14, .inl (cd_c fa))), (o3, .inl (dA, 14, .inl (cd_c fb))), (o4, .inl (dA, 14, .inl (cd_c fc)))] := hD
        rcases hq with ⟨rfl, hsp⟩ | ⟨rfl, hsp⟩
        · refine cd_if_eq (tgt := 23) hx hb ⟨by decide, by decide⟩ dX1_spare_17 (by decide) (fun c_2 => absurd c_2 (by decide)) (fun c_2 => ?_)
          refine cd_iinc (x := ((cd_cnt (fun i => cd_spM fa fb fc h i) i : Nat) : Int)) (lv' := [(1, .int (cd_I (((cd_cnt (fun i => cd_spM fa fb fc h i) i : Nat) : Int) + 1))), (2, .int (cd_I ((i : Nat) : Int))), (0, .ref o0)]) hx hb dX1_spare_20 hl (k := 1) rfl (by decide) rfl (fun ls hl => ?_)
          refine cd_iinc (x := ((i : Nat) : Int)) (lv' := [(2, .int (cd_I (((i : Nat) : Int) + 1))), (1, .int (cd_I (((cd_cnt (fun i => cd_spM fa fb fc h i) i : Nat) : Int) + 1))), (0, .ref o0)]) hx hb dX1_spare_23 hl (k := 1) rfl (by decide) rfl (fun ls hl => ?_)
          refine lv_goto (tgt := 4) hx hb dX1_spare_26 (by decide) ?_
          have hcn : cd_cnt (fun i => cd_spM fa fb fc h i) (i + 1) = cd_cnt (fun i => cd_spM fa fb fc h i) i + 1 := cd_cnt_y (P := fun i => cd_spM fa fb fc h i) hsp
          have hcn2 : (((cd_cnt (fun i => cd_spM fa fb fc h i) i : Nat) : Int) + 1) = ((cd_cnt (fun i => cd_spM fa fb fc h i) (i + 1) : Nat) : Int) := by omega
          rw [hcn2] at hl
          exact ih (i + 1) u1 u2 u3 (by omega) (by omega) H locs hP hD hS ls (lv_sub hl [0, 1, 2] rfl)
        · refine cd_if_eq (tgt := 23) hx hb ⟨by decide, by decide⟩ dX1_spare_17 (by decide) (fun c_3 => ?_) (fun c_3 => absurd c_3 (by decide))
          refine cd_iinc (x := ((i : Nat) : Int)) (lv' := [(2, .int (cd_I (((i : Nat) : Int) + 1))), (1, .int (cd_I ((cd_cnt (fun i => cd_spM fa fb fc h i) i : Nat) : Int))), (0, .ref o0)]) hx hb dX1_spare_23 hl (k := 0) rfl (by decide) rfl (fun ls hl => ?_)
          refine lv_goto (tgt := 4) hx hb dX1_spare_26 (by decide) ?_
          have hcn : cd_cnt (fun i => cd_spM fa fb fc h i) (i + 1) = cd_cnt (fun i => cd_spM fa fb fc h i) i := cd_cnt_n (P := fun i => cd_spM fa fb fc h i) hsp
          have hcn2 : ((cd_cnt (fun i => cd_spM fa fb fc h i) i : Nat) : Int) = ((cd_cnt (fun i => cd_spM fa fb fc h i) (i + 1) : Nat) : Int) := by omega
          rw [hcn2] at hl
          exact ih (i + 1) u1 u2 u3 (by omega) (by omega) H locs hP hD hS ls (lv_sub hl [0, 1, 2] rfl)
  refine lv_iconst (v := cd_I 0) hx hb dX1_spare_0 rfl ?_
  refine lv_istore_n (lv' := [(1, .int (cd_I 0)), (0, .ref o0)]) hx hb dX1_spare_1 rfl hl (by decide) rfl (fun ls hl => ?_)
  refine lv_iconst (v := cd_I 0) hx hb dX1_spare_2 rfl ?_
  refine lv_istore_n (lv' := [(2, .int (cd_I 0)), (1, .int (cd_I 0)), (0, .ref o0)]) hx hb dX1_spare_3 rfl hl (by decide) rfl (fun ls hl => ?_)
  exact loop (h + 1) 0 cx cy cu (by omega) (by omega) s.heap [] hP hD hS ls (lv_sub hl [0, 1, 2] rfl)
end
section
/-! the desk beside the reference -/
def cd_RB (rm bx by_ bw ap aq kn mx my mu mp mq : Int) : Prop := (rm = 0 ∧ kn = 0) ∨ (rm = 1 ∧ kn = 1 ∧ (cd_b 1782 bx ∧ cd_b 1782 by_ ∧ cd_b 162 bw ∧ 0 < bw) ∧ (cd_b 1782 mx ∧ cd_b 1782 my ∧ cd_b 162 mu ∧ 0 < mu) ∧ (bx * mu = mx * bw ∧ by_ * mu = my * bw) ∧ (ap = mp ∧ aq = mq) ∧ cd_b 9 ap ∧ cd_b 9 aq)
def cd_RS (n lv : Nat) (fa fb fc : Nat → Int) (fl : Nat → Nat) (h lv' : Nat) (ga gb gc : Nat → Int) (gl : Nat → Nat) : Prop := (n = h + 4 ∧ h ≤ 10) ∧ (lv' = lv ∧ 1 ≤ lv ∧ lv ≤ 8) ∧ cd_ok fa fb fc n ∧ (∀ i, i < 10 → ga i = fa (i + 4) ∧ gb i = fb (i + 4) ∧ gc i = fc (i + 4)) ∧ (∀ i, i < 4 → ga (i + 10) = fa i ∧ gb (i + 10) = fb i ∧ gc (i + 10) = fc i) ∧ (∀ i, 1 ≤ i → i < lv → fl i = gl i + 4 ∧ gl i ≤ h) ∧ (∀ i i', 1 ≤ i → i ≤ i' → i' < lv → gl i ≤ gl i')
theorem cd_RS_okM {n lv : Nat} {fa fb fc : Nat → Int} {fl : Nat → Nat} {h lv' : Nat} {ga gb gc : Nat → Int} {gl : Nat → Nat} (hR : cd_RS n lv fa fb fc fl h lv' ga gb gc gl) : cd_okM ga gb gc h := by
  obtain ⟨⟨e0, e1⟩, -, hok, h1, h2, -, -⟩ := hR
  obtain ⟨⟨n4, n14⟩, -, -, -, -, hB⟩ := hok
  refine ⟨e1, fun i hi hor => ?_⟩
  rcases Nat.lt_or_ge i 10 with q | q
  · obtain ⟨f1, f2, f3⟩ := h1 i q
    have z := hB (i + 4) (by omega)
    rw [f1, f2, f3]
    exact ⟨z.1, z.2.1, z.2.2.1⟩
  · obtain ⟨i', rfl⟩ : ∃ i', i = i' + 10 := ⟨i - 10, by omega⟩
    obtain ⟨f1, f2, f3⟩ := h2 i' (by omega)
    have z := hB i' (by omega)
    rw [f1, f2, f3]
    exact ⟨z.1, z.2.1, z.2.2.1⟩
def cd_wo (h : Nat) (wo wo' : Int) : Prop := (wo = -1 ∧ wo' = -1) ∨ ∃ k : Nat, k < h ∧ wo = ((k + 4 : Nat) : Int) ∧ wo' = (k : Int)
theorem cd_T2S {n lv : Nat} {fa fb fc : Nat → Int} {fl : Nat → Nat} {h lv' : Nat} {ga gb gc : Nat → Int} {gl : Nat → Nat} {wo wo' : Int} (hR : cd_RS n lv fa fb fc fl h lv' ga gb gc gl) (hw : cd_wo h wo wo') (i : Nat) (hi : cd_T h wo' i) : ∃ j, cd_S n wo j ∧ ga i = fa j ∧ gb i = fb j ∧ gc i = fc j := by
  obtain ⟨⟨e0, e1⟩, -, hok, h1, h2, -, -⟩ := hR
  obtain ⟨i14, hne, hor⟩ := hi
  rcases Nat.lt_or_ge i 10 with q | q
  · refine ⟨i + 4, ⟨by omega, ?_⟩, h1 i q⟩
    rcases hw with ⟨w1, w2⟩ | ⟨k, hk, w1, w2⟩
    · omega
    · omega
  · obtain ⟨i', rfl⟩ : ∃ i', i = i' + 10 := ⟨i - 10, by omega⟩
    refine ⟨i', ⟨by omega, ?_⟩, h2 i' (by omega)⟩
    rcases hw with ⟨w1, w2⟩ | ⟨k, hk, w1, w2⟩
    · omega
    · omega
theorem cd_S2T {n lv : Nat} {fa fb fc : Nat → Int} {fl : Nat → Nat} {h lv' : Nat} {ga gb gc : Nat → Int} {gl : Nat → Nat} {wo wo' : Int} (hR : cd_RS n lv fa fb fc fl h lv' ga gb gc gl) (hw : cd_wo h wo wo') (j : Nat) (hj : cd_S n wo j) : ∃ i, cd_T h wo' i ∧ fa j = ga i ∧ fb j = gb i ∧ fc j = gc i := by
  obtain ⟨⟨e0, e1⟩, -, hok, h1, h2, -, -⟩ := hR
  obtain ⟨jn, hne⟩ := hj
  rcases Nat.lt_or_ge j 4 with q | q
  · obtain ⟨f1, f2, f3⟩ := h2 j q
    refine ⟨j + 10, ⟨by omega, ?_, by omega⟩, f1.symm, f2.symm, f3.symm⟩
    rcases hw with ⟨w1, w2⟩ | ⟨k, hk, w1, w2⟩
    · omega
    · omega
  · obtain ⟨j', rfl⟩ : ∃ j', j = j' + 4 := ⟨j - 4, by omega⟩
    obtain ⟨f1, f2, f3⟩ := h1 j' (by omega)
    refine ⟨j', ⟨by omega, ?_, by omega⟩, f1.symm, f2.symm, f3.symm⟩
    rcases hw with ⟨w1, w2⟩ | ⟨k, hk, w1, w2⟩
    · omega
    · omega
theorem cd_feas_map {a b c a' b' c' : Nat → Int} {S T : Nat → Prop} {X Y W : Int} (hm : ∀ i, T i → ∃ j, S j ∧ a' i = a j ∧ b' i = b j ∧ c' i = c j) (hF : cd_feas a b c S X Y W) : cd_feas a' b' c' T X Y W := by
  refine ⟨hF.1, fun i hi => ?_⟩
  obtain ⟨j, hj, e1, e2, e3⟩ := hm i hi
  rw [e1, e2, e3]
  exact hF.2 j hj
theorem cd_corn_map {a b c a' b' c' : Nat → Int} {S T : Nat → Prop} {X Y W : Int} (hm : ∀ i, T i → ∃ j, S j ∧ a' i = a j ∧ b' i = b j ∧ c' i = c j) (hC : cd_corn a' b' c' T X Y W) : cd_corn a b c S X Y W := by
  obtain ⟨i, j, hi, hj, hc⟩ := hC
  obtain ⟨i2, hi2, e1, e2, e3⟩ := hm i hi
  obtain ⟨j2, hj2, f1, f2, f3⟩ := hm j hj
  refine ⟨i2, j2, hi2, hj2, ?_⟩
  unfold cd_cr at hc ⊢
  rw [← e1, ← e2, ← e3, ← f1, ← f2, ← f3]
  exact hc
theorem cd_eq_pos {n lv : Nat} {fa fb fc : Nat → Int} {fl : Nat → Nat} {h lv' : Nat} {ga gb gc : Nat → Int} {gl : Nat → Nat} (hR : cd_RS n lv fa fb fc fl h lv' ga gb gc gl) {r r' : Int32} {x y w : Int} (hd : (r = cd_I 1 ∧ cd_opt fa fb fc (cd_S n (-1)) 0 0 x y w ∧ cd_corn fa fb fc (cd_S n (-1)) x y w) ∨ (r = cd_I 0 ∧ ∀ X Y W : Int, ¬ cd_feas fa fb fc (cd_S n (-1)) X Y W)) (hm : (r' = cd_I 1 ∧ ∃ X Y W : Int, cd_corn ga gb gc (cd_T h (-1)) X Y W ∧ cd_feas ga gb gc (cd_T h (-1)) X Y W) ∨ (r' = cd_I 0 ∧ cd_sNo ga gb gc (cd_T h (-1)))) : r = r' := by
  have m1 := cd_T2S hR (wo := -1) (wo' := -1) (Or.inl ⟨rfl, rfl⟩)
  have m2 := cd_S2T hR (wo := -1) (wo' := -1) (Or.inl ⟨rfl, rfl⟩)
  rcases hd with ⟨e1, ho, hc⟩ | ⟨e1, hn⟩
  · rcases hm with ⟨e2, -⟩ | ⟨e2, hn⟩
    · rw [e1, e2]
    · exact absurd (cd_feas_map m1 ho.1) (hn x y w (cd_corn_map m2 hc))
  · rcases hm with ⟨e2, X, Y, W, hc, hF⟩ | ⟨e2, -⟩
    · exact absurd (cd_feas_map m2 hF) (hn X Y W)
    · rw [e1, e2]
theorem cd_eq_best {n lv : Nat} {fa fb fc : Nat → Int} {fl : Nat → Nat} {h lv' : Nat} {ga gb gc : Nat → Int} {gl : Nat → Nat} (hR : cd_RS n lv fa fb fc fl h lv' ga gb gc gl) {rm bx by_ bw ap aq kn mx my mu mp mq rm' bx' by' bw' ap' aq' kn' mx' my' mu' mp' mq' pp qq : Int} (hB : cd_RB rm bx by_ bw ap aq kn mx my mu mp mq) {r r' : Int32}
    (hd : (r = cd_I (-1) ∧ (rm' = rm ∧ bx' = bx ∧ by' = by_ ∧ bw' = bw ∧ ap' = ap ∧ aq' = aq) ∧ ¬ (cd_b 9 pp ∧ cd_b 9 qq)) ∨ ((cd_b 9 pp ∧ cd_b 9 qq) ∧ r = cd_I 1 ∧ rm' = 1 ∧ (ap' = pp ∧ aq' = qq) ∧ cd_opt fa fb fc (cd_S n (-1)) pp qq bx' by' bw' ∧ cd_corn fa fb fc (cd_S n (-1)) bx' by' bw') ∨ ((cd_b 9 pp ∧ cd_b 9 qq) ∧ r = cd_I 0 ∧ rm' = 0 ∧ (bx' = bx ∧ by' = by_ ∧ bw' = bw ∧ ap' = ap ∧ aq' = aq) ∧ ∀ X Y W : Int, ¬ cd_feas fa fb fc (cd_S n (-1)) X Y W))
    (hm : (r' = cd_I (-1) ∧ (kn' = kn ∧ mx' = mx ∧ my' = my ∧ mu' = mu ∧ mp' = mp ∧ mq' = mq) ∧ ¬ (cd_b 9 pp ∧ cd_b 9 qq)) ∨ ((cd_b 9 pp ∧ cd_b 9 qq) ∧ r' = cd_I 1 ∧ kn' = 1 ∧ (mp' = pp ∧ mq' = qq) ∧ cd_sOK ga gb gc (cd_T h (-1)) pp qq mx' my' mu') ∨ ((cd_b 9 pp ∧ cd_b 9 qq) ∧ r' = cd_I 0 ∧ kn' = 0 ∧ cd_sNo ga gb gc (cd_T h (-1)))) : r = r' ∧ cd_RB rm' bx' by' bw' ap' aq' kn' mx' my' mu' mp' mq' := by
  have m1 := cd_T2S hR (wo := -1) (wo' := -1) (Or.inl ⟨rfl, rfl⟩)
  have m2 := cd_S2T hR (wo := -1) (wo' := -1) (Or.inl ⟨rfl, rfl⟩)
  have hokM := cd_RS_okM hR
  have hok := hR.2.2.1
  rcases hd with ⟨e1, ⟨d1, d2, d3, d4, d5, d6⟩, hno⟩ | ⟨hyes, e1, d1, ⟨d2, d3⟩, ho, hc⟩ | ⟨hyes, e1, d1, -, hn⟩
  · rcases hm with ⟨e2, ⟨k1, k2, k3, k4, k5, k6⟩, -⟩ | ⟨hyes, -⟩ | ⟨hyes, -⟩
    · subst d1 d2 d3 d4 d5 d6 k1 k2 k3 k4 k5 k6
      exact ⟨by rw [e1, e2], hB⟩
    · exact absurd hyes hno
    · exact absurd hyes hno
  · rcases hm with ⟨-, -, hno⟩ | ⟨-, e2, k1, ⟨k2, k3⟩, s1, s2, s3⟩ | ⟨-, e2, k1, hs⟩
    · exact absurd hyes hno
    · refine ⟨by rw [e1, e2], Or.inr ⟨d1, k1, cd_corn_b hok (fun _ q => q.1) hc, cd_cornM_b hokM s1, ?_, ⟨by rw [d2, k2], by rw [d3, k3]⟩, by rw [d2]; exact hyes.1, by rw [d3]; exact hyes.2⟩⟩
      exact cd_same (s3 bx' by' bw' (cd_corn_map m2 hc) (cd_feas_map m1 ho.1)) (ho.2 mx' my' mu' (cd_feas_map m2 s2))
    · exact absurd (cd_feas_map m1 ho.1) (hs bx' by' bw' (cd_corn_map m2 hc))
  · rcases hm with ⟨-, -, hno⟩ | ⟨-, e2, k1, -, s1, s2, s3⟩ | ⟨-, e2, k1, hs⟩
    · exact absurd hyes hno
    · exact absurd (cd_feas_map m2 s2) (hn mx' my' mu')
    · exact ⟨by rw [e1, e2], Or.inl ⟨d1, k1⟩⟩
/-- fractions in lowest terms -/
theorem cd_red {n1 d1 n2 d2 : Int} (h1 : 0 < d1) (h2 : 0 < d2) (e : n1 * d2 = n2 * d1) : Int.tdiv n1 ((Nat.gcd n1.natAbs d1.natAbs : Nat) : Int) = Int.tdiv n2 ((Nat.gcd n2.natAbs d2.natAbs : Nat) : Int) ∧ Int.tdiv d1 ((Nat.gcd n1.natAbs d1.natAbs : Nat) : Int) = Int.tdiv d2 ((Nat.gcd n2.natAbs d2.natAbs : Nat) : Int) := by
  have key : ∀ n d : Int, 0 < d → ∃ n' d' : Int, n = ((Nat.gcd n.natAbs d.natAbs : Nat) : Int) * n' ∧ d = ((Nat.gcd n.natAbs d.natAbs : Nat) : Int) * d' ∧ 0 < d' ∧ Nat.Coprime n'.natAbs d'.natAbs ∧ Int.tdiv n ((Nat.gcd n.natAbs d.natAbs : Nat) : Int) = n' ∧ Int.tdiv d ((Nat.gcd n.natAbs d.natAbs : Nat) : Int) = d' := by
    intro n d hd
    obtain ⟨g, hg⟩ : ∃ g, g = Nat.gcd n.natAbs d.natAbs := ⟨_, rfl⟩
    have hg0 : 0 < g := by
      rw [hg]
      exact Nat.gcd_pos_of_pos_right _ (by omega)
    have dv1 : (g : Int) ∣ n := by
      rw [hg]
      exact Int.ofNat_dvd_left.mpr (Nat.gcd_dvd_left _ _)
    have dv2 : (g : Int) ∣ d := by
      rw [hg]
      exact Int.ofNat_dvd_left.mpr (Nat.gcd_dvd_right _ _)
    obtain ⟨n', hn'⟩ := dv1
    obtain ⟨d', hd'⟩ := dv2
    have hgI : (0 : Int) < (g : Int) := by omega
    rw [← hg]
    refine ⟨n', d', hn', hd', ?_, ?_, ?_, ?_⟩
    · exact cd_pz hgI (by rw [← hd']; exact hd)
    · have q1 : n.natAbs = g * n'.natAbs := by rw [hn', Int.natAbs_mul, Int.natAbs_natCast]
      have q2 : d.natAbs = g * d'.natAbs := by rw [hd', Int.natAbs_mul, Int.natAbs_natCast]
      rw [q1, q2, Nat.gcd_mul_left] at hg
      have q3 : g * 1 = g * Nat.gcd n'.natAbs d'.natAbs := by omega
      exact (Nat.eq_of_mul_eq_mul_left hg0 q3).symm
    · rw [hn', Int.mul_tdiv_cancel_left _ (by omega)]
    · rw [hd', Int.mul_tdiv_cancel_left _ (by omega)]
  obtain ⟨n1', d1', a1, a2, a3, a4, a5, a6⟩ := key n1 d1 h1
  obtain ⟨n2', d2', b1, b2, b3, b4, b5, b6⟩ := key n2 d2 h2
  rw [a5, a6, b5, b6]
  obtain ⟨g1, hg1⟩ : ∃ g : Int, g = ((Nat.gcd n1.natAbs d1.natAbs : Nat) : Int) := ⟨_, rfl⟩
  obtain ⟨g2, hg2⟩ : ∃ g : Int, g = ((Nat.gcd n2.natAbs d2.natAbs : Nat) : Int) := ⟨_, rfl⟩
  rw [← hg1] at a1 a2
  rw [← hg2] at b1 b2
  have g1p : 0 < g1 := by
    rw [hg1]
    have := Nat.gcd_pos_of_pos_right n1.natAbs (show 0 < d1.natAbs by omega)
    omega
  have g2p : 0 < g2 := by
    rw [hg2]
    have := Nat.gcd_pos_of_pos_right n2.natAbs (show 0 < d2.natAbs by omega)
    omega
  have e2 : n1' * d2' = n2' * d1' := by
    rw [a1, a2, b1, b2] at e
    have f1 : g1 * n1' * (g2 * d2') = g1 * g2 * (n1' * d2') := by grind
    have f2 : g2 * n2' * (g1 * d1') = g1 * g2 * (n2' * d1') := by grind
    rw [f1, f2] at e
    exact Int.eq_of_mul_eq_mul_left (Int.ne_of_gt (Int.mul_pos g1p g2p)) e
  have e3 : n1'.natAbs * d2'.natAbs = n2'.natAbs * d1'.natAbs := by rw [← Int.natAbs_mul, ← Int.natAbs_mul, e2]
  have v1 : d1'.natAbs ∣ d2'.natAbs := Nat.Coprime.dvd_of_dvd_mul_left (m := n1'.natAbs) (Nat.Coprime.symm a4) (by rw [e3]; exact Nat.dvd_mul_left _ _)
  have v2 : d2'.natAbs ∣ d1'.natAbs := Nat.Coprime.dvd_of_dvd_mul_left (m := n2'.natAbs) (Nat.Coprime.symm b4) (by rw [← e3]; exact Nat.dvd_mul_left _ _)
  have e4 : d1'.natAbs = d2'.natAbs := Nat.dvd_antisymm v1 v2
  have e5 : d1' = d2' := by omega
  refine ⟨?_, e5⟩
  rw [e5] at e2
  exact Int.eq_of_mul_eq_mul_right (Int.ne_of_gt b3) e2
theorem cd_RB_up {rm bx by_ bw ap aq kn mx my mu mp mq : Int} (z : Int) (e1 : bx * mu = mx * bw) (e2 : by_ * mu = my * bw) (e3 : ap = mp) (e4 : aq = mq) : cd_up z bx by_ ap aq * mu = cd_up z mx my mp mq * bw := by
  unfold cd_up
  split
  · exact e1
  · split
    · exact e2
    · rw [← e3, ← e4]
      have f1 : (ap * bx + aq * by_) * mu = ap * (bx * mu) + aq * (by_ * mu) := by grind
      have f2 : (ap * mx + aq * my) * bw = ap * (mx * bw) + aq * (my * bw) := by grind
      rw [f1, f2, e1, e2]
theorem cd_eq_num {rm bx by_ bw ap aq kn mx my mu mp mq z : Int} (hB : cd_RB rm bx by_ bw ap aq kn mx my mu mp mq) {r r' : Int32}
    (hd : (r = cd_I 0 ∧ ¬ (rm = 1 ∧ 0 ≤ z ∧ z ≤ 2)) ∨ (r = cd_I (Int.tdiv (cd_up z bx by_ ap aq) ((Nat.gcd (cd_up z bx by_ ap aq).natAbs bw.natAbs : Nat) : Int)) ∧ (rm = 1 ∧ 0 ≤ z ∧ z ≤ 2)))
    (hm : (r' = cd_I 0 ∧ ¬ (kn = 1 ∧ 0 ≤ z ∧ z ≤ 2)) ∨ (r' = cd_I (Int.tdiv (cd_up z mx my mp mq) ((Nat.gcd (cd_up z mx my mp mq).natAbs mu.natAbs : Nat) : Int)) ∧ (kn = 1 ∧ 0 ≤ z ∧ z ≤ 2))) : r = r' := by
  have hk : rm = kn := by
    rcases hB with ⟨q1, q2⟩ | ⟨q1, q2, -⟩ <;> omega
  rcases hd with ⟨d1, d2⟩ | ⟨d1, d2⟩
  · rcases hm with ⟨k1, k2⟩ | ⟨k1, k2⟩
    · rw [d1, k1]
    · exact absurd (by omega) d2
  · rcases hm with ⟨k1, k2⟩ | ⟨k1, k2⟩
    · exact absurd (by omega) k2
    · rcases hB with ⟨q1, q2⟩ | ⟨q1, q2, q3, q4, ⟨q5, q6⟩, ⟨q7, q8⟩, -⟩
      · omega
      · rw [d1, k1, (cd_red q3.2.2.2 q4.2.2.2 (cd_RB_up (rm := rm) (kn := kn) z q5 q6 q7 q8)).1]
theorem cd_eq_den {rm bx by_ bw ap aq kn mx my mu mp mq z : Int} (hB : cd_RB rm bx by_ bw ap aq kn mx my mu mp mq) {r r' : Int32}
    (hd : (r = cd_I 0 ∧ ¬ (rm = 1 ∧ 0 ≤ z ∧ z ≤ 2)) ∨ (r = cd_I (Int.tdiv bw ((Nat.gcd (cd_up z bx by_ ap aq).natAbs bw.natAbs : Nat) : Int)) ∧ (rm = 1 ∧ 0 ≤ z ∧ z ≤ 2)))
    (hm : (r' = cd_I 0 ∧ ¬ (kn = 1 ∧ 0 ≤ z ∧ z ≤ 2)) ∨ (r' = cd_I (Int.tdiv mu ((Nat.gcd (cd_up z mx my mp mq).natAbs mu.natAbs : Nat) : Int)) ∧ (kn = 1 ∧ 0 ≤ z ∧ z ≤ 2))) : r = r' := by
  have hk : rm = kn := by
    rcases hB with ⟨q1, q2⟩ | ⟨q1, q2, -⟩ <;> omega
  rcases hd with ⟨d1, d2⟩ | ⟨d1, d2⟩
  · rcases hm with ⟨k1, k2⟩ | ⟨k1, k2⟩
    · rw [d1, k1]
    · exact absurd (by omega) d2
  · rcases hm with ⟨k1, k2⟩ | ⟨k1, k2⟩
    · exact absurd (by omega) k2
    · rcases hB with ⟨q1, q2⟩ | ⟨q1, q2, q3, q4, ⟨q5, q6⟩, ⟨q7, q8⟩, -⟩
      · omega
      · rw [d1, k1, (cd_red q3.2.2.2 q4.2.2.2 (cd_RB_up (rm := rm) (kn := kn) z q5 q6 q7 q8)).2]
theorem cd_eq_test {rm bx by_ bw ap aq kn mx my mu mp mq a b d : Int} (hB : cd_RB rm bx by_ bw ap aq kn mx my mu mp mq) {r r' : Int32}
    (hd : (r = cd_I (-1) ∧ ¬ (rm = 1 ∧ cd_cond a b d)) ∨ ((rm = 1 ∧ cd_cond a b d) ∧ ((r = cd_I 1 ∧ (a * bx + b * by_ - d * bw) = 0) ∨ (r = cd_I 2 ∧ (a * bx + b * by_ - d * bw) < 0) ∨ (r = cd_I 0 ∧ 0 < (a * bx + b * by_ - d * bw)))))
    (hm : (r' = cd_I (-1) ∧ ¬ (kn = 1 ∧ cd_cond a b d)) ∨ ((kn = 1 ∧ cd_cond a b d) ∧ ((r' = cd_I 1 ∧ (a * mx + b * my) = (d * mu)) ∨ (r' = cd_I 2 ∧ (a * mx + b * my) < (d * mu)) ∨ (r' = cd_I 0 ∧ (d * mu) < (a * mx + b * my))))) : r = r' := by
  have hk : rm = kn := by
    rcases hB with ⟨q1, q2⟩ | ⟨q1, q2, -⟩ <;> omega
  rcases hd with ⟨d1, d2⟩ | ⟨d1, d2⟩
  · rcases hm with ⟨k1, k2⟩ | ⟨k1, k2⟩
    · rw [d1, k1]
    · exact absurd ⟨by omega, k1.2⟩ d2
  · rcases hm with ⟨k1, k2⟩ | ⟨k1, k2⟩
    · exact absurd ⟨by omega, d1.2⟩ k2
    · rcases hB with ⟨q1, q2⟩ | ⟨q1, q2, q3, q4, ⟨q5, q6⟩, -⟩
      · omega
      · have hw := q3.2.2.2
        have hu := q4.2.2.2
        obtain ⟨E, hE⟩ : ∃ E, E = a * bx + b * by_ - d * bw := ⟨_, rfl⟩
        obtain ⟨F, hF⟩ : ∃ F, F = a * mx + b * my - d * mu := ⟨_, rfl⟩
        have e : mu * E = bw * F := by
          have f1 : mu * E = a * (bx * mu) + b * (by_ * mu) - d * bw * mu := by rw [hE]; grind
          have f2 : bw * F = a * (mx * bw) + b * (my * bw) - d * bw * mu := by rw [hF]; grind
          rw [f1, f2, q5, q6]
        rw [← hE] at d2
        rcases d2 with ⟨x1, x2⟩ | ⟨x1, x2⟩ | ⟨x1, x2⟩
        · rw [x2, Int.mul_zero] at e
          have := cd_zz hw e.symm
          rcases k2 with ⟨y1, y2⟩ | ⟨y1, y2⟩ | ⟨y1, y2⟩
          · rw [x1, y1]
          · omega
          · omega
        · have := Int.mul_neg_of_pos_of_neg hu x2
          have := cd_nz hw (z := F) (by omega)
          rcases k2 with ⟨y1, y2⟩ | ⟨y1, y2⟩ | ⟨y1, y2⟩
          · omega
          · rw [x1, y1]
          · omega
        · have := Int.mul_pos hu x2
          have := cd_pz hw (z := F) (by omega)
          rcases k2 with ⟨y1, y2⟩ | ⟨y1, y2⟩ | ⟨y1, y2⟩
          · omega
          · omega
          · rw [x1, y1]
theorem cd_eq_spare {n lv : Nat} {fa fb fc : Nat → Int} {fl : Nat → Nat} {h lv' : Nat} {ga gb gc : Nat → Int} {gl : Nat → Nat} (hR : cd_RS n lv fa fb fc fl h lv' ga gb gc gl) {r r' : Int32} (hd : r = cd_I ((cd_cnt (fun i => cd_spare fa fb fc n (i + 4)) (n - 4) : Nat) : Int) ∧ ∀ i, i + 4 < n → cd_has fa fb fc n (i + 4)) (hm : r' = cd_I ((cd_cnt (fun i => cd_spM ga gb gc h i) h : Nat) : Int)) : r = r' := by
  have en := hR.1.1
  have e1 : n - 4 = h := by omega
  have hcnt : cd_cnt (fun i => cd_spare fa fb fc n (i + 4)) h = cd_cnt (fun i => cd_spM ga gb gc h i) h := by
    refine cd_cnt_eq (fun i hi => ?_)
    have m1 := cd_T2S hR (wo := ((i + 4 : Nat) : Int)) (wo' := (i : Int)) (Or.inr ⟨i, hi, rfl, rfl⟩)
    have m2 := cd_S2T hR (wo := ((i + 4 : Nat) : Int)) (wo' := (i : Int)) (Or.inr ⟨i, hi, rfl, rfl⟩)
    obtain ⟨f1, f2, f3⟩ := hR.2.2.2.1 i (by have := hR.1.2; omega)
    constructor
    · intro hs X Y W hc hF
      rw [f1, f2, f3]
      exact hs X Y W (cd_feas_map m2 hF)
    · intro hs
      rcases hd.2 i (by omega) with q | ⟨X, Y, W, ho, hc⟩
      · exact fun X Y W hF => absurd hF (q X Y W)
      · refine cd_spare_y ho ?_
        have := hs X Y W (cd_corn_map m2 hc) (cd_feas_map m1 ho.1)
        rw [f1, f2, f3] at this
        exact this
  rw [hd.1, hm, e1, hcnt]
theorem cd_u_eq {g : Nat → Int} {k : Nat} {v : Int} : cd_u g k v k = v := by simp [cd_u]
theorem cd_u_ne {g : Nat → Int} {k j : Nat} {v : Int} (h : j ≠ k) : cd_u g k v j = g j := by simp [cd_u, h]
theorem cd_un_eq {g : Nat → Nat} {k v : Nat} : cd_un g k v k = v := by simp [cd_un]
theorem cd_un_ne {g : Nat → Nat} {k j v : Nat} (h : j ≠ k) : cd_un g k v j = g j := by simp [cd_un, h]
theorem cd_eq_add {n lv : Nat} {fa fb fc : Nat → Int} {fl : Nat → Nat} {h lv' : Nat} {ga gb gc : Nat → Int} {gl : Nat → Nat} (hR : cd_RS n lv fa fb fc fl h lv' ga gb gc gl) {r r' : Int32} {n' h' : Nat} {fa' fb' fc' ga' gb' gc' : Nat → Int} {a b d : Int}
    (hd : (r = cd_I (-1) ∧ (n' = n ∧ fa' = fa ∧ fb' = fb ∧ fc' = fc) ∧ (¬ cd_cond a b d ∨ 14 ≤ n)) ∨ (r = cd_I ((n : Int) + 1 - 4) ∧ (n' = n + 1 ∧ fa' = cd_u fa n a ∧ fb' = cd_u fb n b ∧ fc' = cd_u fc n d) ∧ cd_cond a b d ∧ n < 14))
    (hm : (r' = cd_I (-1) ∧ (h' = h ∧ ga' = ga ∧ gb' = gb ∧ gc' = gc) ∧ (¬ cd_cond a b d ∨ h = 10)) ∨ (r' = cd_I ((h : Int) + 1) ∧ (h' = h + 1 ∧ ga' = cd_u ga h a ∧ gb' = cd_u gb h b ∧ gc' = cd_u gc h d) ∧ cd_cond a b d ∧ ¬ h = 10)) : r = r' ∧ cd_RS n' lv fa' fb' fc' fl h' lv' ga' gb' gc' gl := by
  obtain ⟨⟨e0, e1⟩, hlv, hok, h1, h2, h3, h4⟩ := id hR
  rcases hd with ⟨d1, ⟨d2, d3, d4, d5⟩, d6⟩ | ⟨d1, ⟨d2, d3, d4, d5⟩, d6, d7⟩
  · rcases hm with ⟨k1, ⟨k2, k3, k4, k5⟩, k6⟩ | ⟨k1, ⟨k2, k3, k4, k5⟩, k6, k7⟩
    · subst d2 d3 d4 d5 k2 k3 k4 k5
      exact ⟨by rw [d1, k1], hR⟩
    · rcases d6 with q | q
      · exact absurd k6 q
      · omega
  · rcases hm with ⟨k1, ⟨k2, k3, k4, k5⟩, k6⟩ | ⟨k1, ⟨k2, k3, k4, k5⟩, k6, k7⟩
    · rcases k6 with q | q
      · exact absurd d6 q
      · omega
    · refine ⟨?_, ?_⟩
      · rw [d1, k1, e0]
        congr 1
        omega
      · subst d2 d3 d4 d5 k2 k3 k4 k5
        obtain ⟨⟨n4, n14⟩, b0, b1, b2, b3, hB⟩ := hok
        have nn : ∀ i, i < 4 → i ≠ n := fun i hi => by omega
        refine ⟨⟨by omega, by omega⟩, hlv, ?_, ?_, ?_, ?_, h4⟩
        · refine ⟨⟨by omega, by omega⟩, ?_, ?_, ?_, ?_, ?_⟩
          · rw [cd_u_ne (nn 0 (by decide)), cd_u_ne (nn 0 (by decide)), cd_u_ne (nn 0 (by decide))]
            exact b0
          · rw [cd_u_ne (nn 1 (by decide)), cd_u_ne (nn 1 (by decide)), cd_u_ne (nn 1 (by decide))]
            exact b1
          · rw [cd_u_ne (nn 2 (by decide)), cd_u_ne (nn 2 (by decide)), cd_u_ne (nn 2 (by decide))]
            exact b2
          · rw [cd_u_ne (nn 3 (by decide)), cd_u_ne (nn 3 (by decide)), cd_u_ne (nn 3 (by decide))]
            exact b3
          · intro j hj
            by_cases q : j = n
            · subst q
              rw [cd_u_eq, cd_u_eq, cd_u_eq]
              obtain ⟨⟨z1, z2, z3, z4, z5, z6⟩, z7⟩ := d6
              exact ⟨⟨z1, z2⟩, ⟨z3, z4⟩, ⟨z5, z6⟩, z7⟩
            · rw [cd_u_ne q, cd_u_ne q, cd_u_ne q]
              exact hB j (by omega)
        · intro i hi
          by_cases q : i = h
          · subst q
            rw [← e0, cd_u_eq, cd_u_eq, cd_u_eq, cd_u_eq, cd_u_eq, cd_u_eq]
            exact ⟨rfl, rfl, rfl⟩
          · rw [cd_u_ne q, cd_u_ne q, cd_u_ne q, cd_u_ne (show i + 4 ≠ n by omega), cd_u_ne (show i + 4 ≠ n by omega), cd_u_ne (show i + 4 ≠ n by omega)]
            exact h1 i hi
        · intro i hi
          rw [cd_u_ne (show i + 10 ≠ h by omega), cd_u_ne (show i + 10 ≠ h by omega), cd_u_ne (show i + 10 ≠ h by omega), cd_u_ne (nn i hi), cd_u_ne (nn i hi), cd_u_ne (nn i hi)]
          exact h2 i hi
        · intro i q1 q2
          have := h3 i q1 q2
          exact ⟨this.1, by omega⟩
theorem cd_eq_push {n lv : Nat} {fa fb fc : Nat → Int} {fl : Nat → Nat} {h lv' : Nat} {ga gb gc : Nat → Int} {gl : Nat → Nat} (hR : cd_RS n lv fa fb fc fl h lv' ga gb gc gl) {r r' : Int32} {lw lw' : Nat} {fm gm : Nat → Nat}
    (hd : (r = cd_I (-1) ∧ (lw = lv ∧ fm = fl) ∧ 8 ≤ lv) ∨ (r = cd_I ((lv : Int) + 1) ∧ (lw = lv + 1 ∧ fm = cd_un fl lv n) ∧ lv < 8))
    (hm : (r' = cd_I (-1) ∧ (lw' = lv' ∧ gm = gl) ∧ 8 ≤ lv') ∨ (r' = cd_I ((lv' : Int) + 1) ∧ (lw' = lv' + 1 ∧ gm = cd_un gl lv' h) ∧ lv' < 8)) : r = r' ∧ cd_RS n lw fa fb fc fm h lw' ga gb gc gm := by
  obtain ⟨⟨e0, e1⟩, ⟨l1, l2, l3⟩, hok, h1, h2, h3, h4⟩ := id hR
  subst l1
  rcases hd with ⟨d1, ⟨d2, d3⟩, d4⟩ | ⟨d1, ⟨d2, d3⟩, d4⟩
  · rcases hm with ⟨k1, ⟨k2, k3⟩, k4⟩ | ⟨k1, ⟨k2, k3⟩, k4⟩
    · subst d2 d3 k2 k3
      exact ⟨by rw [d1, k1], hR⟩
    · omega
  · rcases hm with ⟨k1, ⟨k2, k3⟩, k4⟩ | ⟨k1, ⟨k2, k3⟩, k4⟩
    · omega
    · refine ⟨by rw [d1, k1], ?_⟩
      subst d2 d3 k2 k3
      refine ⟨⟨e0, e1⟩, ⟨rfl, by omega, by omega⟩, hok, h1, h2, ?_, ?_⟩
      · intro i q1 q2
        by_cases q : i = lv'
        · subst q
          rw [cd_un_eq, cd_un_eq]
          exact ⟨e0, Nat.le_refl _⟩
        · rw [cd_un_ne q, cd_un_ne q]
          exact h3 i q1 (by omega)
      · intro i i' q1 q2 q3
        by_cases q : i' = lv'
        · subst q
          rw [cd_un_eq]
          by_cases q' : i = i'
          · subst q'
            rw [cd_un_eq]
            exact Nat.le_refl _
          · rw [cd_un_ne q']
            exact (h3 i q1 (by omega)).2
        · rw [cd_un_ne q, cd_un_ne (show i ≠ lv' by omega)]
          exact h4 i i' q1 q2 (by omega)
theorem cd_eq_pop {n lv : Nat} {fa fb fc : Nat → Int} {fl : Nat → Nat} {h lv' : Nat} {ga gb gc : Nat → Int} {gl : Nat → Nat} (hR : cd_RS n lv fa fb fc fl h lv' ga gb gc gl) {r r' : Int32} {n' h' lw lw' : Nat}
    (hd : (r = cd_I (-1) ∧ (n' = n ∧ lw = lv) ∧ lv ≤ 1) ∨ (r = cd_I (((fl (lv - 1) : Nat) : Int) - 4) ∧ (n' = fl (lv - 1) ∧ lw = lv - 1) ∧ 1 < lv))
    (hm : (r' = cd_I (-1) ∧ (h' = h ∧ lw' = lv') ∧ lv' ≤ 1) ∨ (r' = cd_I ((gl (lv' - 1) : Nat) : Int) ∧ (h' = gl (lv' - 1) ∧ lw' = lv' - 1) ∧ 1 < lv')) : r = r' ∧ cd_RS n' lw fa fb fc fl h' lw' ga gb gc gl := by
  obtain ⟨⟨e0, e1⟩, ⟨l1, l2, l3⟩, hok, h1, h2, h3, h4⟩ := id hR
  subst l1
  rcases hd with ⟨d1, ⟨d2, d3⟩, d4⟩ | ⟨d1, ⟨d2, d3⟩, d4⟩
  · rcases hm with ⟨k1, ⟨k2, k3⟩, k4⟩ | ⟨k1, ⟨k2, k3⟩, k4⟩
    · subst d2 d3 k2 k3
      exact ⟨by rw [d1, k1], hR⟩
    · omega
  · rcases hm with ⟨k1, ⟨k2, k3⟩, k4⟩ | ⟨k1, ⟨k2, k3⟩, k4⟩
    · omega
    · have z := h3 (lv' - 1) (by omega) (by omega)
      refine ⟨?_, ?_⟩
      · rw [d1, k1, z.1]
        congr 1
        omega
      · subst d2 d3 k2 k3
        obtain ⟨⟨n4, n14⟩, b0, b1, b2, b3, hB⟩ := hok
        refine ⟨⟨z.1, by omega⟩, ⟨rfl, by omega, by omega⟩, ⟨⟨by omega, by omega⟩, b0, b1, b2, b3, fun j hj => hB j (by omega)⟩, h1, h2, ?_, ?_⟩
        · intro i q1 q2
          exact ⟨(h3 i q1 (by omega)).1, h4 i (lv' - 1) q1 (by omega) (by omega)⟩
        · intro i i' q1 q2 q3
          exact h4 i i' q1 q2 (by omega)
theorem cd_R0s : cd_RS 4 1 cd_fa0 cd_fb0 cd_fc0 cd_fl0 0 1 cd_ga0 cd_gb0 cd_gc0 (fun _ => 0) := by
  refine ⟨⟨rfl, by decide⟩, ⟨rfl, by decide, by decide⟩, ⟨⟨by decide, by decide⟩, by decide, by decide, by decide, by decide, ?_⟩, ?_, ?_, ?_, ?_⟩
  · intro j hj
    match j, hj with
    | 0, _ => exact ⟨⟨by decide, by decide⟩, ⟨by decide, by decide⟩, ⟨by decide, by decide⟩, by decide⟩
    | 1, _ => exact ⟨⟨by decide, by decide⟩, ⟨by decide, by decide⟩, ⟨by decide, by decide⟩, by decide⟩
    | 2, _ => exact ⟨⟨by decide, by decide⟩, ⟨by decide, by decide⟩, ⟨by decide, by decide⟩, by decide⟩
    | 3, _ => exact ⟨⟨by decide, by decide⟩, ⟨by decide, by decide⟩, ⟨by decide, by decide⟩, by decide⟩
  · decide
  · decide
  · intro i q1 q2
    omega
  · intro i i' q1 q2 q3
    omega
end
section
/-! the law's own entry -/
set_option maxRecDepth 100000
abbrev cL_law : ByteArray := code
theorem dL_law_0 : decode cL_law 0 = .ok (.new 7, 3) := by decide +kernel
theorem dL_law_3 : decode cL_law 3 = .ok (.dup, 1) := by decide +kernel
theorem dL_law_4 : decode cL_law 4 = .ok (.invokespecial 9, 3) := by decide +kernel
theorem dL_law_7 : decode cL_law 7 = .ok (.astore_n 1, 1) := by decide +kernel
theorem dL_law_8 : decode cL_law 8 = .ok (.new 10, 3) := by decide +kernel
theorem dL_law_11 : decode cL_law 11 = .ok (.dup, 1) := by decide +kernel
theorem dL_law_12 : decode cL_law 12 = .ok (.invokespecial 12, 3) := by decide +kernel
theorem dL_law_15 : decode cL_law 15 = .ok (.astore_n 2, 1) := by decide +kernel
theorem dL_law_16 : decode cL_law 16 = .ok (.iconst 0, 1) := by decide +kernel
theorem dL_law_17 : decode cL_law 17 = .ok (.istore_n 3, 1) := by decide +kernel
theorem dL_law_18 : decode cL_law 18 = .ok (.iload_n 3, 1) := by decide +kernel
theorem dL_law_19 : decode cL_law 19 = .ok (.aload_n 0, 1) := by decide +kernel
theorem dL_law_20 : decode cL_law 20 = .ok (.arraylength, 1) := by decide +kernel
theorem dL_law_21 : decode cL_law 21 = .ok (.iconst 4, 1) := by decide +kernel
theorem dL_law_22 : decode cL_law 22 = .ok (.isub, 1) := by decide +kernel
theorem dL_law_23 : decode cL_law 23 = .ok (.if_icmp .gt 284, 3) := by decide +kernel
theorem dL_law_26 : decode cL_law 26 = .ok (.aload_n 0, 1) := by decide +kernel
theorem dL_law_27 : decode cL_law 27 = .ok (.iload_n 3, 1) := by decide +kernel
theorem dL_law_28 : decode cL_law 28 = .ok (.iaload, 1) := by decide +kernel
theorem dL_law_29 : decode cL_law 29 = .ok (.bipush 15, 2) := by decide +kernel
theorem dL_law_31 : decode cL_law 31 = .ok (.iand, 1) := by decide +kernel
theorem dL_law_32 : decode cL_law 32 = .ok (.tableswitch 269 0 8 #[52, 95, 108, 121, 134, 167, 190, 213, 256], 52) := by decide +kernel
theorem dL_law_84 : decode cL_law 84 = .ok (.aload_n 1, 1) := by decide +kernel
theorem dL_law_85 : decode cL_law 85 = .ok (.aload_n 0, 1) := by decide +kernel
theorem dL_law_86 : decode cL_law 86 = .ok (.iload_n 3, 1) := by decide +kernel
theorem dL_law_87 : decode cL_law 87 = .ok (.iconst 1, 1) := by decide +kernel
theorem dL_law_88 : decode cL_law 88 = .ok (.iadd, 1) := by decide +kernel
theorem dL_law_89 : decode cL_law 89 = .ok (.iaload, 1) := by decide +kernel
theorem dL_law_90 : decode cL_law 90 = .ok (.aload_n 0, 1) := by decide +kernel
theorem dL_law_91 : decode cL_law 91 = .ok (.iload_n 3, 1) := by decide +kernel
theorem dL_law_92 : decode cL_law 92 = .ok (.iconst 2, 1) := by decide +kernel
theorem dL_law_93 : decode cL_law 93 = .ok (.iadd, 1) := by decide +kernel
theorem dL_law_94 : decode cL_law 94 = .ok (.iaload, 1) := by decide +kernel
theorem dL_law_95 : decode cL_law 95 = .ok (.aload_n 0, 1) := by decide +kernel
theorem dL_law_96 : decode cL_law 96 = .ok (.iload_n 3, 1) := by decide +kernel
theorem dL_law_97 : decode cL_law 97 = .ok (.iconst 3, 1) := by decide +kernel
theorem dL_law_98 : decode cL_law 98 = .ok (.iadd, 1) := by decide +kernel
theorem dL_law_99 : decode cL_law 99 = .ok (.iaload, 1) := by decide +kernel
theorem dL_law_100 : decode cL_law 100 = .ok (.invokevirtual 13, 3) := by decide +kernel
theorem dL_law_103 : decode cL_law 103 = .ok (.aload_n 2, 1) := by decide +kernel
theorem dL_law_104 : decode cL_law 104 = .ok (.aload_n 0, 1) := by decide +kernel
theorem dL_law_105 : decode cL_law 105 = .ok (.iload_n 3, 1) := by decide +kernel
theorem dL_law_106 : decode cL_law 106 = .ok (.iconst 1, 1) := by decide +kernel
theorem dL_law_107 : decode cL_law 107 = .ok (.iadd, 1) := by decide +kernel
theorem dL_law_108 : decode cL_law 108 = .ok (.iaload, 1) := by decide +kernel
theorem dL_law_109 : decode cL_law 109 = .ok (.aload_n 0, 1) := by decide +kernel
theorem dL_law_110 : decode cL_law 110 = .ok (.iload_n 3, 1) := by decide +kernel
theorem dL_law_111 : decode cL_law 111 = .ok (.iconst 2, 1) := by decide +kernel
theorem dL_law_112 : decode cL_law 112 = .ok (.iadd, 1) := by decide +kernel
theorem dL_law_113 : decode cL_law 113 = .ok (.iaload, 1) := by decide +kernel
theorem dL_law_114 : decode cL_law 114 = .ok (.aload_n 0, 1) := by decide +kernel
theorem dL_law_115 : decode cL_law 115 = .ok (.iload_n 3, 1) := by decide +kernel
theorem dL_law_116 : decode cL_law 116 = .ok (.iconst 3, 1) := by decide +kernel
theorem dL_law_117 : decode cL_law 117 = .ok (.iadd, 1) := by decide +kernel
theorem dL_law_118 : decode cL_law 118 = .ok (.iaload, 1) := by decide +kernel
theorem dL_law_119 : decode cL_law 119 = .ok (.invokevirtual 17, 3) := by decide +kernel
theorem dL_law_122 : decode cL_law 122 = .ok (.if_icmp .eq 179, 3) := by decide +kernel
theorem dL_law_125 : decode cL_law 125 = .ok (.iconst 0, 1) := by decide +kernel
theorem dL_law_126 : decode cL_law 126 = .ok (.ireturn, 1) := by decide +kernel
theorem dL_law_127 : decode cL_law 127 = .ok (.aload_n 1, 1) := by decide +kernel
theorem dL_law_128 : decode cL_law 128 = .ok (.invokevirtual 18, 3) := by decide +kernel
theorem dL_law_131 : decode cL_law 131 = .ok (.aload_n 2, 1) := by decide +kernel
theorem dL_law_132 : decode cL_law 132 = .ok (.invokevirtual 22, 3) := by decide +kernel
theorem dL_law_135 : decode cL_law 135 = .ok (.if_icmp .eq 166, 3) := by decide +kernel
theorem dL_law_138 : decode cL_law 138 = .ok (.iconst 0, 1) := by decide +kernel
theorem dL_law_139 : decode cL_law 139 = .ok (.ireturn, 1) := by decide +kernel
theorem dL_law_140 : decode cL_law 140 = .ok (.aload_n 1, 1) := by decide +kernel
theorem dL_law_141 : decode cL_law 141 = .ok (.invokevirtual 23, 3) := by decide +kernel
theorem dL_law_144 : decode cL_law 144 = .ok (.aload_n 2, 1) := by decide +kernel
theorem dL_law_145 : decode cL_law 145 = .ok (.invokevirtual 26, 3) := by decide +kernel
theorem dL_law_148 : decode cL_law 148 = .ok (.if_icmp .eq 153, 3) := by decide +kernel
theorem dL_law_151 : decode cL_law 151 = .ok (.iconst 0, 1) := by decide +kernel
theorem dL_law_152 : decode cL_law 152 = .ok (.ireturn, 1) := by decide +kernel
theorem dL_law_153 : decode cL_law 153 = .ok (.aload_n 1, 1) := by decide +kernel
theorem dL_law_154 : decode cL_law 154 = .ok (.invokevirtual 27, 3) := by decide +kernel
theorem dL_law_157 : decode cL_law 157 = .ok (.aload_n 2, 1) := by decide +kernel
theorem dL_law_158 : decode cL_law 158 = .ok (.invokevirtual 30, 3) := by decide +kernel
theorem dL_law_161 : decode cL_law 161 = .ok (.if_icmp .eq 140, 3) := by decide +kernel
theorem dL_law_164 : decode cL_law 164 = .ok (.iconst 0, 1) := by decide +kernel
theorem dL_law_165 : decode cL_law 165 = .ok (.ireturn, 1) := by decide +kernel
theorem dL_law_166 : decode cL_law 166 = .ok (.aload_n 1, 1) := by decide +kernel
theorem dL_law_167 : decode cL_law 167 = .ok (.aload_n 0, 1) := by decide +kernel
theorem dL_law_168 : decode cL_law 168 = .ok (.iload_n 3, 1) := by decide +kernel
theorem dL_law_169 : decode cL_law 169 = .ok (.iconst 1, 1) := by decide +kernel
theorem dL_law_170 : decode cL_law 170 = .ok (.iadd, 1) := by decide +kernel
theorem dL_law_171 : decode cL_law 171 = .ok (.iaload, 1) := by decide +kernel
theorem dL_law_172 : decode cL_law 172 = .ok (.aload_n 0, 1) := by decide +kernel
theorem dL_law_173 : decode cL_law 173 = .ok (.iload_n 3, 1) := by decide +kernel
theorem dL_law_174 : decode cL_law 174 = .ok (.iconst 2, 1) := by decide +kernel
theorem dL_law_175 : decode cL_law 175 = .ok (.iadd, 1) := by decide +kernel
theorem dL_law_176 : decode cL_law 176 = .ok (.iaload, 1) := by decide +kernel
theorem dL_law_177 : decode cL_law 177 = .ok (.invokevirtual 31, 3) := by decide +kernel
theorem dL_law_180 : decode cL_law 180 = .ok (.aload_n 2, 1) := by decide +kernel
theorem dL_law_181 : decode cL_law 181 = .ok (.aload_n 0, 1) := by decide +kernel
theorem dL_law_182 : decode cL_law 182 = .ok (.iload_n 3, 1) := by decide +kernel
theorem dL_law_183 : decode cL_law 183 = .ok (.iconst 1, 1) := by decide +kernel
theorem dL_law_184 : decode cL_law 184 = .ok (.iadd, 1) := by decide +kernel
theorem dL_law_185 : decode cL_law 185 = .ok (.iaload, 1) := by decide +kernel
theorem dL_law_186 : decode cL_law 186 = .ok (.aload_n 0, 1) := by decide +kernel
theorem dL_law_187 : decode cL_law 187 = .ok (.iload_n 3, 1) := by decide +kernel
theorem dL_law_188 : decode cL_law 188 = .ok (.iconst 2, 1) := by decide +kernel
theorem dL_law_189 : decode cL_law 189 = .ok (.iadd, 1) := by decide +kernel
theorem dL_law_190 : decode cL_law 190 = .ok (.iaload, 1) := by decide +kernel
theorem dL_law_191 : decode cL_law 191 = .ok (.invokevirtual 35, 3) := by decide +kernel
theorem dL_law_194 : decode cL_law 194 = .ok (.if_icmp .eq 107, 3) := by decide +kernel
theorem dL_law_197 : decode cL_law 197 = .ok (.iconst 0, 1) := by decide +kernel
theorem dL_law_198 : decode cL_law 198 = .ok (.ireturn, 1) := by decide +kernel
theorem dL_law_199 : decode cL_law 199 = .ok (.aload_n 1, 1) := by decide +kernel
theorem dL_law_200 : decode cL_law 200 = .ok (.aload_n 0, 1) := by decide +kernel
theorem dL_law_201 : decode cL_law 201 = .ok (.iload_n 3, 1) := by decide +kernel
theorem dL_law_202 : decode cL_law 202 = .ok (.iconst 1, 1) := by decide +kernel
theorem dL_law_203 : decode cL_law 203 = .ok (.iadd, 1) := by decide +kernel
theorem dL_law_204 : decode cL_law 204 = .ok (.iaload, 1) := by decide +kernel
theorem dL_law_205 : decode cL_law 205 = .ok (.invokevirtual 36, 3) := by decide +kernel
theorem dL_law_208 : decode cL_law 208 = .ok (.aload_n 2, 1) := by decide +kernel
theorem dL_law_209 : decode cL_law 209 = .ok (.aload_n 0, 1) := by decide +kernel
theorem dL_law_210 : decode cL_law 210 = .ok (.iload_n 3, 1) := by decide +kernel
theorem dL_law_211 : decode cL_law 211 = .ok (.iconst 1, 1) := by decide +kernel
theorem dL_law_212 : decode cL_law 212 = .ok (.iadd, 1) := by decide +kernel
theorem dL_law_213 : decode cL_law 213 = .ok (.iaload, 1) := by decide +kernel
theorem dL_law_214 : decode cL_law 214 = .ok (.invokevirtual 40, 3) := by decide +kernel
theorem dL_law_217 : decode cL_law 217 = .ok (.if_icmp .eq 84, 3) := by decide +kernel
theorem dL_law_220 : decode cL_law 220 = .ok (.iconst 0, 1) := by decide +kernel
theorem dL_law_221 : decode cL_law 221 = .ok (.ireturn, 1) := by decide +kernel
theorem dL_law_222 : decode cL_law 222 = .ok (.aload_n 1, 1) := by decide +kernel
theorem dL_law_223 : decode cL_law 223 = .ok (.aload_n 0, 1) := by decide +kernel
theorem dL_law_224 : decode cL_law 224 = .ok (.iload_n 3, 1) := by decide +kernel
theorem dL_law_225 : decode cL_law 225 = .ok (.iconst 1, 1) := by decide +kernel
theorem dL_law_226 : decode cL_law 226 = .ok (.iadd, 1) := by decide +kernel
theorem dL_law_227 : decode cL_law 227 = .ok (.iaload, 1) := by decide +kernel
theorem dL_law_228 : decode cL_law 228 = .ok (.invokevirtual 41, 3) := by decide +kernel
theorem dL_law_231 : decode cL_law 231 = .ok (.aload_n 2, 1) := by decide +kernel
theorem dL_law_232 : decode cL_law 232 = .ok (.aload_n 0, 1) := by decide +kernel
theorem dL_law_233 : decode cL_law 233 = .ok (.iload_n 3, 1) := by decide +kernel
theorem dL_law_234 : decode cL_law 234 = .ok (.iconst 1, 1) := by decide +kernel
theorem dL_law_235 : decode cL_law 235 = .ok (.iadd, 1) := by decide +kernel
theorem dL_law_236 : decode cL_law 236 = .ok (.iaload, 1) := by decide +kernel
theorem dL_law_237 : decode cL_law 237 = .ok (.invokevirtual 44, 3) := by decide +kernel
theorem dL_law_240 : decode cL_law 240 = .ok (.if_icmp .eq 61, 3) := by decide +kernel
theorem dL_law_243 : decode cL_law 243 = .ok (.iconst 0, 1) := by decide +kernel
theorem dL_law_244 : decode cL_law 244 = .ok (.ireturn, 1) := by decide +kernel
theorem dL_law_245 : decode cL_law 245 = .ok (.aload_n 1, 1) := by decide +kernel
theorem dL_law_246 : decode cL_law 246 = .ok (.aload_n 0, 1) := by decide +kernel
theorem dL_law_247 : decode cL_law 247 = .ok (.iload_n 3, 1) := by decide +kernel
theorem dL_law_248 : decode cL_law 248 = .ok (.iconst 1, 1) := by decide +kernel
theorem dL_law_249 : decode cL_law 249 = .ok (.iadd, 1) := by decide +kernel
theorem dL_law_250 : decode cL_law 250 = .ok (.iaload, 1) := by decide +kernel
theorem dL_law_251 : decode cL_law 251 = .ok (.aload_n 0, 1) := by decide +kernel
theorem dL_law_252 : decode cL_law 252 = .ok (.iload_n 3, 1) := by decide +kernel
theorem dL_law_253 : decode cL_law 253 = .ok (.iconst 2, 1) := by decide +kernel
theorem dL_law_254 : decode cL_law 254 = .ok (.iadd, 1) := by decide +kernel
theorem dL_law_255 : decode cL_law 255 = .ok (.iaload, 1) := by decide +kernel
theorem dL_law_256 : decode cL_law 256 = .ok (.aload_n 0, 1) := by decide +kernel
theorem dL_law_257 : decode cL_law 257 = .ok (.iload_n 3, 1) := by decide +kernel
theorem dL_law_258 : decode cL_law 258 = .ok (.iconst 3, 1) := by decide +kernel
theorem dL_law_259 : decode cL_law 259 = .ok (.iadd, 1) := by decide +kernel
theorem dL_law_260 : decode cL_law 260 = .ok (.iaload, 1) := by decide +kernel
theorem dL_law_261 : decode cL_law 261 = .ok (.invokevirtual 45, 3) := by decide +kernel
theorem dL_law_264 : decode cL_law 264 = .ok (.aload_n 2, 1) := by decide +kernel
theorem dL_law_265 : decode cL_law 265 = .ok (.aload_n 0, 1) := by decide +kernel
theorem dL_law_266 : decode cL_law 266 = .ok (.iload_n 3, 1) := by decide +kernel
theorem dL_law_267 : decode cL_law 267 = .ok (.iconst 1, 1) := by decide +kernel
theorem dL_law_268 : decode cL_law 268 = .ok (.iadd, 1) := by decide +kernel
theorem dL_law_269 : decode cL_law 269 = .ok (.iaload, 1) := by decide +kernel
theorem dL_law_270 : decode cL_law 270 = .ok (.aload_n 0, 1) := by decide +kernel
theorem dL_law_271 : decode cL_law 271 = .ok (.iload_n 3, 1) := by decide +kernel
theorem dL_law_272 : decode cL_law 272 = .ok (.iconst 2, 1) := by decide +kernel
theorem dL_law_273 : decode cL_law 273 = .ok (.iadd, 1) := by decide +kernel
theorem dL_law_274 : decode cL_law 274 = .ok (.iaload, 1) := by decide +kernel
theorem dL_law_275 : decode cL_law 275 = .ok (.aload_n 0, 1) := by decide +kernel
theorem dL_law_276 : decode cL_law 276 = .ok (.iload_n 3, 1) := by decide +kernel
theorem dL_law_277 : decode cL_law 277 = .ok (.iconst 3, 1) := by decide +kernel
theorem dL_law_278 : decode cL_law 278 = .ok (.iadd, 1) := by decide +kernel
theorem dL_law_279 : decode cL_law 279 = .ok (.iaload, 1) := by decide +kernel
theorem dL_law_280 : decode cL_law 280 = .ok (.invokevirtual 48, 3) := by decide +kernel
theorem dL_law_283 : decode cL_law 283 = .ok (.if_icmp .eq 18, 3) := by decide +kernel
theorem dL_law_286 : decode cL_law 286 = .ok (.iconst 0, 1) := by decide +kernel
theorem dL_law_287 : decode cL_law 287 = .ok (.ireturn, 1) := by decide +kernel
theorem dL_law_288 : decode cL_law 288 = .ok (.aload_n 1, 1) := by decide +kernel
theorem dL_law_289 : decode cL_law 289 = .ok (.invokevirtual 49, 3) := by decide +kernel
theorem dL_law_292 : decode cL_law 292 = .ok (.aload_n 2, 1) := by decide +kernel
theorem dL_law_293 : decode cL_law 293 = .ok (.invokevirtual 52, 3) := by decide +kernel
theorem dL_law_296 : decode cL_law 296 = .ok (.if_icmp .eq 5, 3) := by decide +kernel
theorem dL_law_299 : decode cL_law 299 = .ok (.iconst 0, 1) := by decide +kernel
theorem dL_law_300 : decode cL_law 300 = .ok (.ireturn, 1) := by decide +kernel
theorem dL_law_301 : decode cL_law 301 = .ok (.iinc 3 4, 3) := by decide +kernel
theorem dL_law_304 : decode cL_law 304 = .ok (.goto (-286), 3) := by decide +kernel
theorem dL_law_307 : decode cL_law 307 = .ok (.iconst 1, 1) := by decide +kernel
theorem dL_law_308 : decode cL_law 308 = .ok (.ireturn, 1) := by decide +kernel
-- ===== end of PART A; then your names; then what follows =====
/-! THE CLAIM OUT OF ONE WALK OF THE LAW'S BODY. Your part is whole_start (and what it stands on); all else here is the same for every law, but numbers. -/
def R_law : String := "CornerDeskLaw"
def lw_P (b : Addr) (xs : List Int32) (args : Array Value) (s : State) : Prop := args = #[.ref b] ∧ s.IntsAt b xs ∧ xs.length ≤ 256 ∧ (Jvm.Cond.and given_1 narrow_1).before args s = true
def lw_Q (_ : Array Value) (s : State) (o : Outcome) (t : State) : Prop := o = .returned (some (.int 1)) ∧ Framed s o t [] 600000 7290000
def lw_Z (below : List Frame) (a : Array Value) (s : State) : State → Prop := fun t => ∃ o, t.status = .running ∧ Ended t below o ∧ lw_Q a s o t
/-- the law's own end, with 1 on the stack, nothing written that was there before, its room as the claim has it -/
theorem lw_ret {p : Program} {l : Launch} {e : Env} {s : State} {m : MethodId} {below : List Frame} {meth : Method} {c : Code} {b : Nat} (hx : p.tables.exec = Jvm.exec) (hb : c.code = code) (hr : meth.sig.returnType = ret) (hlocks : meth.locks = false) {pc : Nat} {H : Heap} {ls : Array Slot} (hdg : decode code pc = .ok (.ireturn, 1)) : W p l e room_1 s m #[Value.ref b] below meth c H [] 600000 7290000 (lw_Z below #[Value.ref b] s) (F0 m pc ls [.int 1]) := by
  intro T hT X
  obtain ⟨fs, hret, hrun, hended, hW, hframe⟩ := X.leave (v := some (.int 1)) (hlocks := hlocks) (fun h => by rw [hr] at h; cases h)
  have hmeth' : T.vm.method? m = some meth := X.method'
  refine ⟨T.setFrames fs, ?_, .returned (some (.int 1)), hrun, hended, rfl, ⟨_, rfl⟩, hW, hframe⟩
  jvm_step X.here [X.here.top, hx, hb, hdg, hmeth', hr, ret, narrow_b1]
  (try refine ⟨rfl, ?_⟩); (try refine ⟨rfl, ?_⟩)
  first | (intro acts; rw [hret _ acts rfl rfl rfl]) | rw [hret _ _ rfl rfl rfl]
  exact Steps.refl _
/-- what holds at the law's entry: the machine, the code, the tables' words (any of lw_tbl by 'hts w (by decide +kernel)'), the script of L ints xs at the cell b, what the Statement gives of the start (any of its parts by flat_of_before) -/
def lw_At (p : Program) (s : State) (m : MethodId) (meth : Method) (c : Code) (b L : Nat) (xs : Nat → Int32) : Prop :=
  p.tables.exec = Jvm.exec ∧ c.code = code ∧ meth.sig.returnType = ret ∧ c.maxLocals = 4 ∧ s.vm.findClass R_law = some m.cls ∧ (∀ w ∈ lw_tbl, w.before #[Value.ref b] s = true) ∧ va_X b L xs s s.heap ∧ b < s.heap.size ∧ meth.locks = false ∧ (Jvm.Cond.and given_1 narrow_1).before #[Value.ref b] s = true
/-! worlds side by side: a callee's part on the left or on the right -/
theorem cd_PL {D : va_G} {cl : List vw_C} {w1 w2 : va_W} {H : Heap} (h : va_P D cl (w1 ++ w2) H) : va_P D cl w1 H := fun k q hk => h k q (by
  rw [List.getElem?_append_left (List.getElem?_eq_some_iff.mp hk).1]
  exact hk)
theorem cd_PR {D : va_G} {cl : List vw_C} {w1 w2 : va_W} {H : Heap} (h : va_P D cl (w1 ++ w2) H) : va_P D cl w2 H := fun k q hk => h (w1.length + k) q (by
  rw [List.getElem?_append_right (Nat.le_add_right _ _), Nat.add_sub_cancel_left]
  exact hk)
theorem cd_DL {A : Nat → Prop} {w1 w2 : va_W} (h : va_D A (w1 ++ w2)) : va_D A w1 := by
  have g : ∀ (k : Nat) (q : Nat × va_E), w1[k]? = some q → (w1 ++ w2)[k]? = some q := fun k q hk => by
    rw [List.getElem?_append_left (List.getElem?_eq_some_iff.mp hk).1]
    exact hk
  exact ⟨fun i j p q hi hj e => h.1 i j p q (g i p hi) (g j q hj) e, fun k q hk => h.2 k q (g k q hk)⟩
theorem cd_DR {A : Nat → Prop} {w1 w2 : va_W} (h : va_D A (w1 ++ w2)) : va_D A w2 := by
  have g : ∀ (k : Nat) (q : Nat × va_E), w2[k]? = some q → (w1 ++ w2)[w1.length + k]? = some q := fun k q hk => by
    rw [List.getElem?_append_right (Nat.le_add_right _ _), Nat.add_sub_cancel_left]
    exact hk
  exact ⟨fun i j p q hi hj e => by have := h.1 _ _ p q (g i p hi) (g j q hj) e; omega, fun k q hk => h.2 _ q (g k q hk)⟩
theorem cd_apL {A0 : Nat → Prop} {D : va_G} {cl : List vw_C} {w1 w2 : va_W} {H : Heap} (hP : va_P D cl (w1 ++ w2) H) (hD : va_D A0 (w1 ++ w2)) (k : Nat) (q : Nat × va_E) (hk : w2[k]? = some q) : q.1 < H.size ∧ ¬ va_A w1 H.size q.1 := by
  have hq : (w1 ++ w2)[w1.length + k]? = some q := by
    rw [List.getElem?_append_right (Nat.le_add_right _ _), Nat.add_sub_cancel_left]
    exact hk
  have lt := (hP _ q hq).lt
  refine ⟨lt, ?_⟩
  rintro (⟨k2, e, h⟩ | h)
  · have hlt := (List.getElem?_eq_some_iff.mp h).1
    have h' : (w1 ++ w2)[k2]? = some (q.1, e) := by
      rw [List.getElem?_append_left hlt]
      exact h
    have := hD.1 _ _ q (q.1, e) hq h' rfl
    omega
  · omega
theorem cd_apR {A0 : Nat → Prop} {D : va_G} {cl : List vw_C} {w1 w2 : va_W} {H : Heap} (hP : va_P D cl (w1 ++ w2) H) (hD : va_D A0 (w1 ++ w2)) (k : Nat) (q : Nat × va_E) (hk : w1[k]? = some q) : q.1 < H.size ∧ ¬ va_A w2 H.size q.1 := by
  have hlt := (List.getElem?_eq_some_iff.mp hk).1
  have hq : (w1 ++ w2)[k]? = some q := by
    rw [List.getElem?_append_left hlt]
    exact hk
  have lt := (hP _ q hq).lt
  refine ⟨lt, ?_⟩
  rintro (⟨k2, e, h⟩ | h)
  · have h' : (w1 ++ w2)[w1.length + k2]? = some (q.1, e) := by
      rw [List.getElem?_append_right (Nat.le_add_right _ _), Nat.add_sub_cancel_left]
      exact h
    have := hD.1 _ _ q (q.1, e) hq h' rfl
    omega
  · omega
theorem cd_joinL {A0 : Nat → Prop} {D : va_G} {cl : List vw_C} {w1 w2 w' : va_W} {H H1 : Heap} (hP : va_P D cl (w1 ++ w2) H) (hD : va_D A0 (w1 ++ w2)) (hk : ∀ q : Nat, q < H.size → ¬ va_A w1 H.size q → H1[q]? = H[q]?) (hF : ∀ q, va_A w1 H.size q → A0 q) (hP1 : va_P D cl w' H1) (hD1 : va_D (va_A w1 H.size) w') : va_P D cl (w' ++ w2) H1 ∧ va_D A0 (w' ++ w2) :=
  ⟨va_P.app hP1 (fun k q hq => (cd_PR hP k q hq).kept (hk q.1 (cd_apL hP hD k q hq).1 (cd_apL hP hD k q hq).2)), va_D.app (hD1.weaken (fun _ q _ h => hF q.1 h)) (cd_DR hD) (fun i j x y hx hy hxy => (cd_apL hP hD j y hy).2 (by rw [← hxy]; exact hD1.2 i x hx))⟩
theorem cd_joinR {A0 : Nat → Prop} {D : va_G} {cl : List vw_C} {w1 w2 w' : va_W} {H H1 : Heap} (hP : va_P D cl (w1 ++ w2) H) (hD : va_D A0 (w1 ++ w2)) (hk : ∀ q : Nat, q < H.size → ¬ va_A w2 H.size q → H1[q]? = H[q]?) (hF : ∀ q, va_A w2 H.size q → A0 q) (hP1 : va_P D cl w' H1) (hD1 : va_D (va_A w2 H.size) w') : va_P D cl (w1 ++ w') H1 ∧ va_D A0 (w1 ++ w') :=
  ⟨va_P.app (fun k q hq => (cd_PL hP k q hq).kept (hk q.1 (cd_apR hP hD k q hq).1 (cd_apR hP hD k q hq).2)) hP1, va_D.app (cd_DL hD) (hD1.weaken (fun _ q _ h => hF q.1 h)) (fun i j x y hx hy hxy => (cd_apR hP hD i x hx).2 (by rw [hxy]; exact hD1.2 j y hy))⟩
section CDL
variable {p : Program} {l : Launch} {e : Env} {R : Room} {s : State} {m : MethodId} {args : Array Value} {below : List Frame} {meth : Method} {c : Code} {H : Heap} {locs : List Loc} {cells slots : Nat} {Q : State → Prop}
variable {pc mc ms : Nat} {ls : Array Slot} {rest : List Value} {D : va_G} {cl : List vw_C} {w1 w2 : va_W} {H0 : Heap} {st0 : List Value} {av : Array Value} {A0 : Nat → Prop}
theorem cd_callLi {S : Type} {post : Int32 → S → Prop} {wf : S → va_W} (hr : va_Run p l e R s m args below meth c H locs cells slots 0 0 (F0 m pc ls st0) rest (va_Qi post (cd_B D cl (va_A w1 H.size) wf) (va_A w1 H.size) av) (va_A w1 H.size)) (hP : va_P D cl (w1 ++ w2) H) (hD : va_D A0 (w1 ++ w2)) (hS : va_S A0 H0 H locs) (hA : ∀ q, H0.size ≤ q → A0 q)
    (kk : ∀ (r : Int32) (u : S) (H1 : Heap) (locs1 : List Loc), post r u → va_P D cl (wf u ++ w2) H1 → va_D A0 (wf u ++ w2) → va_S A0 H0 H1 locs1 → W p l e R s m args below meth c H1 locs1 cells slots Q (F0 m (pc + 3) ls (.int r :: rest))) : W p l e R s m args below meth c H locs cells slots Q (F0 m pc ls st0) :=
  va_calli hr hS (fun q _ h => cd_freeAll (cd_DL hD) hS hA q h) (cd_freeAll (cd_DL hD) hS hA) (fun r u t H1 locs1 ht hvm hp hB hz hk hS1 => by
    have hj := cd_joinL hP hD hk (cd_freeAll (cd_DL hD) hS hA) (ht ▸ hB.1) hB.2
    exact kk r u H1 locs1 hp hj.1 hj.2 hS1)
theorem cd_callRi {S : Type} {post : Int32 → S → Prop} {wf : S → va_W} (hr : va_Run p l e R s m args below meth c H locs cells slots 0 0 (F0 m pc ls st0) rest (va_Qi post (cd_B D cl (va_A w2 H.size) wf) (va_A w2 H.size) av) (va_A w2 H.size)) (hP : va_P D cl (w1 ++ w2) H) (hD : va_D A0 (w1 ++ w2)) (hS : va_S A0 H0 H locs) (hA : ∀ q, H0.size ≤ q → A0 q)
    (kk : ∀ (r : Int32) (u : S) (H1 : Heap) (locs1 : List Loc), post r u → va_P D cl (w1 ++ wf u) H1 → va_D A0 (w1 ++ wf u) → va_S A0 H0 H1 locs1 → W p l e R s m args below meth c H1 locs1 cells slots Q (F0 m (pc + 3) ls (.int r :: rest))) : W p l e R s m args below meth c H locs cells slots Q (F0 m pc ls st0) :=
  va_calli hr hS (fun q _ h => cd_freeAll (cd_DR hD) hS hA q h) (cd_freeAll (cd_DR hD) hS hA) (fun r u t H1 locs1 ht hvm hp hB hz hk hS1 => by
    have hj := cd_joinR hP hD hk (cd_freeAll (cd_DR hD) hS hA) (ht ▸ hB.1) hB.2
    exact kk r u H1 locs1 hp hj.1 hj.2 hS1)
/-- a constructor's call: its cell is the whole world, or stands on the right -/
theorem cd_callRv {S : Type} {post : S → Prop} {wf : S → va_W} (hr : va_Run p l e R s m args below meth c H locs cells slots mc ms (F0 m pc ls st0) rest (va_Qv post (cd_B D cl (va_A w2 H.size) wf) (va_A w2 H.size) av) (va_A w2 H.size)) (hP : va_P D cl (w1 ++ w2) H) (hD : va_D A0 (w1 ++ w2)) (hS : va_S A0 H0 H locs) (hA : ∀ q, H0.size ≤ q → A0 q)
    (kk : ∀ (u : S) (H1 : Heap) (locs1 : List Loc), post u → va_P D cl (w1 ++ wf u) H1 → va_D A0 (w1 ++ wf u) → va_S A0 H0 H1 locs1 → W p l e R s m args below meth c H1 locs1 (cells + mc) (slots + ms) Q (F0 m (pc + 3) ls rest)) : W p l e R s m args below meth c H locs cells slots Q (F0 m pc ls st0) :=
  va_callv hr hS (fun q _ h => cd_freeAll (cd_DR hD) hS hA q h) (cd_freeAll (cd_DR hD) hS hA) (fun u t H1 locs1 ht hvm hp hB hz hk hS1 => by
    have hj := cd_joinR hP hD hk (cd_freeAll (cd_DR hD) hS hA) (ht ▸ hB.1) hB.2
    exact kk u H1 locs1 hp hj.1 hj.2 hS1)
theorem cd_slen {cc : ByteArray} (hexec : p.tables.exec = Jvm.exec) (hb : c.code = cc) {b L : Nat} {xs : Nat → Int32} (hX : va_X b L xs s H0) (hbl : b < H0.size) (hbA : ¬ A0 b) (hS : va_S A0 H0 H locs) (hdg : decode cc pc = .ok (.arraylength, 1))
    (kk : W p l e R s m args below meth c H locs cells slots Q (F0 m (pc + 1) ls (.int (cd_I ((L : Nat) : Int)) :: rest))) : W p l e R s m args below meth c H locs cells slots Q (F0 m pc ls (.ref b :: rest)) := va_slen hexec hb hX hbl hbA hS hdg (by
  have h : cd_I ((L : Nat) : Int) = Int32.ofNat L := Int32.ofInt_eq_ofNat
  rw [← h]
  exact kk)
theorem cd_sld {cc : ByteArray} (hexec : p.tables.exec = Jvm.exec) (hb : c.code = cc) {b L : Nat} {xs : Nat → Int32} (hX : va_X b L xs s H0) (hbl : b < H0.size) (hbA : ¬ A0 b) (hS : va_S A0 H0 H locs) {k : Nat} (hk : k < L) (hL : L < 2 ^ 31) (hdg : decode cc pc = .ok (.iaload, 1))
    (kk : W p l e R s m args below meth c H locs cells slots Q (F0 m (pc + 1) ls (.int (cd_I (xs k).toInt) :: rest))) : W p l e R s m args below meth c H locs cells slots Q (F0 m pc ls (.int (cd_I (k : Int)) :: .ref b :: rest)) := va_sld hexec hb hX hbl hbA hS (cd_in hk hL) hdg (by
  rw [cd_cl (by omega)]
  exact cd_ofI kk)
/-- the opcode: the low four bits -/
theorem cd_op (v : Int32) : ∃ o : Nat, o < 16 ∧ v &&& cd_I 15 = cd_I (o : Int) := by
  obtain ⟨j, hj, e⟩ := pk_andE v (m := cd_I 15) 4 (by decide)
  refine ⟨j, hj, ?_⟩
  rw [e]
  exact Int32.ofInt_eq_ofNat.symm
theorem cd_iand {cc : ByteArray} (hexec : p.tables.exec = Jvm.exec) (hb : c.code = cc) {x y v : Int32} (hdg : decode cc pc = .ok (.iand, 1)) (h : x &&& y = v)
    (kk : W p l e R s m args below meth c H locs cells slots Q (F0 m (pc + 1) ls (.int v :: rest))) : W p l e R s m args below meth c H locs cells slots Q (F0 m pc ls (.int y :: .int x :: rest)) := lv_iand hexec hb hdg (by
  rw [h]
  exact kk)
theorem cd_R32v (v : Int32) : cd_R32 v.toInt := by
  have h1 := Int32.le_toInt v
  have h2 := Int32.toInt_lt v
  exact ⟨by omega, by omega⟩
end CDL
end
section
/-! the law's loop -/
theorem cd_RB_d {rm bx by_ bw ap aq kn mx my mu mp mq : Int} (h : cd_RB rm bx by_ bw ap aq kn mx my mu mp mq) : rm = 0 ∨ (rm = 1 ∧ cd_b 1782 bx ∧ cd_b 1782 by_ ∧ cd_b 162 bw ∧ 0 < bw ∧ cd_b 9 ap ∧ cd_b 9 aq) := by
  rcases h with ⟨q1, q2⟩ | ⟨q1, q2, q3, q4, q5, q6, q7, q8⟩
  · exact Or.inl q1
  · exact Or.inr ⟨q1, q3.1, q3.2.1, q3.2.2.1, q3.2.2.2, q7, q8⟩
theorem cd_RB_m {rm bx by_ bw ap aq kn mx my mu mp mq : Int} (h : cd_RB rm bx by_ bw ap aq kn mx my mu mp mq) : kn = 0 ∨ (kn = 1 ∧ cd_b 1782 mx ∧ cd_b 1782 my ∧ cd_b 162 mu ∧ 0 < mu ∧ cd_b 9 mp ∧ cd_b 9 mq) := by
  rcases h with ⟨q1, q2⟩ | ⟨q1, q2, q3, q4, q5, q6, q7, q8⟩
  · exact Or.inl q2
  · exact Or.inr ⟨q2, q4.1, q4.2.1, q4.2.2.1, q4.2.2.2, by rw [← q6.1]; exact q7, by rw [← q6.2]; exact q8⟩
set_option maxHeartbeats 4000000 in
set_option maxRecDepth 100000 in
theorem law_loop {p : Program} {e : Env} {s : State} {m : MethodId} {below : List Frame} {meth : Method} {c : Code} (l : Launch) {b L : Nat} {xs : Nat → Int32} (hL : L ≤ 256) (hx : p.tables.exec = Jvm.exec) (hb : c.code = code) (hr : meth.sig.returnType = ret) (hml : c.maxLocals = 4) (hown : s.vm.findClass R_law = some m.cls) (hts : ∀ w ∈ lw_all, w.before #[Value.ref b] s = true) (hX : va_X b L xs s s.heap) (hbl : b < s.heap.size) (hlocks : meth.locks = false) {A : Nat → Prop} (hA : ∀ q : Nat, s.heap.size ≤ q → A q) (hA2 : ∀ q : Nat, A q → s.heap.size ≤ q) (hbA : ¬ A b) {dC : Nat → ClassId} {dI : Nat → Nat → Nat} {dA : ClassId} (hK : va_K (dC, dI) vwCl [(dA, .int)] s) (o0 o1 o2 o3 o4 k0 k1 k2 k3 k4 : Nat) : ∀ (f i : Nat) (n lv : Nat) (fa fb fc : Nat → Int) (fl : Nat → Nat) (x y w hL hH lx ly lw gx gy gw rm bx by_ bw ap aq : Int) (h lm : Nat) (ga gb gc : Nat → Int) (gl : Nat → Nat) (cx cy cu kn mx my mu mp mq : Int), i ≤ L → L + 1 ≤ i + f → cd_RS n lv fa fb fc fl h lm ga gb gc gl → cd_RB rm bx by_ bw ap aq kn mx my mu mp mq → ∀ (H : Heap) (locs : List Loc), va_P (dC, dI) vwCl (cd_D dA o0 o1 o2 o3 o4 n lv fa fb fc fl x y w hL hH lx ly lw gx gy gw rm bx by_ bw ap aq ++ cd_M dA k0 k1 k2 k3 k4 h lm ga gb gc gl cx cy cu kn mx my mu mp mq) H → va_D A (cd_D dA o0 o1 o2 o3 o4 n lv fa fb fc fl x y w hL hH lx ly lw gx gy gw rm bx by_ bw ap aq ++ cd_M dA k0 k1 k2 k3 k4 h lm ga gb gc gl cx cy cu kn mx my mu mp mq) → va_S A s.heap H locs → ∀ ls : Array Slot, lv_has ls 4 [(3, .int (cd_I ((i : Nat) : Int))), (0, .ref b), (1, .ref o0), (2, .ref k0)] → W p l e room_1 s m #[Value.ref b] below meth c H locs 10 138 (lw_Z below #[Value.ref b] s) (F0 m 18 ls []) := by
  intro f
  induction f with
  | zero =>
    intro i n lv fa fb fc fl x y w hL hH lx ly lw gx gy gw rm bx by_ bw ap aq h lm ga gb gc gl cx cy cu kn mx my mu mp mq h1 h2
    exact absurd h2 (by omega)
  | succ f ih =>
    intro i n lv fa fb fc fl x y w hL hH lx ly lw gx gy gw rm bx by_ bw ap aq h lm ga gb gc gl cx cy cu kn mx my mu mp mq hi hf hR hB H locs hP hD hS ls hl
    have hok := hR.2.2.1
    have hokM := cd_RS_okM hR
    have hn14 : n ≤ 14 := hok.1.2
    have hh10 : h ≤ 10 := hR.1.2
    have hlv8 : lv ≤ 8 := hR.2.1.2.2
    have hlm8 : lm ≤ 8 := by have := hR.2.1.1; omega
    have hlm1 : 1 ≤ lm := by have := hR.2.1.1; have := hR.2.1.2.1; omega
    refine lv_iload_n hx hb dL_law_18 rfl (lv_at hl 0 rfl) ?_
    refine lv_aload_n hx hb dL_law_19 rfl (lv_at hl 1 rfl) ?_
    refine cd_slen hx hb hX hbl hbA hS dL_law_20 ?_
    refine lv_iconst (v := cd_I 4) hx hb dL_law_21 rfl ?_
    refine cd_isub hx hb dL_law_22 ?_
    refine cd_icmp_gt (tgt := 307) hx hb ⟨by omega, by omega⟩ (cd_bR32 (cd_bS (show cd_b 256 ((L : Nat) : Int) from ⟨by omega, by omega⟩) (show cd_b 4 4 from ⟨by decide, by decide⟩)) (by decide)) dL_law_23 (by decide) (fun c_1 => ?_) (fun c_1 => ?_)
    · refine lv_iconst (v := 1) hx hb dL_law_307 (by decide) ?_
      refine va_forget (fun q hq => hA2 _ (hS.2.2 q hq)) ?_
      refine W.widen (k := 600000) (n := 7290000) (Nat.le_of_ble_eq_true rfl) (Nat.le_of_ble_eq_true rfl) ?_
      exact lw_ret hx hb hr hlocks dL_law_308
    · refine lv_aload_n hx hb dL_law_26 rfl (lv_at hl 1 rfl) ?_
      refine lv_iload_n hx hb dL_law_27 rfl (lv_at hl 0 rfl) ?_
      refine cd_sld (k := i) hx hb hX hbl hbA hS (by omega) (by omega) dL_law_28 ?_
      refine lv_bipush (v := cd_I 15) hx hb dL_law_29 (by decide) ?_
      obtain ⟨o, ho, eo⟩ := cd_op (cd_I ((xs i).toInt))
      refine cd_iand hx hb dL_law_31 eo ?_
      rcases (show o = 0 ∨ o = 1 ∨ o = 2 ∨ o = 3 ∨ o = 4 ∨ o = 5 ∨ o = 6 ∨ o = 7 ∨ o = 8 ∨ 9 ≤ o by omega) with rfl | rfl | rfl | rfl | rfl | rfl | rfl | rfl | rfl | ho9
      · refine lv_tableIn (off := 52) (tgt := 84) hx hb dL_law_32 (by decide) (by decide) (by decide) (by decide) ?_
        refine lv_aload_n hx hb dL_law_84 rfl (lv_at hl 2 rfl) ?_
        refine lv_aload_n hx hb dL_law_85 rfl (lv_at hl 1 rfl) ?_
        refine lv_iload_n hx hb dL_law_86 rfl (lv_at hl 0 rfl) ?_
        refine lv_iconst (v := cd_I 1) hx hb dL_law_87 rfl ?_
        refine cd_iadd hx hb dL_law_88 ?_
        refine cd_sld (k := (i + 1)) hx hb hX hbl hbA hS (by omega) (by omega) dL_law_89 ?_
        refine lv_aload_n hx hb dL_law_90 rfl (lv_at hl 1 rfl) ?_
        refine lv_iload_n hx hb dL_law_91 rfl (lv_at hl 0 rfl) ?_
        refine lv_iconst (v := cd_I 2) hx hb dL_law_92 rfl ?_
        refine cd_iadd hx hb dL_law_93 ?_
        refine cd_sld (k := (i + 2)) hx hb hX hbl hbA hS (by omega) (by omega) dL_law_94 ?_
        refine lv_aload_n hx hb dL_law_95 rfl (lv_at hl 1 rfl) ?_
        refine lv_iload_n hx hb dL_law_96 rfl (lv_at hl 0 rfl) ?_
        refine lv_iconst (v := cd_I 3) hx hb dL_law_97 rfl ?_
        refine cd_iadd hx hb dL_law_98 ?_
        refine cd_sld (k := (i + 3)) hx hb hX hbl hbA hS (by omega) (by omega) dL_law_99 ?_
        refine cd_callLi (va_runV (As := [.int (cd_I ((xs (i + 1)).toInt)), .int (cd_I ((xs (i + 2)).toInt)), .int (cd_I ((xs (i + 3)).toInt))]) (rest := []) ⟨hx, hb, hml, hown, hts⟩ (xd_add l dC dI dA o0 o1 o2 o3 o4 n lv fa fb fc fl x y w hL hH lx ly lw gx gy gw rm bx by_ bw ap aq H.size ((xs (i + 1)).toInt) ((xs (i + 2)).toInt) ((xs (i + 3)).toInt) (cd_R32v _) (cd_R32v _) (cd_R32v _) hn14) (cwV 3 hts (lw_V q100 q101 q102 q19 q103) rfl rfl rfl (by decide +kernel) ⟨Nat.le_of_ble_eq_true rfl, Nat.le_of_ble_eq_true rfl⟩) ⟨cd_bl1, va_recv hK (cd_PL hP) (ci := 0) (q0 := 0) rfl rfl, cd_pr1 (cd_PL hP) hK (cd_DL hD)⟩ rfl rfl hl.1 rfl (lv_room (Nat.le_of_ble_eq_true rfl)) dL_law_100 ⟨Nat.le_of_ble_eq_true rfl, Nat.le_of_ble_eq_true rfl⟩) hP hD hS hA (fun r1 u H locs hq1 hP hD hS => ?_)
        obtain ⟨n1, fa1, fb1, fc1⟩ := u
        have hP : va_P (dC, dI) vwCl (cd_D dA o0 o1 o2 o3 o4 n1 lv fa1 fb1 fc1 fl x y w hL hH lx ly lw gx gy gw rm bx by_ bw ap aq ++ cd_M dA k0 k1 k2 k3 k4 h lm ga gb gc gl cx cy cu kn mx my mu mp mq) H := hP
        have hD : va_D A (cd_D dA o0 o1 o2 o3 o4 n1 lv fa1 fb1 fc1 fl x y w hL hH lx ly lw gx gy gw rm bx by_ bw ap aq ++ cd_M dA k0 k1 k2 k3 k4 h lm ga gb gc gl cx cy cu kn mx my mu mp mq) := hD
        refine lv_aload_n hx hb dL_law_103 rfl (lv_at hl 3 rfl) ?_
        refine lv_aload_n hx hb dL_law_104 rfl (lv_at hl 1 rfl) ?_
        refine lv_iload_n hx hb dL_law_105 rfl (lv_at hl 0 rfl) ?_
        refine lv_iconst (v := cd_I 1) hx hb dL_law_106 rfl ?_
        refine cd_iadd hx hb dL_law_107 ?_
        refine cd_sld (k := (i + 1)) hx hb hX hbl hbA hS (by omega) (by omega) dL_law_108 ?_
        refine lv_aload_n hx hb dL_law_109 rfl (lv_at hl 1 rfl) ?_
        refine lv_iload_n hx hb dL_law_110 rfl (lv_at hl 0 rfl) ?_
        refine lv_iconst (v := cd_I 2) hx hb dL_law_111 rfl ?_
        refine cd_iadd hx hb dL_law_112 ?_
        refine cd_sld (k := (i + 2)) hx hb hX hbl hbA hS (by omega) (by omega) dL_law_113 ?_
        refine lv_aload_n hx hb dL_law_114 rfl (lv_at hl 1 rfl) ?_
        refine lv_iload_n hx hb dL_law_115 rfl (lv_at hl 0 rfl) ?_
        refine lv_iconst (v := cd_I 3) hx hb dL_law_116 rfl ?_
        refine cd_iadd hx hb dL_law_117 ?_
        refine cd_sld (k := (i + 3)) hx hb hX hbl hbA hS (by omega) (by omega) dL_law_118 ?_
        refine cd_callRi (va_runV (As := [.int (cd_I ((xs (i + 1)).toInt)), .int (cd_I ((xs (i + 2)).toInt)), .int (cd_I ((xs (i + 3)).toInt))]) (rest := [.int r1]) ⟨hx, hb, hml, hown, hts⟩ (xm_add l dC dI dA k0 k1 k2 k3 k4 h lm ga gb gc gl cx cy cu kn mx my mu mp mq H.size ((xs (i + 1)).toInt) ((xs (i + 2)).toInt) ((xs (i + 3)).toInt) (cd_R32v _) (cd_R32v _) (cd_R32v _) hh10) (cwV 3 hts (lw_V q236 q237 q238 q20 q239) rfl rfl rfl (by decide +kernel) ⟨Nat.le_of_ble_eq_true rfl, Nat.le_of_ble_eq_true rfl⟩) ⟨cd_bl1, va_recv hK (cd_PR hP) (ci := 1) (q0 := 0) rfl rfl, cd_pr1 (cd_PR hP) hK (cd_DR hD)⟩ rfl rfl hl.1 rfl (lv_room (Nat.le_of_ble_eq_true rfl)) dL_law_119 ⟨Nat.le_of_ble_eq_true rfl, Nat.le_of_ble_eq_true rfl⟩) hP hD hS hA (fun r2 u H locs hq2 hP hD hS => ?_)
        obtain ⟨h1, ga1, gb1, gc1⟩ := u
        have hP : va_P (dC, dI) vwCl (cd_D dA o0 o1 o2 o3 o4 n1 lv fa1 fb1 fc1 fl x y w hL hH lx ly lw gx gy gw rm bx by_ bw ap aq ++ cd_M dA k0 k1 k2 k3 k4 h1 lm ga1 gb1 gc1 gl cx cy cu kn mx my mu mp mq) H := hP
        have hD : va_D A (cd_D dA o0 o1 o2 o3 o4 n1 lv fa1 fb1 fc1 fl x y w hL hH lx ly lw gx gy gw rm bx by_ bw ap aq ++ cd_M dA k0 k1 k2 k3 k4 h1 lm ga1 gb1 gc1 gl cx cy cu kn mx my mu mp mq) := hD
        obtain ⟨heq, hR⟩ := cd_eq_add (n' := n1) (fa' := fa1) (fb' := fb1) (fc' := fc1) (h' := h1) (ga' := ga1) (gb' := gb1) (gc' := gc1) hR hq1 hq2
        refine lv_icmp_eq (tgt := 301) hx hb dL_law_122 (by decide) (fun c_1 => ?_) (fun c_1 => absurd heq c_1)
        refine cd_iinc (x := ((i : Nat) : Int)) (lv' := [(3, .int (cd_I (((i : Nat) : Int) + 4))), (0, .ref b), (1, .ref o0), (2, .ref k0)]) hx hb dL_law_301 hl (k := 0) rfl (by decide) rfl (fun ls hl => ?_)
        refine lv_goto (tgt := 18) hx hb dL_law_304 (by decide) ?_
        exact ih (i + 4) n1 lv fa1 fb1 fc1 fl x y w hL hH lx ly lw gx gy gw rm bx by_ bw ap aq h1 lm ga1 gb1 gc1 gl cx cy cu kn mx my mu mp mq (by omega) (by omega) hR hB H locs hP hD hS ls (lv_sub hl [0, 1, 2, 3] rfl)
      · refine lv_tableIn (off := 95) (tgt := 127) hx hb dL_law_32 (by decide) (by decide) (by decide) (by decide) ?_
        refine lv_aload_n hx hb dL_law_127 rfl (lv_at hl 2 rfl) ?_
        refine cd_callLi (va_runV (As := []) (rest := []) ⟨hx, hb, hml, hown, hts⟩ (xd_push l dC dI dA o0 o1 o2 o3 o4 n lv fa fb fc fl x y w hL hH lx ly lw gx gy gw rm bx by_ bw ap aq H.size   hlv8) (cwV 0 hts (lw_V q107 q108 q109 q19 q110) rfl rfl rfl (by decide +kernel) ⟨Nat.le_of_ble_eq_true rfl, Nat.le_of_ble_eq_true rfl⟩) ⟨cd_bl1, va_recv hK (cd_PL hP) (ci := 0) (q0 := 0) rfl rfl, cd_pr1 (cd_PL hP) hK (cd_DL hD)⟩ rfl rfl hl.1 rfl (lv_room (Nat.le_of_ble_eq_true rfl)) dL_law_128 ⟨Nat.le_of_ble_eq_true rfl, Nat.le_of_ble_eq_true rfl⟩) hP hD hS hA (fun r1 u H locs hq1 hP hD hS => ?_)
        obtain ⟨lv1, fl1⟩ := u
        have hP : va_P (dC, dI) vwCl (cd_D dA o0 o1 o2 o3 o4 n lv1 fa fb fc fl1 x y w hL hH lx ly lw gx gy gw rm bx by_ bw ap aq ++ cd_M dA k0 k1 k2 k3 k4 h lm ga gb gc gl cx cy cu kn mx my mu mp mq) H := hP
        have hD : va_D A (cd_D dA o0 o1 o2 o3 o4 n lv1 fa fb fc fl1 x y w hL hH lx ly lw gx gy gw rm bx by_ bw ap aq ++ cd_M dA k0 k1 k2 k3 k4 h lm ga gb gc gl cx cy cu kn mx my mu mp mq) := hD
        refine lv_aload_n hx hb dL_law_131 rfl (lv_at hl 3 rfl) ?_
        refine cd_callRi (va_runV (As := []) (rest := [.int r1]) ⟨hx, hb, hml, hown, hts⟩ (xm_push l dC dI dA k0 k1 k2 k3 k4 h lm ga gb gc gl cx cy cu kn mx my mu mp mq H.size   hlm8) (cwV 0 hts (lw_V q243 q244 q245 q20 q246) rfl rfl rfl (by decide +kernel) ⟨Nat.le_of_ble_eq_true rfl, Nat.le_of_ble_eq_true rfl⟩) ⟨cd_bl1, va_recv hK (cd_PR hP) (ci := 1) (q0 := 0) rfl rfl, cd_pr1 (cd_PR hP) hK (cd_DR hD)⟩ rfl rfl hl.1 rfl (lv_room (Nat.le_of_ble_eq_true rfl)) dL_law_132 ⟨Nat.le_of_ble_eq_true rfl, Nat.le_of_ble_eq_true rfl⟩) hP hD hS hA (fun r2 u H locs hq2 hP hD hS => ?_)
        obtain ⟨lm1, gl1⟩ := u
        have hP : va_P (dC, dI) vwCl (cd_D dA o0 o1 o2 o3 o4 n lv1 fa fb fc fl1 x y w hL hH lx ly lw gx gy gw rm bx by_ bw ap aq ++ cd_M dA k0 k1 k2 k3 k4 h lm1 ga gb gc gl1 cx cy cu kn mx my mu mp mq) H := hP
        have hD : va_D A (cd_D dA o0 o1 o2 o3 o4 n lv1 fa fb fc fl1 x y w hL hH lx ly lw gx gy gw rm bx by_ bw ap aq ++ cd_M dA k0 k1 k2 k3 k4 h lm1 ga gb gc gl1 cx cy cu kn mx my mu mp mq) := hD
        obtain ⟨heq, hR⟩ := cd_eq_push (lw := lv1) (fm := fl1) (lw' := lm1) (gm := gl1) hR hq1 hq2
        refine lv_icmp_eq (tgt := 301) hx hb dL_law_135 (by decide) (fun c_1 => ?_) (fun c_1 => absurd heq c_1)
        refine cd_iinc (x := ((i : Nat) : Int)) (lv' := [(3, .int (cd_I (((i : Nat) : Int) + 4))), (0, .ref b), (1, .ref o0), (2, .ref k0)]) hx hb dL_law_301 hl (k := 0) rfl (by decide) rfl (fun ls hl => ?_)
        refine lv_goto (tgt := 18) hx hb dL_law_304 (by decide) ?_
        exact ih (i + 4) n lv1 fa fb fc fl1 x y w hL hH lx ly lw gx gy gw rm bx by_ bw ap aq h lm1 ga gb gc gl1 cx cy cu kn mx my mu mp mq (by omega) (by omega) hR hB H locs hP hD hS ls (lv_sub hl [0, 1, 2, 3] rfl)
      · refine lv_tableIn (off := 108) (tgt := 140) hx hb dL_law_32 (by decide) (by decide) (by decide) (by decide) ?_
        refine lv_aload_n hx hb dL_law_140 rfl (lv_at hl 2 rfl) ?_
        refine cd_callLi (va_runV (As := []) (rest := []) ⟨hx, hb, hml, hown, hts⟩ (xd_pop l dC dI dA o0 o1 o2 o3 o4 n lv fa fb fc fl x y w hL hH lx ly lw gx gy gw rm bx by_ bw ap aq H.size   hlv8) (cwV 0 hts (lw_V q111 q112 q113 q19 q114) rfl rfl rfl (by decide +kernel) ⟨Nat.le_of_ble_eq_true rfl, Nat.le_of_ble_eq_true rfl⟩) ⟨cd_bl1, va_recv hK (cd_PL hP) (ci := 0) (q0 := 0) rfl rfl, cd_pr1 (cd_PL hP) hK (cd_DL hD)⟩ rfl rfl hl.1 rfl (lv_room (Nat.le_of_ble_eq_true rfl)) dL_law_141 ⟨Nat.le_of_ble_eq_true rfl, Nat.le_of_ble_eq_true rfl⟩) hP hD hS hA (fun r1 u H locs hq1 hP hD hS => ?_)
        obtain ⟨n1, lv1⟩ := u
        have hP : va_P (dC, dI) vwCl (cd_D dA o0 o1 o2 o3 o4 n1 lv1 fa fb fc fl x y w hL hH lx ly lw gx gy gw rm bx by_ bw ap aq ++ cd_M dA k0 k1 k2 k3 k4 h lm ga gb gc gl cx cy cu kn mx my mu mp mq) H := hP
        have hD : va_D A (cd_D dA o0 o1 o2 o3 o4 n1 lv1 fa fb fc fl x y w hL hH lx ly lw gx gy gw rm bx by_ bw ap aq ++ cd_M dA k0 k1 k2 k3 k4 h lm ga gb gc gl cx cy cu kn mx my mu mp mq) := hD
        refine lv_aload_n hx hb dL_law_144 rfl (lv_at hl 3 rfl) ?_
        refine cd_callRi (va_runV (As := []) (rest := [.int r1]) ⟨hx, hb, hml, hown, hts⟩ (xm_pop l dC dI dA k0 k1 k2 k3 k4 h lm ga gb gc gl cx cy cu kn mx my mu mp mq H.size   hlm8 hlm1) (cwV 0 hts (lw_V q247 q248 q249 q20 q250) rfl rfl rfl (by decide +kernel) ⟨Nat.le_of_ble_eq_true rfl, Nat.le_of_ble_eq_true rfl⟩) ⟨cd_bl1, va_recv hK (cd_PR hP) (ci := 1) (q0 := 0) rfl rfl, cd_pr1 (cd_PR hP) hK (cd_DR hD)⟩ rfl rfl hl.1 rfl (lv_room (Nat.le_of_ble_eq_true rfl)) dL_law_145 ⟨Nat.le_of_ble_eq_true rfl, Nat.le_of_ble_eq_true rfl⟩) hP hD hS hA (fun r2 u H locs hq2 hP hD hS => ?_)
        obtain ⟨h1, lm1⟩ := u
        have hP : va_P (dC, dI) vwCl (cd_D dA o0 o1 o2 o3 o4 n1 lv1 fa fb fc fl x y w hL hH lx ly lw gx gy gw rm bx by_ bw ap aq ++ cd_M dA k0 k1 k2 k3 k4 h1 lm1 ga gb gc gl cx cy cu kn mx my mu mp mq) H := hP
        have hD : va_D A (cd_D dA o0 o1 o2 o3 o4 n1 lv1 fa fb fc fl x y w hL hH lx ly lw gx gy gw rm bx by_ bw ap aq ++ cd_M dA k0 k1 k2 k3 k4 h1 lm1 ga gb gc gl cx cy cu kn mx my mu mp mq) := hD
        obtain ⟨heq, hR⟩ := cd_eq_pop (n' := n1) (lw := lv1) (h' := h1) (lw' := lm1) hR hq1 hq2
        refine lv_icmp_eq (tgt := 301) hx hb dL_law_148 (by decide) (fun c_1 => ?_) (fun c_1 => absurd heq c_1)
        refine cd_iinc (x := ((i : Nat) : Int)) (lv' := [(3, .int (cd_I (((i : Nat) : Int) + 4))), (0, .ref b), (1, .ref o0), (2, .ref k0)]) hx hb dL_law_301 hl (k := 0) rfl (by decide) rfl (fun ls hl => ?_)
        refine lv_goto (tgt := 18) hx hb dL_law_304 (by decide) ?_
        exact ih (i + 4) n1 lv1 fa fb fc fl x y w hL hH lx ly lw gx gy gw rm bx by_ bw ap aq h1 lm1 ga gb gc gl cx cy cu kn mx my mu mp mq (by omega) (by omega) hR hB H locs hP hD hS ls (lv_sub hl [0, 1, 2, 3] rfl)
      · refine lv_tableIn (off := 121) (tgt := 153) hx hb dL_law_32 (by decide) (by decide) (by decide) (by decide) ?_
        refine lv_aload_n hx hb dL_law_153 rfl (lv_at hl 2 rfl) ?_
        refine cd_callLi (va_runV (As := []) (rest := []) ⟨hx, hb, hml, hown, hts⟩ (xd_possible l dC dI dA o0 o1 o2 o3 o4 n lv fa fb fc fl x y w hL hH lx ly lw gx gy gw rm bx by_ bw ap aq H.size   hok) (cwV 0 hts (lw_V q115 q116 q117 q19 q118) rfl rfl rfl (by decide +kernel) ⟨Nat.le_of_ble_eq_true rfl, Nat.le_of_ble_eq_true rfl⟩) ⟨cd_bl1, va_recv hK (cd_PL hP) (ci := 0) (q0 := 0) rfl rfl, cd_pr1 (cd_PL hP) hK (cd_DL hD)⟩ rfl rfl hl.1 rfl (lv_room (Nat.le_of_ble_eq_true rfl)) dL_law_154 ⟨Nat.le_of_ble_eq_true rfl, Nat.le_of_ble_eq_true rfl⟩) hP hD hS hA (fun r1 u H locs hq1 hP hD hS => ?_)
        obtain ⟨d1, d2, d3, d4, d5, d6, d7, d8, d9, d10, d11⟩ := u
        have hP : va_P (dC, dI) vwCl (cd_D dA o0 o1 o2 o3 o4 n lv fa fb fc fl d1 d2 d3 d4 d5 d6 d7 d8 d9 d10 d11 rm bx by_ bw ap aq ++ cd_M dA k0 k1 k2 k3 k4 h lm ga gb gc gl cx cy cu kn mx my mu mp mq) H := hP
        have hD : va_D A (cd_D dA o0 o1 o2 o3 o4 n lv fa fb fc fl d1 d2 d3 d4 d5 d6 d7 d8 d9 d10 d11 rm bx by_ bw ap aq ++ cd_M dA k0 k1 k2 k3 k4 h lm ga gb gc gl cx cy cu kn mx my mu mp mq) := hD
        refine lv_aload_n hx hb dL_law_157 rfl (lv_at hl 3 rfl) ?_
        refine cd_callRi (va_runV (As := []) (rest := [.int r1]) ⟨hx, hb, hml, hown, hts⟩ (xm_possible l dC dI dA k0 k1 k2 k3 k4 h lm ga gb gc gl cx cy cu kn mx my mu mp mq H.size   hokM) (cwV 0 hts (lw_V q251 q252 q253 q20 q254) rfl rfl rfl (by decide +kernel) ⟨Nat.le_of_ble_eq_true rfl, Nat.le_of_ble_eq_true rfl⟩) ⟨cd_bl1, va_recv hK (cd_PR hP) (ci := 1) (q0 := 0) rfl rfl, cd_pr1 (cd_PR hP) hK (cd_DR hD)⟩ rfl rfl hl.1 rfl (lv_room (Nat.le_of_ble_eq_true rfl)) dL_law_158 ⟨Nat.le_of_ble_eq_true rfl, Nat.le_of_ble_eq_true rfl⟩) hP hD hS hA (fun r2 u H locs hq2 hP hD hS => ?_)
        obtain ⟨c1, c2, c3⟩ := u
        have hP : va_P (dC, dI) vwCl (cd_D dA o0 o1 o2 o3 o4 n lv fa fb fc fl d1 d2 d3 d4 d5 d6 d7 d8 d9 d10 d11 rm bx by_ bw ap aq ++ cd_M dA k0 k1 k2 k3 k4 h lm ga gb gc gl c1 c2 c3 kn mx my mu mp mq) H := hP
        have hD : va_D A (cd_D dA o0 o1 o2 o3 o4 n lv fa fb fc fl d1 d2 d3 d4 d5 d6 d7 d8 d9 d10 d11 rm bx by_ bw ap aq ++ cd_M dA k0 k1 k2 k3 k4 h lm ga gb gc gl c1 c2 c3 kn mx my mu mp mq) := hD
        have heq := cd_eq_pos (x := d1) (y := d2) (w := d3) hR hq1 hq2
        refine lv_icmp_eq (tgt := 301) hx hb dL_law_161 (by decide) (fun c_1 => ?_) (fun c_1 => absurd heq c_1)
        refine cd_iinc (x := ((i : Nat) : Int)) (lv' := [(3, .int (cd_I (((i : Nat) : Int) + 4))), (0, .ref b), (1, .ref o0), (2, .ref k0)]) hx hb dL_law_301 hl (k := 0) rfl (by decide) rfl (fun ls hl => ?_)
        refine lv_goto (tgt := 18) hx hb dL_law_304 (by decide) ?_
        exact ih (i + 4) n lv fa fb fc fl d1 d2 d3 d4 d5 d6 d7 d8 d9 d10 d11 rm bx by_ bw ap aq h lm ga gb gc gl c1 c2 c3 kn mx my mu mp mq (by omega) (by omega) hR hB H locs hP hD hS ls (lv_sub hl [0, 1, 2, 3] rfl)
      · refine lv_tableIn (off := 134) (tgt := 166) hx hb dL_law_32 (by decide) (by decide) (by decide) (by decide) ?_
        refine lv_aload_n hx hb dL_law_166 rfl (lv_at hl 2 rfl) ?_
        refine lv_aload_n hx hb dL_law_167 rfl (lv_at hl 1 rfl) ?_
        refine lv_iload_n hx hb dL_law_168 rfl (lv_at hl 0 rfl) ?_
        refine lv_iconst (v := cd_I 1) hx hb dL_law_169 rfl ?_
        refine cd_iadd hx hb dL_law_170 ?_
        refine cd_sld (k := (i + 1)) hx hb hX hbl hbA hS (by omega) (by omega) dL_law_171 ?_
        refine lv_aload_n hx hb dL_law_172 rfl (lv_at hl 1 rfl) ?_
        refine lv_iload_n hx hb dL_law_173 rfl (lv_at hl 0 rfl) ?_
        refine lv_iconst (v := cd_I 2) hx hb dL_law_174 rfl ?_
        refine cd_iadd hx hb dL_law_175 ?_
        refine cd_sld (k := (i + 2)) hx hb hX hbl hbA hS (by omega) (by omega) dL_law_176 ?_
        refine cd_callLi (va_runV (As := [.int (cd_I ((xs (i + 1)).toInt)), .int (cd_I ((xs (i + 2)).toInt))]) (rest := []) ⟨hx, hb, hml, hown, hts⟩ (xd_best l dC dI dA o0 o1 o2 o3 o4 n lv fa fb fc fl x y w hL hH lx ly lw gx gy gw rm bx by_ bw ap aq H.size ((xs (i + 1)).toInt) ((xs (i + 2)).toInt) (cd_R32v _) (cd_R32v _) hok) (cwV 2 hts (lw_V q153 q154 q155 q19 q156) rfl rfl rfl (by decide +kernel) ⟨Nat.le_of_ble_eq_true rfl, Nat.le_of_ble_eq_true rfl⟩) ⟨cd_bl1, va_recv hK (cd_PL hP) (ci := 0) (q0 := 0) rfl rfl, cd_pr1 (cd_PL hP) hK (cd_DL hD)⟩ rfl rfl hl.1 rfl (lv_room (Nat.le_of_ble_eq_true rfl)) dL_law_177 ⟨Nat.le_of_ble_eq_true rfl, Nat.le_of_ble_eq_true rfl⟩) hP hD hS hA (fun r1 u H locs hq1 hP hD hS => ?_)
        obtain ⟨d1, d2, d3, d4, d5, d6, d7, d8, d9, d10, d11, d12, d13, d14, d15, d16, d17⟩ := u
        have hP : va_P (dC, dI) vwCl (cd_D dA o0 o1 o2 o3 o4 n lv fa fb fc fl d1 d2 d3 d4 d5 d6 d7 d8 d9 d10 d11 d12 d13 d14 d15 d16 d17 ++ cd_M dA k0 k1 k2 k3 k4 h lm ga gb gc gl cx cy cu kn mx my mu mp mq) H := hP
        have hD : va_D A (cd_D dA o0 o1 o2 o3 o4 n lv fa fb fc fl d1 d2 d3 d4 d5 d6 d7 d8 d9 d10 d11 d12 d13 d14 d15 d16 d17 ++ cd_M dA k0 k1 k2 k3 k4 h lm ga gb gc gl cx cy cu kn mx my mu mp mq) := hD
        refine lv_aload_n hx hb dL_law_180 rfl (lv_at hl 3 rfl) ?_
        refine lv_aload_n hx hb dL_law_181 rfl (lv_at hl 1 rfl) ?_
        refine lv_iload_n hx hb dL_law_182 rfl (lv_at hl 0 rfl) ?_
        refine lv_iconst (v := cd_I 1) hx hb dL_law_183 rfl ?_
        refine cd_iadd hx hb dL_law_184 ?_
        refine cd_sld (k := (i + 1)) hx hb hX hbl hbA hS (by omega) (by omega) dL_law_185 ?_
        refine lv_aload_n hx hb dL_law_186 rfl (lv_at hl 1 rfl) ?_
        refine lv_iload_n hx hb dL_law_187 rfl (lv_at hl 0 rfl) ?_
        refine lv_iconst (v := cd_I 2) hx hb dL_law_188 rfl ?_
        refine cd_iadd hx hb dL_law_189 ?_
        refine cd_sld (k := (i + 2)) hx hb hX hbl hbA hS (by omega) (by omega) dL_law_190 ?_
        refine cd_callRi (va_runV (As := [.int (cd_I ((xs (i + 1)).toInt)), .int (cd_I ((xs (i + 2)).toInt))]) (rest := [.int r1]) ⟨hx, hb, hml, hown, hts⟩ (xm_best l dC dI dA k0 k1 k2 k3 k4 h lm ga gb gc gl cx cy cu kn mx my mu mp mq H.size ((xs (i + 1)).toInt) ((xs (i + 2)).toInt) (cd_R32v _) (cd_R32v _) hokM) (cwV 2 hts (lw_V q271 q272 q273 q20 q274) rfl rfl rfl (by decide +kernel) ⟨Nat.le_of_ble_eq_true rfl, Nat.le_of_ble_eq_true rfl⟩) ⟨cd_bl1, va_recv hK (cd_PR hP) (ci := 1) (q0 := 0) rfl rfl, cd_pr1 (cd_PR hP) hK (cd_DR hD)⟩ rfl rfl hl.1 rfl (lv_room (Nat.le_of_ble_eq_true rfl)) dL_law_191 ⟨Nat.le_of_ble_eq_true rfl, Nat.le_of_ble_eq_true rfl⟩) hP hD hS hA (fun r2 u H locs hq2 hP hD hS => ?_)
        obtain ⟨c1, c2, c3, c4, c5, c6, c7, c8, c9⟩ := u
        have hP : va_P (dC, dI) vwCl (cd_D dA o0 o1 o2 o3 o4 n lv fa fb fc fl d1 d2 d3 d4 d5 d6 d7 d8 d9 d10 d11 d12 d13 d14 d15 d16 d17 ++ cd_M dA k0 k1 k2 k3 k4 h lm ga gb gc gl c1 c2 c3 c4 c5 c6 c7 c8 c9) H := hP
        have hD : va_D A (cd_D dA o0 o1 o2 o3 o4 n lv fa fb fc fl d1 d2 d3 d4 d5 d6 d7 d8 d9 d10 d11 d12 d13 d14 d15 d16 d17 ++ cd_M dA k0 k1 k2 k3 k4 h lm ga gb gc gl c1 c2 c3 c4 c5 c6 c7 c8 c9) := hD
        obtain ⟨heq, hB⟩ := cd_eq_best (rm' := d12) (bx' := d13) (by' := d14) (bw' := d15) (ap' := d16) (aq' := d17) (kn' := c4) (mx' := c5) (my' := c6) (mu' := c7) (mp' := c8) (mq' := c9) hR hB hq1 hq2
        refine lv_icmp_eq (tgt := 301) hx hb dL_law_194 (by decide) (fun c_1 => ?_) (fun c_1 => absurd heq c_1)
        refine cd_iinc (x := ((i : Nat) : Int)) (lv' := [(3, .int (cd_I (((i : Nat) : Int) + 4))), (0, .ref b), (1, .ref o0), (2, .ref k0)]) hx hb dL_law_301 hl (k := 0) rfl (by decide) rfl (fun ls hl => ?_)
        refine lv_goto (tgt := 18) hx hb dL_law_304 (by decide) ?_
        exact ih (i + 4) n lv fa fb fc fl d1 d2 d3 d4 d5 d6 d7 d8 d9 d10 d11 d12 d13 d14 d15 d16 d17 h lm ga gb gc gl c1 c2 c3 c4 c5 c6 c7 c8 c9 (by omega) (by omega) hR hB H locs hP hD hS ls (lv_sub hl [0, 1, 2, 3] rfl)
      · refine lv_tableIn (off := 167) (tgt := 199) hx hb dL_law_32 (by decide) (by decide) (by decide) (by decide) ?_
        refine lv_aload_n hx hb dL_law_199 rfl (lv_at hl 2 rfl) ?_
        refine lv_aload_n hx hb dL_law_200 rfl (lv_at hl 1 rfl) ?_
        refine lv_iload_n hx hb dL_law_201 rfl (lv_at hl 0 rfl) ?_
        refine lv_iconst (v := cd_I 1) hx hb dL_law_202 rfl ?_
        refine cd_iadd hx hb dL_law_203 ?_
        refine cd_sld (k := (i + 1)) hx hb hX hbl hbA hS (by omega) (by omega) dL_law_204 ?_
        refine cd_call0i (va_runV (As := [.int (cd_I ((xs (i + 1)).toInt))]) (rest := []) ⟨hx, hb, hml, hown, hts⟩ (xd_numerator l dC dI dA o0 o1 o2 o3 o4 n lv fa fb fc fl x y w hL hH lx ly lw gx gy gw rm bx by_ bw ap aq ((xs (i + 1)).toInt) (cd_R32v _) (cd_RB_d hB)) (cwV 1 hts (lw_V q157 q158 q159 q19 q160) rfl rfl rfl (by decide +kernel) ⟨Nat.le_of_ble_eq_true rfl, Nat.le_of_ble_eq_true rfl⟩) ⟨cd_bl0, va_recv hK (cd_PL hP) (ci := 0) (q0 := 0) rfl rfl, cd_pr0 (cd_PL hP) hK⟩ rfl rfl hl.1 rfl (lv_room (Nat.le_of_ble_eq_true rfl)) dL_law_205 ⟨Nat.le_of_ble_eq_true rfl, Nat.le_of_ble_eq_true rfl⟩) hP hS (fun r1 H locs hq1 hP hS => ?_)
        refine lv_aload_n hx hb dL_law_208 rfl (lv_at hl 3 rfl) ?_
        refine lv_aload_n hx hb dL_law_209 rfl (lv_at hl 1 rfl) ?_
        refine lv_iload_n hx hb dL_law_210 rfl (lv_at hl 0 rfl) ?_
        refine lv_iconst (v := cd_I 1) hx hb dL_law_211 rfl ?_
        refine cd_iadd hx hb dL_law_212 ?_
        refine cd_sld (k := (i + 1)) hx hb hX hbl hbA hS (by omega) (by omega) dL_law_213 ?_
        refine cd_call0i (va_runV (As := [.int (cd_I ((xs (i + 1)).toInt))]) (rest := [.int r1]) ⟨hx, hb, hml, hown, hts⟩ (xm_numerator l dC dI dA k0 k1 k2 k3 k4 h lm ga gb gc gl cx cy cu kn mx my mu mp mq ((xs (i + 1)).toInt) (cd_R32v _) (cd_RB_m hB)) (cwV 1 hts (lw_V q283 q284 q285 q20 q286) rfl rfl rfl (by decide +kernel) ⟨Nat.le_of_ble_eq_true rfl, Nat.le_of_ble_eq_true rfl⟩) ⟨cd_bl0, va_recv hK (cd_PR hP) (ci := 1) (q0 := 0) rfl rfl, cd_pr0 (cd_PR hP) hK⟩ rfl rfl hl.1 rfl (lv_room (Nat.le_of_ble_eq_true rfl)) dL_law_214 ⟨Nat.le_of_ble_eq_true rfl, Nat.le_of_ble_eq_true rfl⟩) hP hS (fun r2 H locs hq2 hP hS => ?_)
        have heq := cd_eq_num hB hq1 hq2
        refine lv_icmp_eq (tgt := 301) hx hb dL_law_217 (by decide) (fun c_1 => ?_) (fun c_1 => absurd heq c_1)
        refine cd_iinc (x := ((i : Nat) : Int)) (lv' := [(3, .int (cd_I (((i : Nat) : Int) + 4))), (0, .ref b), (1, .ref o0), (2, .ref k0)]) hx hb dL_law_301 hl (k := 0) rfl (by decide) rfl (fun ls hl => ?_)
        refine lv_goto (tgt := 18) hx hb dL_law_304 (by decide) ?_
        exact ih (i + 4) n lv fa fb fc fl x y w hL hH lx ly lw gx gy gw rm bx by_ bw ap aq h lm ga gb gc gl cx cy cu kn mx my mu mp mq (by omega) (by omega) hR hB H locs hP hD hS ls (lv_sub hl [0, 1, 2, 3] rfl)
      · refine lv_tableIn (off := 190) (tgt := 222) hx hb dL_law_32 (by decide) (by decide) (by decide) (by decide) ?_
        refine lv_aload_n hx hb dL_law_222 rfl (lv_at hl 2 rfl) ?_
        refine lv_aload_n hx hb dL_law_223 rfl (lv_at hl 1 rfl) ?_
        refine lv_iload_n hx hb dL_law_224 rfl (lv_at hl 0 rfl) ?_
        refine lv_iconst (v := cd_I 1) hx hb dL_law_225 rfl ?_
        refine cd_iadd hx hb dL_law_226 ?_
        refine cd_sld (k := (i + 1)) hx hb hX hbl hbA hS (by omega) (by omega) dL_law_227 ?_
        refine cd_call0i (va_runV (As := [.int (cd_I ((xs (i + 1)).toInt))]) (rest := []) ⟨hx, hb, hml, hown, hts⟩ (xd_denominator l dC dI dA o0 o1 o2 o3 o4 n lv fa fb fc fl x y w hL hH lx ly lw gx gy gw rm bx by_ bw ap aq ((xs (i + 1)).toInt) (cd_R32v _) (cd_RB_d hB)) (cwV 1 hts (lw_V q168 q169 q170 q19 q171) rfl rfl rfl (by decide +kernel) ⟨Nat.le_of_ble_eq_true rfl, Nat.le_of_ble_eq_true rfl⟩) ⟨cd_bl0, va_recv hK (cd_PL hP) (ci := 0) (q0 := 0) rfl rfl, cd_pr0 (cd_PL hP) hK⟩ rfl rfl hl.1 rfl (lv_room (Nat.le_of_ble_eq_true rfl)) dL_law_228 ⟨Nat.le_of_ble_eq_true rfl, Nat.le_of_ble_eq_true rfl⟩) hP hS (fun r1 H locs hq1 hP hS => ?_)
        refine lv_aload_n hx hb dL_law_231 rfl (lv_at hl 3 rfl) ?_
        refine lv_aload_n hx hb dL_law_232 rfl (lv_at hl 1 rfl) ?_
        refine lv_iload_n hx hb dL_law_233 rfl (lv_at hl 0 rfl) ?_
        refine lv_iconst (v := cd_I 1) hx hb dL_law_234 rfl ?_
        refine cd_iadd hx hb dL_law_235 ?_
        refine cd_sld (k := (i + 1)) hx hb hX hbl hbA hS (by omega) (by omega) dL_law_236 ?_
        refine cd_call0i (va_runV (As := [.int (cd_I ((xs (i + 1)).toInt))]) (rest := [.int r1]) ⟨hx, hb, hml, hown, hts⟩ (xm_denominator l dC dI dA k0 k1 k2 k3 k4 h lm ga gb gc gl cx cy cu kn mx my mu mp mq ((xs (i + 1)).toInt) (cd_R32v _) (cd_RB_m hB)) (cwV 1 hts (lw_V q294 q295 q296 q20 q297) rfl rfl rfl (by decide +kernel) ⟨Nat.le_of_ble_eq_true rfl, Nat.le_of_ble_eq_true rfl⟩) ⟨cd_bl0, va_recv hK (cd_PR hP) (ci := 1) (q0 := 0) rfl rfl, cd_pr0 (cd_PR hP) hK⟩ rfl rfl hl.1 rfl (lv_room (Nat.le_of_ble_eq_true rfl)) dL_law_237 ⟨Nat.le_of_ble_eq_true rfl, Nat.le_of_ble_eq_true rfl⟩) hP hS (fun r2 H locs hq2 hP hS => ?_)
        have heq := cd_eq_den hB hq1 hq2
        refine lv_icmp_eq (tgt := 301) hx hb dL_law_240 (by decide) (fun c_1 => ?_) (fun c_1 => absurd heq c_1)
        refine cd_iinc (x := ((i : Nat) : Int)) (lv' := [(3, .int (cd_I (((i : Nat) : Int) + 4))), (0, .ref b), (1, .ref o0), (2, .ref k0)]) hx hb dL_law_301 hl (k := 0) rfl (by decide) rfl (fun ls hl => ?_)
        refine lv_goto (tgt := 18) hx hb dL_law_304 (by decide) ?_
        exact ih (i + 4) n lv fa fb fc fl x y w hL hH lx ly lw gx gy gw rm bx by_ bw ap aq h lm ga gb gc gl cx cy cu kn mx my mu mp mq (by omega) (by omega) hR hB H locs hP hD hS ls (lv_sub hl [0, 1, 2, 3] rfl)
      · refine lv_tableIn (off := 213) (tgt := 245) hx hb dL_law_32 (by decide) (by decide) (by decide) (by decide) ?_
        refine lv_aload_n hx hb dL_law_245 rfl (lv_at hl 2 rfl) ?_
        refine lv_aload_n hx hb dL_law_246 rfl (lv_at hl 1 rfl) ?_
        refine lv_iload_n hx hb dL_law_247 rfl (lv_at hl 0 rfl) ?_
        refine lv_iconst (v := cd_I 1) hx hb dL_law_248 rfl ?_
        refine cd_iadd hx hb dL_law_249 ?_
        refine cd_sld (k := (i + 1)) hx hb hX hbl hbA hS (by omega) (by omega) dL_law_250 ?_
        refine lv_aload_n hx hb dL_law_251 rfl (lv_at hl 1 rfl) ?_
        refine lv_iload_n hx hb dL_law_252 rfl (lv_at hl 0 rfl) ?_
        refine lv_iconst (v := cd_I 2) hx hb dL_law_253 rfl ?_
        refine cd_iadd hx hb dL_law_254 ?_
        refine cd_sld (k := (i + 2)) hx hb hX hbl hbA hS (by omega) (by omega) dL_law_255 ?_
        refine lv_aload_n hx hb dL_law_256 rfl (lv_at hl 1 rfl) ?_
        refine lv_iload_n hx hb dL_law_257 rfl (lv_at hl 0 rfl) ?_
        refine lv_iconst (v := cd_I 3) hx hb dL_law_258 rfl ?_
        refine cd_iadd hx hb dL_law_259 ?_
        refine cd_sld (k := (i + 3)) hx hb hX hbl hbA hS (by omega) (by omega) dL_law_260 ?_
        refine cd_call0i (va_runV (As := [.int (cd_I ((xs (i + 1)).toInt)), .int (cd_I ((xs (i + 2)).toInt)), .int (cd_I ((xs (i + 3)).toInt))]) (rest := []) ⟨hx, hb, hml, hown, hts⟩ (xd_test l dC dI dA o0 o1 o2 o3 o4 n lv fa fb fc fl x y w hL hH lx ly lw gx gy gw rm bx by_ bw ap aq ((xs (i + 1)).toInt) ((xs (i + 2)).toInt) ((xs (i + 3)).toInt) (cd_R32v _) (cd_R32v _) (cd_R32v _) (cd_RB_d hB)) (cwV 3 hts (lw_V q172 q173 q174 q19 q175) rfl rfl rfl (by decide +kernel) ⟨Nat.le_of_ble_eq_true rfl, Nat.le_of_ble_eq_true rfl⟩) ⟨cd_bl0, va_recv hK (cd_PL hP) (ci := 0) (q0 := 0) rfl rfl, cd_pr0 (cd_PL hP) hK⟩ rfl rfl hl.1 rfl (lv_room (Nat.le_of_ble_eq_true rfl)) dL_law_261 ⟨Nat.le_of_ble_eq_true rfl, Nat.le_of_ble_eq_true rfl⟩) hP hS (fun r1 H locs hq1 hP hS => ?_)
        refine lv_aload_n hx hb dL_law_264 rfl (lv_at hl 3 rfl) ?_
        refine lv_aload_n hx hb dL_law_265 rfl (lv_at hl 1 rfl) ?_
        refine lv_iload_n hx hb dL_law_266 rfl (lv_at hl 0 rfl) ?_
        refine lv_iconst (v := cd_I 1) hx hb dL_law_267 rfl ?_
        refine cd_iadd hx hb dL_law_268 ?_
        refine cd_sld (k := (i + 1)) hx hb hX hbl hbA hS (by omega) (by omega) dL_law_269 ?_
        refine lv_aload_n hx hb dL_law_270 rfl (lv_at hl 1 rfl) ?_
        refine lv_iload_n hx hb dL_law_271 rfl (lv_at hl 0 rfl) ?_
        refine lv_iconst (v := cd_I 2) hx hb dL_law_272 rfl ?_
        refine cd_iadd hx hb dL_law_273 ?_
        refine cd_sld (k := (i + 2)) hx hb hX hbl hbA hS (by omega) (by omega) dL_law_274 ?_
        refine lv_aload_n hx hb dL_law_275 rfl (lv_at hl 1 rfl) ?_
        refine lv_iload_n hx hb dL_law_276 rfl (lv_at hl 0 rfl) ?_
        refine lv_iconst (v := cd_I 3) hx hb dL_law_277 rfl ?_
        refine cd_iadd hx hb dL_law_278 ?_
        refine cd_sld (k := (i + 3)) hx hb hX hbl hbA hS (by omega) (by omega) dL_law_279 ?_
        refine cd_call0i (va_runV (As := [.int (cd_I ((xs (i + 1)).toInt)), .int (cd_I ((xs (i + 2)).toInt)), .int (cd_I ((xs (i + 3)).toInt))]) (rest := [.int r1]) ⟨hx, hb, hml, hown, hts⟩ (xm_test l dC dI dA k0 k1 k2 k3 k4 h lm ga gb gc gl cx cy cu kn mx my mu mp mq ((xs (i + 1)).toInt) ((xs (i + 2)).toInt) ((xs (i + 3)).toInt) (cd_R32v _) (cd_R32v _) (cd_R32v _) (cd_RB_m hB)) (cwV 3 hts (lw_V q298 q299 q300 q20 q301) rfl rfl rfl (by decide +kernel) ⟨Nat.le_of_ble_eq_true rfl, Nat.le_of_ble_eq_true rfl⟩) ⟨cd_bl0, va_recv hK (cd_PR hP) (ci := 1) (q0 := 0) rfl rfl, cd_pr0 (cd_PR hP) hK⟩ rfl rfl hl.1 rfl (lv_room (Nat.le_of_ble_eq_true rfl)) dL_law_280 ⟨Nat.le_of_ble_eq_true rfl, Nat.le_of_ble_eq_true rfl⟩) hP hS (fun r2 H locs hq2 hP hS => ?_)
        have heq := cd_eq_test hB hq1 hq2
        refine lv_icmp_eq (tgt := 301) hx hb dL_law_283 (by decide) (fun c_1 => ?_) (fun c_1 => absurd heq c_1)
        refine cd_iinc (x := ((i : Nat) : Int)) (lv' := [(3, .int (cd_I (((i : Nat) : Int) + 4))), (0, .ref b), (1, .ref o0), (2, .ref k0)]) hx hb dL_law_301 hl (k := 0) rfl (by decide) rfl (fun ls hl => ?_)
        refine lv_goto (tgt := 18) hx hb dL_law_304 (by decide) ?_
        exact ih (i + 4) n lv fa fb fc fl x y w hL hH lx ly lw gx gy gw rm bx by_ bw ap aq h lm ga gb gc gl cx cy cu kn mx my mu mp mq (by omega) (by omega) hR hB H locs hP hD hS ls (lv_sub hl [0, 1, 2, 3] rfl)
      · refine lv_tableIn (off := 256) (tgt := 288) hx hb dL_law_32 (by decide) (by decide) (by decide) (by decide) ?_
        refine lv_aload_n hx hb dL_law_288 rfl (lv_at hl 2 rfl) ?_
        refine cd_callLi (va_runV (As := []) (rest := []) ⟨hx, hb, hml, hown, hts⟩ (xd_spare l dC dI dA o0 o1 o2 o3 o4 n lv fa fb fc fl x y w hL hH lx ly lw gx gy gw rm bx by_ bw ap aq H.size   hok) (cwV 0 hts (lw_V q176 q177 q178 q19 q179) rfl rfl rfl (by decide +kernel) ⟨Nat.le_of_ble_eq_true rfl, Nat.le_of_ble_eq_true rfl⟩) ⟨cd_bl1, va_recv hK (cd_PL hP) (ci := 0) (q0 := 0) rfl rfl, cd_pr1 (cd_PL hP) hK (cd_DL hD)⟩ rfl rfl hl.1 rfl (lv_room (Nat.le_of_ble_eq_true rfl)) dL_law_289 ⟨Nat.le_of_ble_eq_true rfl, Nat.le_of_ble_eq_true rfl⟩) hP hD hS hA (fun r1 u H locs hq1 hP hD hS => ?_)
        obtain ⟨d1, d2, d3, d4, d5, d6, d7, d8, d9, d10, d11⟩ := u
        have hP : va_P (dC, dI) vwCl (cd_D dA o0 o1 o2 o3 o4 n lv fa fb fc fl d1 d2 d3 d4 d5 d6 d7 d8 d9 d10 d11 rm bx by_ bw ap aq ++ cd_M dA k0 k1 k2 k3 k4 h lm ga gb gc gl cx cy cu kn mx my mu mp mq) H := hP
        have hD : va_D A (cd_D dA o0 o1 o2 o3 o4 n lv fa fb fc fl d1 d2 d3 d4 d5 d6 d7 d8 d9 d10 d11 rm bx by_ bw ap aq ++ cd_M dA k0 k1 k2 k3 k4 h lm ga gb gc gl cx cy cu kn mx my mu mp mq) := hD
        refine lv_aload_n hx hb dL_law_292 rfl (lv_at hl 3 rfl) ?_
        refine cd_callRi (va_runV (As := []) (rest := [.int r1]) ⟨hx, hb, hml, hown, hts⟩ (xm_spare l dC dI dA k0 k1 k2 k3 k4 h lm ga gb gc gl cx cy cu kn mx my mu mp mq H.size   hokM) (cwV 0 hts (lw_V q302 q303 q304 q20 q305) rfl rfl rfl (by decide +kernel) ⟨Nat.le_of_ble_eq_true rfl, Nat.le_of_ble_eq_true rfl⟩) ⟨cd_bl1, va_recv hK (cd_PR hP) (ci := 1) (q0 := 0) rfl rfl, cd_pr1 (cd_PR hP) hK (cd_DR hD)⟩ rfl rfl hl.1 rfl (lv_room (Nat.le_of_ble_eq_true rfl)) dL_law_293 ⟨Nat.le_of_ble_eq_true rfl, Nat.le_of_ble_eq_true rfl⟩) hP hD hS hA (fun r2 u H locs hq2 hP hD hS => ?_)
        obtain ⟨c1, c2, c3⟩ := u
        have hP : va_P (dC, dI) vwCl (cd_D dA o0 o1 o2 o3 o4 n lv fa fb fc fl d1 d2 d3 d4 d5 d6 d7 d8 d9 d10 d11 rm bx by_ bw ap aq ++ cd_M dA k0 k1 k2 k3 k4 h lm ga gb gc gl c1 c2 c3 kn mx my mu mp mq) H := hP
        have hD : va_D A (cd_D dA o0 o1 o2 o3 o4 n lv fa fb fc fl d1 d2 d3 d4 d5 d6 d7 d8 d9 d10 d11 rm bx by_ bw ap aq ++ cd_M dA k0 k1 k2 k3 k4 h lm ga gb gc gl c1 c2 c3 kn mx my mu mp mq) := hD
        have heq := cd_eq_spare hR hq1 hq2
        refine lv_icmp_eq (tgt := 301) hx hb dL_law_296 (by decide) (fun c_1 => ?_) (fun c_1 => absurd heq c_1)
        refine cd_iinc (x := ((i : Nat) : Int)) (lv' := [(3, .int (cd_I (((i : Nat) : Int) + 4))), (0, .ref b), (1, .ref o0), (2, .ref k0)]) hx hb dL_law_301 hl (k := 0) rfl (by decide) rfl (fun ls hl => ?_)
        refine lv_goto (tgt := 18) hx hb dL_law_304 (by decide) ?_
        exact ih (i + 4) n lv fa fb fc fl d1 d2 d3 d4 d5 d6 d7 d8 d9 d10 d11 rm bx by_ bw ap aq h lm ga gb gc gl c1 c2 c3 kn mx my mu mp mq (by omega) (by omega) hR hB H locs hP hD hS ls (lv_sub hl [0, 1, 2, 3] rfl)
      · refine lv_tableOut (tgt := 301) hx hb dL_law_32 (Or.inr (by rw [cd_I_toInt ⟨by omega, by omega⟩]; omega)) (by decide) ?_
        refine cd_iinc (x := ((i : Nat) : Int)) (lv' := [(3, .int (cd_I (((i : Nat) : Int) + 4))), (0, .ref b), (1, .ref o0), (2, .ref k0)]) hx hb dL_law_301 hl (k := 0) rfl (by decide) rfl (fun ls hl => ?_)
        refine lv_goto (tgt := 18) hx hb dL_law_304 (by decide) ?_
        exact ih (i + 4) n lv fa fb fc fl x y w hL hH lx ly lw gx gy gw rm bx by_ bw ap aq h lm ga gb gc gl cx cy cu kn mx my mu mp mq (by omega) (by omega) hR hB H locs hP hD hS ls (lv_sub hl [0, 1, 2, 3] rfl)
end
section
/-! the law from its entry -/
set_option maxHeartbeats 4000000 in
set_option maxRecDepth 100000 in
theorem cd_z23 : ∀ j, j < 23 → defaultValue (tyX0 j) = vp_V ([.int (cd_I 0), .null, .null, .null, .int (cd_I 0), .null, .long (cd_L 0), .long (cd_L 0), .long (cd_L 0), .int (cd_I 0), .int (cd_I 0), .long (cd_L 0), .long (cd_L 0), .long (cd_L 0), .long (cd_L 0), .long (cd_L 0), .long (cd_L 0), .int (cd_I 0), .long (cd_L 0), .long (cd_L 0), .long (cd_L 0), .int (cd_I 0), .int (cd_I 0)]) j := by
  intro j hj
  rcases (show j = 0 ∨ j = 1 ∨ j = 2 ∨ j = 3 ∨ j = 4 ∨ j = 5 ∨ j = 6 ∨ j = 7 ∨ j = 8 ∨ j = 9 ∨ j = 10 ∨ j = 11 ∨ j = 12 ∨ j = 13 ∨ j = 14 ∨ j = 15 ∨ j = 16 ∨ j = 17 ∨ j = 18 ∨ j = 19 ∨ j = 20 ∨ j = 21 ∨ j = 22 by omega) with rfl | rfl | rfl | rfl | rfl | rfl | rfl | rfl | rfl | rfl | rfl | rfl | rfl | rfl | rfl | rfl | rfl | rfl | rfl | rfl | rfl | rfl | rfl <;> rfl
set_option maxHeartbeats 4000000 in
set_option maxRecDepth 100000 in
theorem cd_z15 : ∀ j, j < 15 → defaultValue (tyX1 j) = vp_V ([.int (cd_I 0), .int (cd_I 0), .null, .null, .null, .null, .long (cd_L 0), .long (cd_L 0), .long (cd_L 0), .int (cd_I 0), .long (cd_L 0), .long (cd_L 0), .long (cd_L 0), .int (cd_I 0), .int (cd_I 0)]) j := by
  intro j hj
  rcases (show j = 0 ∨ j = 1 ∨ j = 2 ∨ j = 3 ∨ j = 4 ∨ j = 5 ∨ j = 6 ∨ j = 7 ∨ j = 8 ∨ j = 9 ∨ j = 10 ∨ j = 11 ∨ j = 12 ∨ j = 13 ∨ j = 14 by omega) with rfl | rfl | rfl | rfl | rfl | rfl | rfl | rfl | rfl | rfl | rfl | rfl | rfl | rfl | rfl <;> rfl
set_option maxHeartbeats 4000000 in
set_option maxRecDepth 100000 in
theorem whole_start {p : Program} {e : Env} {s : State} {m : MethodId} {below : List Frame} {meth : Method} {c : Code} (l : Launch) {b L : Nat} {xs : Nat → Int32} (hL : L ≤ 256) (C0 : lw_At p s m meth c b L xs) : W p l e room_1 s m #[Value.ref b] below meth c s.heap [] 0 0 (lw_Z below #[Value.ref b] s) (entryFrame m ([Value.ref b] : List Value).toArray 4) := by
  obtain ⟨hx, hb, hr, hml, hown, hts0, hX, hbl, hlocks, hgv⟩ := id C0
  have hts : ∀ w ∈ lw_all, w.before #[Value.ref b] s = true := fun w h => hts0 w (lw_all_tbl h)
  obtain ⟨A, hAe⟩ : ∃ A : Nat → Prop, A = fun q : Nat => s.heap.size ≤ q := ⟨_, rfl⟩
  have hA : ∀ q : Nat, s.heap.size ≤ q → A q := by rw [hAe]; exact fun _ h => h
  have hA2 : ∀ q : Nat, A q → s.heap.size ≤ q := by rw [hAe]; exact fun _ h => h
  have hbA : ¬ A b := fun h => absurd (hA2 b h) (Nat.not_le.mpr hbl)
  obtain ⟨c0, iS0, hKn0⟩ := u_known (C := RX0) (T := TX0) (N := 23) (n := 23) hts0 (fun w h => lw_all_tbl (in_X0 w h)) (hts _ q22)
  obtain ⟨c1, iS1, hKn1⟩ := u_known (C := RX1) (T := TX1) (N := 15) (n := 15) hts0 (fun w h => lw_all_tbl (in_X1 w h)) (hts _ q181)
  obtain ⟨dC, dI, hKc⟩ : ∃ (dC : Nat → ClassId) (dI : Nat → Nat → Nat), ∀ (k : Nat) (q : vw_C), vwCl[k]? = some q → u_Kn s q.1 q.2.1 q.2.2 (dC k) (dI k) := by
    refine ⟨fun k => if k = 0 then c0 else c1, fun k => if k = 0 then iS0 else iS1, ?_⟩
    intro k q hq
    match k, hq with
    | 0, hq => cases hq; exact hKn0
    | 1, hq => cases hq; exact hKn1
    | k + 2, hq => simp [vwCl] at hq
  obtain ⟨dA, hK⟩ : ∃ dA : ClassId, va_K (dC, dI) vwCl [(dA, .int)] s := by
    obtain ⟨cA, kA, comp, g1, g2, g3⟩ := Cond.arrayClass_spec (hts _ q99)
    refine ⟨cA, hKc, fun k q hq => ?_⟩
    have hz : k < 1 := (List.getElem?_eq_some_iff.mp hq).1
    rw [show k = 0 by omega] at hq
    cases hq
    exact ⟨fun n z => ⟨fun k h => (by cases h), kA, g2, comp, g3⟩, g1⟩
  have hS : va_S A s.heap s.heap [] := va_S.rf
  have hP : va_P (dC, dI) vwCl [] s.heap := fun k q h => by simp at h
  have hD : va_D A [] := ⟨fun i j p q h => by simp at h, fun k q h => by simp at h⟩
  have hl := lv_entry ([.ref b]) (n := 4) (Nat.le_of_ble_eq_true rfl)
  rw [lg_entry_eq]
  generalize (lg_sl ([.ref b]) ++ List.replicate (4 - (lg_sl ([.ref b])).length) Slot.unset).toArray = ls at hl ⊢
  have hl : lv_has ls 4 [(0, .ref b)] := hl
  refine va_new (ci := 0) (fs := [.int (cd_I 0), .null, .null, .null, .int (cd_I 0), .null, .long (cd_L 0), .long (cd_L 0), .long (cd_L 0), .int (cd_I 0), .int (cd_I 0), .long (cd_L 0), .long (cd_L 0), .long (cd_L 0), .long (cd_L 0), .long (cd_L 0), .long (cd_L 0), .int (cd_I 0), .long (cd_L 0), .long (cd_L 0), .long (cd_L 0), .int (cd_I 0), .int (cd_I 0)]) (C := RX0) (T := TX0) (N := 23) hx hb hts in_X0 tyX0 tyX0_ok hown (hts _ q21) (hts _ q22) (hts _ q19) hK hP hD hS hA rfl cd_z23 (Nat.le_of_ble_eq_true rfl) (Nat.le_of_ble_eq_true rfl) dL_law_0 (fun o0 H hP hD hS => ?_)
  have hP : va_P (dC, dI) vwCl ([] ++ [(o0, .inr (0, [.int (cd_I 0), .null, .null, .null, .int (cd_I 0), .null, .long (cd_L 0), .long (cd_L 0), .long (cd_L 0), .int (cd_I 0), .int (cd_I 0), .long (cd_L 0), .long (cd_L 0), .long (cd_L 0), .long (cd_L 0), .long (cd_L 0), .long (cd_L 0), .int (cd_I 0), .long (cd_L 0), .long (cd_L 0), .long (cd_L 0), .int (cd_I 0), .int (cd_I 0)]))]) H := hP
  have hD : va_D A ([] ++ [(o0, .inr (0, [.int (cd_I 0), .null, .null, .null, .int (cd_I 0), .null, .long (cd_L 0), .long (cd_L 0), .long (cd_L 0), .int (cd_I 0), .int (cd_I 0), .long (cd_L 0), .long (cd_L 0), .long (cd_L 0), .long (cd_L 0), .long (cd_L 0), .long (cd_L 0), .int (cd_I 0), .long (cd_L 0), .long (cd_L 0), .long (cd_L 0), .int (cd_I 0), .int (cd_I 0)]))]) := hD
  refine W.widen (k := 1) (n := 23) (Nat.le_of_ble_eq_true rfl) (Nat.le_of_ble_eq_true rfl) ?_
  refine lv_dup hx hb dL_law_3 rfl ?_
  refine cd_callRv (w1 := []) (va_runI (As := []) (rest := [.ref o0]) ⟨hx, hb, hml, hown, hts⟩ (xd_init l dC dI dA o0 H.size) (cwI 0 hts (lw_meth q25) rfl rfl rfl (hts _ q19) (hts _ q23) (hts _ q24) rfl (by decide +kernel) ⟨Nat.le_of_ble_eq_true rfl, Nat.le_of_ble_eq_true rfl⟩) ⟨cd_bl1, cd_pr1 (cd_PR hP) hK (cd_DR hD)⟩ rfl rfl hl.1 rfl (lv_room (Nat.le_of_ble_eq_true rfl)) dL_law_4 ⟨Nat.le_of_ble_eq_true rfl, Nat.le_of_ble_eq_true rfl⟩) hP hD hS hA (fun u H locs _ hP hD hS => ?_)
  obtain ⟨o1, o2, o3, o4⟩ := u
  have hP : va_P (dC, dI) vwCl (cd_D dA o0 o1 o2 o3 o4 4 1 cd_fa0 cd_fb0 cd_fc0 cd_fl0 0 0 0 0 0 0 0 0 0 0 0 0 0 0 0 0 0) H := hP
  have hD : va_D A (cd_D dA o0 o1 o2 o3 o4 4 1 cd_fa0 cd_fb0 cd_fc0 cd_fl0 0 0 0 0 0 0 0 0 0 0 0 0 0 0 0 0 0) := hD
  refine W.widen (k := 5) (n := 73) (Nat.le_of_ble_eq_true rfl) (Nat.le_of_ble_eq_true rfl) ?_
  refine lv_astore_n (lv' := [(1, .ref o0), (0, .ref b)]) hx hb dL_law_7 rfl hl (by decide) rfl (fun ls hl => ?_)
  refine va_new (ci := 1) (fs := [.int (cd_I 0), .int (cd_I 0), .null, .null, .null, .null, .long (cd_L 0), .long (cd_L 0), .long (cd_L 0), .int (cd_I 0), .long (cd_L 0), .long (cd_L 0), .long (cd_L 0), .int (cd_I 0), .int (cd_I 0)]) (C := RX1) (T := TX1) (N := 15) hx hb hts in_X1 tyX1 tyX1_ok hown (hts _ q180) (hts _ q181) (hts _ q20) hK hP hD hS hA rfl cd_z15 (Nat.le_of_ble_eq_true rfl) (Nat.le_of_ble_eq_true rfl) dL_law_8 (fun k0 H hP hD hS => ?_)
  have hP : va_P (dC, dI) vwCl (cd_D dA o0 o1 o2 o3 o4 4 1 cd_fa0 cd_fb0 cd_fc0 cd_fl0 0 0 0 0 0 0 0 0 0 0 0 0 0 0 0 0 0 ++ [(k0, .inr (1, [.int (cd_I 0), .int (cd_I 0), .null, .null, .null, .null, .long (cd_L 0), .long (cd_L 0), .long (cd_L 0), .int (cd_I 0), .long (cd_L 0), .long (cd_L 0), .long (cd_L 0), .int (cd_I 0), .int (cd_I 0)]))]) H := hP
  have hD : va_D A (cd_D dA o0 o1 o2 o3 o4 4 1 cd_fa0 cd_fb0 cd_fc0 cd_fl0 0 0 0 0 0 0 0 0 0 0 0 0 0 0 0 0 0 ++ [(k0, .inr (1, [.int (cd_I 0), .int (cd_I 0), .null, .null, .null, .null, .long (cd_L 0), .long (cd_L 0), .long (cd_L 0), .int (cd_I 0), .long (cd_L 0), .long (cd_L 0), .long (cd_L 0), .int (cd_I 0), .int (cd_I 0)]))]) := hD
  refine W.widen (k := 6) (n := 88) (Nat.le_of_ble_eq_true rfl) (Nat.le_of_ble_eq_true rfl) ?_
  refine lv_dup hx hb dL_law_11 rfl ?_
  refine cd_callRv (w1 := cd_D dA o0 o1 o2 o3 o4 4 1 cd_fa0 cd_fb0 cd_fc0 cd_fl0 0 0 0 0 0 0 0 0 0 0 0 0 0 0 0 0 0) (va_runI (As := []) (rest := [.ref k0]) ⟨hx, hb, hml, hown, hts⟩ (xm_init l dC dI dA k0 H.size) (cwI 0 hts (lw_meth q184) rfl rfl rfl (hts _ q20) (hts _ q182) (hts _ q183) rfl (by decide +kernel) ⟨Nat.le_of_ble_eq_true rfl, Nat.le_of_ble_eq_true rfl⟩) ⟨cd_bl1, cd_pr1 (cd_PR hP) hK (cd_DR hD)⟩ rfl rfl hl.1 rfl (lv_room (Nat.le_of_ble_eq_true rfl)) dL_law_12 ⟨Nat.le_of_ble_eq_true rfl, Nat.le_of_ble_eq_true rfl⟩) hP hD hS hA (fun u H locs _ hP hD hS => ?_)
  obtain ⟨k1, k2, k3, k4⟩ := u
  have hP : va_P (dC, dI) vwCl (cd_D dA o0 o1 o2 o3 o4 4 1 cd_fa0 cd_fb0 cd_fc0 cd_fl0 0 0 0 0 0 0 0 0 0 0 0 0 0 0 0 0 0 ++ cd_M dA k0 k1 k2 k3 k4 0 1 cd_ga0 cd_gb0 cd_gc0 (fun _ => 0) 0 0 0 0 0 0 0 0 0) H := hP
  have hD : va_D A (cd_D dA o0 o1 o2 o3 o4 4 1 cd_fa0 cd_fb0 cd_fc0 cd_fl0 0 0 0 0 0 0 0 0 0 0 0 0 0 0 0 0 0 ++ cd_M dA k0 k1 k2 k3 k4 0 1 cd_ga0 cd_gb0 cd_gc0 (fun _ => 0) 0 0 0 0 0 0 0 0 0) := hD
  refine W.widen (k := 10) (n := 138) (Nat.le_of_ble_eq_true rfl) (Nat.le_of_ble_eq_true rfl) ?_
  refine lv_astore_n (lv' := [(2, .ref k0), (1, .ref o0), (0, .ref b)]) hx hb dL_law_15 rfl hl (by decide) rfl (fun ls hl => ?_)
  refine lv_iconst (v := cd_I 0) hx hb dL_law_16 rfl ?_
  refine lv_istore_n (lv' := [(3, .int (cd_I 0)), (2, .ref k0), (1, .ref o0), (0, .ref b)]) hx hb dL_law_17 rfl hl (by decide) rfl (fun ls hl => ?_)
  exact law_loop l hL hx hb hr hml hown hts hX hbl hlocks hA hA2 hbA hK o0 o1 o2 o3 o4 k0 k1 k2 k3 k4 (L + 1) 0 4 1 cd_fa0 cd_fb0 cd_fc0 cd_fl0 0 0 0 0 0 0 0 0 0 0 0 0 0 0 0 0 0 0 1 cd_ga0 cd_gb0 cd_gc0 (fun _ => 0) 0 0 0 0 0 0 0 0 0 (Nat.zero_le _) (by omega) cd_R0s (Or.inl ⟨rfl, rfl⟩) H locs hP hD hS ls (lv_sub hl [0, 3, 2, 1] rfl)
end
section
-- ===== YOUR PART ENDS =====
set_option maxHeartbeats 4000000 in
theorem lw_walk (l : Launch) (b : Addr) (xs : List Int32) : MetFree l x (headSpec (Jvm.Cond.code x code maxLocals ret :: tables_1) room_1) (lw_P b xs) (fun _ _ _ _ _ => True) lw_Q := by
  refine MetFree.of_bodyS (code := code) (maxLocals := maxLocals) (ret := ret) (by decide) ?_ ?_
  · intro args s m h hn
    obtain ⟨meth, c, h1, h2, h3, h4, h5, h6, -, -⟩ := Cond.code_spec hn (atoms_spec (ws := Jvm.Cond.code x code maxLocals ret :: tables_1) h _ List.mem_cons_self)
    exact ⟨meth, c, h1, h2, h3, h4, h5, h6⟩
  · intro p e s m args below meth c s₁ B hml0 hP _
    obtain ⟨rfl, hx, hbd, hgv⟩ := hP
    obtain ⟨scr, harrAt, hlist, hof, hsmall⟩ := hx
    obtain ⟨hcb, hkn, -, -⟩ := State.arrayAt?_spec harrAt
    have hown : s.vm.findClass R_law = some m.cls := findClass_of_methodNamed B.named
    have hts0 : ∀ c ∈ (Jvm.Cond.code x code maxLocals ret :: tables_1), c.before #[Value.ref b] s = true := atoms_spec (ws := Jvm.Cond.code x code maxLocals ret :: tables_1) B.pre
    have hts : ∀ w ∈ lw_tbl, w.before #[Value.ref b] s = true := k2_hts_sels lw_privs (fun w hw => hts0 w (List.mem_cons_of_mem _ hw)) lw_privs_ok
    have hml : c.maxLocals = 4 := B.maxLocals_eq (hts0 _ List.mem_cons_self)
    have X₀ : Stand p l e room_1 s m #[Value.ref b] below meth c s₁ [] 0 0 := Stand.of_body B
    have hh0 : s₁.heap = s.heap := by rw [B.state]; rfl
    have hsz : scr.slots.size = xs.length := by rw [← Array.length_toList, hlist, List.length_map]
    have hval : ∀ j : Nat, j < xs.length → scr.slots[j]? = some (.int (xs.getD j 0)) := fun j hj => by
      rw [← Array.getElem?_toList, hlist]
      simp [hj]
    have hbl : b < s.heap.size := (Array.getElem?_eq_some_iff.mp hcb).1
    have hX : va_X b xs.length (fun j => xs.getD j 0) s s.heap := ⟨scr, hcb, hof, hkn, hsz, hval⟩
    have K : W p l e room_1 s m #[Value.ref b] below meth c s₁.heap [] 0 0 (lw_Z below #[Value.ref b] s) (entryFrame m ([Value.ref b] : List Value).toArray 4) := by
      rw [hh0]
      exact whole_start l hbd ⟨B.exec, B.bytes, B.returns, hml, hown, hts, hX, hbl, B.notSynchronized, hgv⟩
    obtain ⟨t, a1, o, b1, b2, b3⟩ := K s₁ rfl X₀
    exact ⟨t, o, a1, b1, b2, b3⟩
theorem lw_pre_spec {args : Array Value} {s : State} (h : (Jvm.Cond.and given_1 narrow_1).before args s = true) (hr : rest_1_c.before args s = true) : ∃ (b : Addr) (xs : List Int32), lw_P b xs args s := by
  have hs := flat_of_before _ h
  have hq := flat_of_before _ hr
  have hc : (Cond.count 1).before args s = true := hs _ (by decide +kernel)
  have harr : (Cond.arrayOf (.arg 0) .int).before args s = true := hs _ (by decide +kernel)
  have hle : (Cond.le (.length (.arg 0)) (.int 256)).before args s = true := hs _ (by decide +kernel)
  have hlen : (Cond.isInt (.length (.arg 0))).before args s = true := hq _ (by decide +kernel)
  have hall : (Cond.all (.arg 0) (.isInt (.elem (.arg 0) (.index 0)))).before args s = true := hq _ (by decide +kernel)
  obtain ⟨b, xs, hb, hx⟩ := State.ints_of_pre rfl harr hlen hall
  have hsm : xs.length < 2 ^ 31 := hx.choose_spec.2.2.2
  have hev : (Term.length (.arg 0)).eval args s none [] s = some (.int xs.length.toInt32) := hx.length_eval hb
  have hv := Cond.le_ints hev (show (Term.int 256).eval args s none [] s = some (.int 256) from rfl)
  have hd : xs.length.toInt32 ≤ 256 := by
    simpa [Cond.before, Cond.holds, hv] using hle
  have hN : xs.length ≤ 256 := (Int32.ofNat_le_ofNat hsm (by decide)).mp (show Int32.ofNat xs.length ≤ Int32.ofNat 256 from hd)
  exact ⟨b, xs, Cond.one_arg hc (show args[0]? = some (.ref b) from hb), hx, hN, h⟩
theorem lw_comes (l : Launch) : Comes l x (Jvm.Cond.code x code maxLocals ret :: tables_1) room_1 (fun tb e args s => Calls_1 tb e args s ∧ rest_1 tb e args s ∧ Pre_1 tb e args s)
    (fun _ _ args s o t => lw_Q args s o t) := by
  intro p e ha hc hk s m args below hf hfit hheap happ hpre
  obtain ⟨b, xs, hP⟩ := lw_pre_spec hpre.2.2 hpre.2.1
  obtain ⟨k, o, h1, h2, h3, hQ⟩ := lw_walk l b xs p e ha hc hk s m args below hf ((Spec.applies_iff_loose hf).mp happ).1 hP trivial
  exact ⟨k, o, h1, h2, h3, hQ⟩
theorem lw_frame {s t : State} {o : Outcome} {args : Array Value} (h : Framed s o t [] 600000 7290000) :
    Framed s o t (fieldLocs frame_1_writes args s ++ arrayLocs frame_1_arrays args s ++ staticLocs frame_1_statics s) 600000 7290000 := h
theorem lw_limb (L : Cond) (hL : ∀ (args : Array Value) (s t : State), L.after args s (.returned (some (.int 1))) t = true) :
    ArmFor flags0 classFile x code maxLocals ret World_1 tables_1 room_1 Calls_1 rest_1 Pre_1
      (fun tb e a s o t => postC L tb e a s o t ∧ Framed s o t (fieldLocs frame_1_writes a s ++ arrayLocs frame_1_arrays a s ++ staticLocs frame_1_statics s) 600000 7290000) := by
  intro l _ _ _ p e ha hc hk s m args below hf hfit hheap happ hpre
  obtain ⟨k, o, h1, h2, h3, rfl, hF⟩ := lw_comes l p e ha hc hk s m args below hf hfit hheap happ hpre
  exact ⟨k, _, h1, h2, h3, hL args s _, lw_frame hF⟩
theorem i_vc : Claimed_1_1 ∧ Claimed_1_2 := ⟨lw_limb limb_1_1 (fun args s t => by simp [limb_1_1, Cond.after, Cond.holds, Cond.value]), lw_limb limb_1_2 (fun args s t => Cond.after_iff.mpr (by
  first | (rw [show limb_1_2 = Cond.eq .result (.int 1) from rfl, Cond.eq_ints (x := 1) (y := 1) rfl rfl]; simp; done) | (simp [limb_1_2, Cond.value, Term.eval]; done)))⟩
end
